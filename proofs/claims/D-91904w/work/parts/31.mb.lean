/-! SixWhoTurnModel, second half: printed by gen/mk.py: each method as a function over the memory, and its contract -/
set_option maxRecDepth 100000
def m_sign_l20 (p1 : Int32) : Nat → Mm → Int32 → Option (Int32 × Mm)
  | 0, _, _ => none
  | n20 + 1, V, a2 =>
  if a2 < (0 : Int32) then (some ((V.1 0 10), V)) else (lt_ ((V.1 0 10)) fun v2 => lt_ (mset V 0 10 (v2 + (1 : Int32))) fun V3 => gd_ (ix_ v2 100) (lt_ (mset V3 10 v2.toNatClampNeg ((p1 >>> (((8 : Int32) * a2) &&& 31)).toInt8.toInt32)) fun V5 => lt_ (a2 + (-1 : Int32)) fun v6 => m_sign_l20 p1 n20 V5 v6))
def m_sign (V : Mm) (p1 : Int32) : Option (Int32 × Mm) :=
  lt_ (mset V 0 13 (0 : Int32)) fun V1 => if ((V1.1 0 10) + (4 : Int32)) ≤ (100 : Int32) then (m_sign_l20 p1 200 V1 (3 : Int32)) else (some ((-1 : Int32), V1))
theorem hdX3_sign : w6_hd yX3_sign 1 := by decide +kernel
abbrev rmX3_sign : Room := { frames := 0, cells := 0, slots := 0, locals := 0 }
set_option maxHeartbeats 4000000 in
set_option maxRecDepth 100000 in
theorem ctm_sign (l : Launch) (D : va_G) (g : Nat → ClassId) (ad : Nat → Nat) (V : Mm) (p1 : Int32) (r : Int32) (V' : Mm) (hf : m_sign V p1 = some (r, V'))  : CTi l D g yX3_sign cX3_sign 3 .int rmX3_sign [.ref (ad 0), .int p1] (mw g ad V) (mw g ad V') r := by
  intro sz
  refine w6_starti RX3 (by decide) (Nat.le_of_ble_eq_true rfl) rfl ?_
  intro p e s m below meth c A ls Q hx hb hown hts F I hl hret
  have hl : lv_has ls 3 [(0, .ref (ad 0)), (1, .int p1)] := hl
  have hL20 : ∀ (n20 : Nat) (V : Mm) (a2 : Int32) (H : Heap) (locs : List Loc) (ls : Array Slot), m_sign_l20 p1 n20 V a2 = some (r, V') → w6_I D (mw g ad V ++ []) A s H locs → lv_has ls 3 [(0, .ref (ad 0)), (1, .int p1), (2, .int a2)] → W p l e rmX3_sign s m ([.ref (ad 0), .int p1] : List Value).toArray below meth c H locs 0 0 Q (F0 m 20 ls []) := by
    intro n20
    induction n20 with
    | zero =>
      intro V a2 H locs ls hf
      rw [m_sign_l20] at hf
      cases hf
    | succ n20 ih20 =>
      intro V a2 H locs ls hf I hl
      rw [m_sign_l20] at hf
      refine lv_iload_n hx hb dX3_sign_20 rfl (lv_at hl 2 rfl) ?_
      refine lv_if_lt (tgt := 53) hx hb dX3_sign_21 (by decide) (fun c => ?_) (fun c => ?_)
      · have hf := if_p c hf
        refine lv_aload_n hx hb dX3_sign_53 rfl (lv_at hl 0 rfl) ?_
        refine w6_get F I mo_ob rfl in_X3 10 (by decide) q774 rfl rfl dX3_sign_54 ?_
        exact hret _ _ _ _ _ dX3_sign_57 (w6_mv (so_e hf).2 I) (so_e hf).1 rfl
      · have hf := if_n c hf
        refine lv_aload_n hx hb dX3_sign_24 rfl (lv_at hl 0 rfl) ?_
        refine w6_get F I mo_ob rfl in_X3 9 (by decide) q773 rfl rfl dX3_sign_25 ?_
        refine lv_aload_n hx hb dX3_sign_28 rfl (lv_at hl 0 rfl) ?_
        refine lv_dup hx hb dX3_sign_29 rfl ?_
        refine w6_get F I mo_ob rfl in_X3 10 (by decide) q774 rfl rfl dX3_sign_30 ?_
        obtain ⟨v2, ev2, hf⟩ := lt_e hf
        refine w6_nmi ev2 ?_
        refine lv_dup_x1 hx hb dX3_sign_33 rfl rfl ?_
        refine lv_iconst (v := (1 : Int32)) hx hb dX3_sign_34 (by decide) ?_
        refine lv_iadd hx hb dX3_sign_35 ?_
        obtain ⟨V3, eV3, hf⟩ := lt_e hf
        refine w6_put msh_lc F I mo_ob rfl in_X3 tyX3 tyX3_ok nmX3 10 (by decide) (mo_nf 10 (by decide)) q774 rfl rfl (tyX3_ok 10 (by decide)) rfl rfl dX3_sign_36 eV3 (fun H locs I => ?_)
        refine lv_iload_n hx hb dX3_sign_39 rfl (lv_at hl 1 rfl) ?_
        refine lv_bipush (v := (8 : Int32)) hx hb dX3_sign_40 (by decide) ?_
        refine lv_iload_n hx hb dX3_sign_42 rfl (lv_at hl 2 rfl) ?_
        refine lv_imul hx hb dX3_sign_43 ?_
        refine lv_ishr hx hb dX3_sign_44 ?_
        refine lv_i2b (v := ((p1 >>> (((8 : Int32) * a2) &&& 31)).toInt8.toInt32)) hx hb dX3_sign_45 rfl ?_
        obtain ⟨g4, hf⟩ := gd_e hf
        obtain ⟨V5, eV5, hf⟩ := lt_e hf
        refine w6_bast (j := v2.toNatClampNeg) msh_lc F I m_ab g4 rfl (pk_vb _) dX3_sign_46 eV5 (fun H locs I => ?_)
        obtain ⟨v6, ev6, hf⟩ := lt_e hf
        refine lv_iinc (v := v6) (lv' := [(2, .int v6), (0, .ref (ad 0)), (1, .int p1)]) hx hb dX3_sign_47 hl (k := 2) rfl (by rw [ev6]; rfl) (by decide) rfl (fun ls hl => ?_)
        refine lv_goto (tgt := 20) hx hb dX3_sign_50 (by decide) ?_
        exact ih20 V5 v6 _ _ ls hf I (lv_sub hl [1, 2, 0] rfl)
  unfold m_sign at hf
  refine lv_aload_n hx hb dX3_sign_0 rfl (lv_at hl 0 rfl) ?_
  refine lv_iconst (v := (0 : Int32)) hx hb dX3_sign_1 (by decide) ?_
  obtain ⟨V1, eV1, hf⟩ := lt_e hf
  refine w6_put msh_lc F I mo_ob rfl in_X3 tyX3 tyX3_ok nmX3 13 (by decide) (mo_nf 13 (by decide)) q777 rfl rfl (tyX3_ok 13 (by decide)) rfl rfl dX3_sign_2 eV1 (fun H locs I => ?_)
  refine lv_aload_n hx hb dX3_sign_5 rfl (lv_at hl 0 rfl) ?_
  refine w6_get F I mo_ob rfl in_X3 10 (by decide) q774 rfl rfl dX3_sign_6 ?_
  refine lv_iconst (v := (4 : Int32)) hx hb dX3_sign_9 (by decide) ?_
  refine lv_iadd hx hb dX3_sign_10 ?_
  refine lv_bipush (v := (100 : Int32)) hx hb dX3_sign_11 (by decide) ?_
  refine lv_icmp_le (tgt := 18) hx hb dX3_sign_13 (by decide) (fun c => ?_) (fun c => ?_)
  · have hf := if_p c hf
    refine lv_iconst (v := (3 : Int32)) hx hb dX3_sign_18 (by decide) ?_
    refine lv_istore_n (lv' := [(2, .int (3 : Int32)), (0, .ref (ad 0)), (1, .int p1)]) hx hb dX3_sign_19 rfl hl (by decide) rfl (fun ls hl => ?_)
    exact hL20 200 V1 (3 : Int32) _ _ ls hf I (lv_sub hl [1, 2, 0] rfl)
  · have hf := if_n c hf
    refine lv_iconst (v := (-1 : Int32)) hx hb dX3_sign_16 (by decide) ?_
    exact hret _ _ _ _ _ dX3_sign_17 (w6_mv (so_e hf).2 I) (so_e hf).1 rfl
def m_end (V : Mm) (p1 : Int32) : Option (Int32 × Mm) :=
  lt_ (mset V 0 13 (0 : Int32)) fun V1 => if (pm_in p1 (0 : Int32) (V1.1 0 10)) = (0 : Int32) then (some ((0 : Int32), V1)) else (lt_ (mset V1 0 10 p1) fun V2 => some ((1 : Int32), V2))
theorem hdX3_end : w6_hd yX3_end 1 := by decide +kernel
abbrev rmX3_end : Room := { frames := 1, cells := 0, slots := 0, locals := 22 }
set_option maxHeartbeats 4000000 in
set_option maxRecDepth 100000 in
theorem ctm_end (l : Launch) (D : va_G) (g : Nat → ClassId) (ad : Nat → Nat) (V : Mm) (p1 : Int32) (r : Int32) (V' : Mm) (hf : m_end V p1 = some (r, V'))  : CTi l D g yX3_end cX3_end 2 .boolean rmX3_end [.ref (ad 0), .int p1] (mw g ad V) (mw g ad V') r := by
  intro sz
  refine w6_starti RX3 (by decide) (Nat.le_of_ble_eq_true rfl) rfl ?_
  intro p e s m below meth c A ls Q hx hb hown hts F I hl hret
  have hl : lv_has ls 2 [(0, .ref (ad 0)), (1, .int p1)] := hl
  unfold m_end at hf
  refine lv_aload_n hx hb dX3_end_0 rfl (lv_at hl 0 rfl) ?_
  refine lv_iconst (v := (0 : Int32)) hx hb dX3_end_1 (by decide) ?_
  obtain ⟨V1, eV1, hf⟩ := lt_e hf
  refine w6_put msh_lc F I mo_ob rfl in_X3 tyX3 tyX3_ok nmX3 13 (by decide) (mo_nf 13 (by decide)) q777 rfl rfl (tyX3_ok 13 (by decide)) rfl rfl dX3_end_2 eV1 (fun H locs I => ?_)
  refine lv_iload_n hx hb dX3_end_5 rfl (lv_at hl 1 rfl) ?_
  refine lv_iconst (v := (0 : Int32)) hx hb dX3_end_6 (by decide) ?_
  refine lv_aload_n hx hb dX3_end_7 rfl (lv_at hl 0 rfl) ?_
  refine w6_get F I mo_ob rfl in_X3 10 (by decide) q774 rfl rfl dX3_end_8 ?_
  refine xz_Pi F I (ctpm_in l D g p1 (0 : Int32) (V1.1 0 10) _ rfl) (lw_S q834 q835 q50 q836) hdX3_in (Nat.le_of_ble_eq_true rfl) (Nat.le_of_ble_eq_true rfl) rfl hl.1 [] rfl (Nat.le_of_ble_eq_true rfl) dX3_end_11 ⟨Nat.le_of_ble_eq_true rfl, Nat.le_of_ble_eq_true rfl⟩ (fun H locs I => ?_)
  refine lv_if_ne (tgt := 19) hx hb dX3_end_14 (by decide) (fun c => ?_) (fun c => ?_)
  · have hf := if_n c hf
    refine lv_aload_n hx hb dX3_end_19 rfl (lv_at hl 0 rfl) ?_
    refine lv_iload_n hx hb dX3_end_20 rfl (lv_at hl 1 rfl) ?_
    obtain ⟨V2, eV2, hf⟩ := lt_e hf
    refine w6_put msh_lc F I mo_ob rfl in_X3 tyX3 tyX3_ok nmX3 10 (by decide) (mo_nf 10 (by decide)) q774 rfl rfl (tyX3_ok 10 (by decide)) rfl rfl dX3_end_21 eV2 (fun H locs I => ?_)
    refine lv_iconst (v := (1 : Int32)) hx hb dX3_end_24 (by decide) ?_
    exact hret _ _ _ _ _ dX3_end_25 (w6_mv (so_e hf).2 I) (so_e hf).1 rfl
  · have hf := if_p c hf
    refine lv_iconst (v := (0 : Int32)) hx hb dX3_end_17 (by decide) ?_
    exact hret _ _ _ _ _ dX3_end_18 (w6_mv (so_e hf).2 I) (so_e hf).1 rfl
def m_reads_j114 (p1 : Int32) (p2 : Int32) (V : Mm)  (s0 : Int32) : Option (Int32 × Mm) :=
  if (pm_playerOf s0) = (-1 : Int32) then (some (((-3 : Int32) - p1), V)) else (some ((3 : Int32), V))
def m_reads_j95 (p1 : Int32) (p2 : Int32) (V : Mm)   : Option (Int32 × Mm) :=
  if p2 ≤ (p1 + (2 : Int32)) then (m_reads_j114 p1 p2 V (-1 : Int32)) else (gd_ (ix_ (p1 + (2 : Int32)) 100) (m_reads_j114 p1 p2 V (V.1 10 ((p1 + (2 : Int32)).toNatClampNeg))))
def m_reads_j56 (p1 : Int32) (p2 : Int32) (V : Mm)  (s0 : Int32) : Option (Int32 × Mm) :=
  if s0 = (33 : Int32) then (some ((2 : Int32), V)) else (if s0 = (45 : Int32) then (some ((2 : Int32), V)) else (if s0 = (42 : Int32) then (m_reads_j95 p1 p2 V) else (if (pm_playerOf s0) = (-1 : Int32) then (some (((-2 : Int32) - p1), V)) else (m_reads_j95 p1 p2 V))))
def m_reads_j37 (p1 : Int32) (p2 : Int32) (V : Mm)   : Option (Int32 × Mm) :=
  if p2 ≤ (p1 + (1 : Int32)) then (m_reads_j56 p1 p2 V (-1 : Int32)) else (gd_ (ix_ (p1 + (1 : Int32)) 100) (m_reads_j56 p1 p2 V (V.1 10 ((p1 + (1 : Int32)).toNatClampNeg))))
def m_reads (V : Mm) (p1 : Int32) (p2 : Int32) : Option (Int32 × Mm) :=
  gd_ (ix_ p1 100) (lt_ ((V.1 10 p1.toNatClampNeg)) fun v2 => if v2 = (65 : Int32) then (some ((1 : Int32), V)) else (if v2 = (66 : Int32) then (some ((1 : Int32), V)) else (if v2 = (97 : Int32) then (m_reads_j37 p1 p2 V) else (if v2 = (98 : Int32) then (m_reads_j37 p1 p2 V) else (some (((-1 : Int32) - p1), V))))))
theorem hdX3_reads : w6_hd yX3_reads 2 := by decide +kernel
abbrev rmX3_reads : Room := { frames := 1, cells := 0, slots := 0, locals := 20 }
set_option maxHeartbeats 4000000 in
set_option maxRecDepth 100000 in
theorem ctm_reads (l : Launch) (D : va_G) (g : Nat → ClassId) (ad : Nat → Nat) (V : Mm) (p1 : Int32) (p2 : Int32) (r : Int32) (V' : Mm) (hf : m_reads V p1 p2 = some (r, V'))  : CTi l D g yX3_reads cX3_reads 6 .int rmX3_reads [.ref (ad 0), .int p1, .int p2] (mw g ad V) (mw g ad V') r := by
  intro sz
  refine w6_starti RX3 (by decide) (Nat.le_of_ble_eq_true rfl) rfl ?_
  intro p e s m below meth c A ls Q hx hb hown hts F I hl hret
  have hl : lv_has ls 6 [(0, .ref (ad 0)), (1, .int p1), (2, .int p2)] := hl
  have hJ114 : ∀ (V : Mm) (s0 : Int32) (H : Heap) (locs : List Loc) (ls : Array Slot), m_reads_j114 p1 p2 V s0 = some (r, V') → w6_I D (mw g ad V ++ []) A s H locs → lv_has ls 6 [(1, .int p1)] → W p l e rmX3_reads s m ([.ref (ad 0), .int p1, .int p2] : List Value).toArray below meth c H locs 0 0 Q (F0 m 114 ls [.int s0]) := by
    intro V s0 H locs ls hf I hl
    unfold m_reads_j114 at hf
    refine lv_istore (lv' := [(5, .int s0), (1, .int p1)]) hx hb dX3_reads_114 hl (by decide) rfl (fun ls hl => ?_)
    refine lv_iload hx hb dX3_reads_116 (lv_at hl 0 rfl) ?_
    refine xz_Pi F I (ctpm_playerOf l D g s0 _ rfl) (lw_S q982 q983 q50 q984) hdX3_playerOf (Nat.le_of_ble_eq_true rfl) (Nat.le_of_ble_eq_true rfl) rfl hl.1 [] rfl (Nat.le_of_ble_eq_true rfl) dX3_reads_118 ⟨Nat.le_of_ble_eq_true rfl, Nat.le_of_ble_eq_true rfl⟩ (fun H locs I => ?_)
    refine lv_iconst (v := (-1 : Int32)) hx hb dX3_reads_121 (by decide) ?_
    refine lv_icmp_ne (tgt := 132) hx hb dX3_reads_122 (by decide) (fun c => ?_) (fun c => ?_)
    · have hf := if_n c hf
      refine lv_iconst (v := (3 : Int32)) hx hb dX3_reads_132 (by decide) ?_
      exact hret _ _ _ _ _ dX3_reads_133 (w6_mv (so_e hf).2 I) (so_e hf).1 rfl
    · have hf := if_p c hf
      refine lv_bipush (v := (-3 : Int32)) hx hb dX3_reads_125 (by decide) ?_
      refine lv_iload_n hx hb dX3_reads_127 rfl (lv_at hl 1 rfl) ?_
      refine lv_isub hx hb dX3_reads_128 ?_
      refine lv_goto (tgt := 133) hx hb dX3_reads_129 (by decide) ?_
      exact hret _ _ _ _ _ dX3_reads_133 (w6_mv (so_e hf).2 I) (so_e hf).1 rfl
  have hJ95 : ∀ (V : Mm)  (H : Heap) (locs : List Loc) (ls : Array Slot), m_reads_j95 p1 p2 V = some (r, V') → w6_I D (mw g ad V ++ []) A s H locs → lv_has ls 6 [(0, .ref (ad 0)), (1, .int p1), (2, .int p2)] → W p l e rmX3_reads s m ([.ref (ad 0), .int p1, .int p2] : List Value).toArray below meth c H locs 0 0 Q (F0 m 95 ls []) := by
    intro V H locs ls hf I hl
    unfold m_reads_j95 at hf
    refine lv_iload_n hx hb dX3_reads_95 rfl (lv_at hl 1 rfl) ?_
    refine lv_iconst (v := (2 : Int32)) hx hb dX3_reads_96 (by decide) ?_
    refine lv_iadd hx hb dX3_reads_97 ?_
    refine lv_iload_n hx hb dX3_reads_98 rfl (lv_at hl 2 rfl) ?_
    refine lv_icmp_ge (tgt := 113) hx hb dX3_reads_99 (by decide) (fun c => ?_) (fun c => ?_)
    · have hf := if_p c hf
      refine lv_iconst (v := (-1 : Int32)) hx hb dX3_reads_113 (by decide) ?_
      exact hJ114 V (-1 : Int32) _ _ ls hf I (lv_sub hl [1] rfl)
    · have hf := if_n c hf
      refine lv_aload_n hx hb dX3_reads_102 rfl (lv_at hl 0 rfl) ?_
      refine w6_get F I mo_ob rfl in_X3 9 (by decide) q773 rfl rfl dX3_reads_103 ?_
      refine lv_iload_n hx hb dX3_reads_106 rfl (lv_at hl 1 rfl) ?_
      refine lv_iconst (v := (2 : Int32)) hx hb dX3_reads_107 (by decide) ?_
      refine lv_iadd hx hb dX3_reads_108 ?_
      obtain ⟨g3, hf⟩ := gd_e hf
      refine w6_bald (j := (p1 + (2 : Int32)).toNatClampNeg) F I m_ab g3 rfl dX3_reads_109 ?_
      refine lv_goto (tgt := 114) hx hb dX3_reads_110 (by decide) ?_
      exact hJ114 V (V.1 10 ((p1 + (2 : Int32)).toNatClampNeg)) _ _ ls hf I (lv_sub hl [1] rfl)
  have hJ56 : ∀ (V : Mm) (s0 : Int32) (H : Heap) (locs : List Loc) (ls : Array Slot), m_reads_j56 p1 p2 V s0 = some (r, V') → w6_I D (mw g ad V ++ []) A s H locs → lv_has ls 6 [(0, .ref (ad 0)), (1, .int p1), (2, .int p2)] → W p l e rmX3_reads s m ([.ref (ad 0), .int p1, .int p2] : List Value).toArray below meth c H locs 0 0 Q (F0 m 56 ls [.int s0]) := by
    intro V s0 H locs ls hf I hl
    unfold m_reads_j56 at hf
    refine lv_istore (lv' := [(4, .int s0), (0, .ref (ad 0)), (1, .int p1), (2, .int p2)]) hx hb dX3_reads_56 hl (by decide) rfl (fun ls hl => ?_)
    refine lv_iload hx hb dX3_reads_58 (lv_at hl 0 rfl) ?_
    refine lv_bipush (v := (33 : Int32)) hx hb dX3_reads_60 (by decide) ?_
    refine lv_icmp_eq (tgt := 72) hx hb dX3_reads_62 (by decide) (fun c => ?_) (fun c => ?_)
    · have hf := if_p c hf
      refine lv_iconst (v := (2 : Int32)) hx hb dX3_reads_72 (by decide) ?_
      exact hret _ _ _ _ _ dX3_reads_73 (w6_mv (so_e hf).2 I) (so_e hf).1 rfl
    · have hf := if_n c hf
      refine lv_iload hx hb dX3_reads_65 (lv_at hl 0 rfl) ?_
      refine lv_bipush (v := (45 : Int32)) hx hb dX3_reads_67 (by decide) ?_
      refine lv_icmp_ne (tgt := 74) hx hb dX3_reads_69 (by decide) (fun c => ?_) (fun c => ?_)
      · have hf := if_n c hf
        refine lv_iload hx hb dX3_reads_74 (lv_at hl 0 rfl) ?_
        refine lv_bipush (v := (42 : Int32)) hx hb dX3_reads_76 (by decide) ?_
        refine lv_icmp_eq (tgt := 95) hx hb dX3_reads_78 (by decide) (fun c => ?_) (fun c => ?_)
        · have hf := if_p c hf
          exact hJ95 V _ _ ls hf I (lv_sub hl [1, 2, 3] rfl)
        · have hf := if_n c hf
          refine lv_iload hx hb dX3_reads_81 (lv_at hl 0 rfl) ?_
          refine xz_Pi F I (ctpm_playerOf l D g s0 _ rfl) (lw_S q982 q983 q50 q984) hdX3_playerOf (Nat.le_of_ble_eq_true rfl) (Nat.le_of_ble_eq_true rfl) rfl hl.1 [] rfl (Nat.le_of_ble_eq_true rfl) dX3_reads_83 ⟨Nat.le_of_ble_eq_true rfl, Nat.le_of_ble_eq_true rfl⟩ (fun H locs I => ?_)
          refine lv_iconst (v := (-1 : Int32)) hx hb dX3_reads_86 (by decide) ?_
          refine lv_icmp_ne (tgt := 95) hx hb dX3_reads_87 (by decide) (fun c => ?_) (fun c => ?_)
          · have hf := if_n c hf
            exact hJ95 V _ _ ls hf I (lv_sub hl [1, 2, 3] rfl)
          · have hf := if_p c hf
            refine lv_bipush (v := (-2 : Int32)) hx hb dX3_reads_90 (by decide) ?_
            refine lv_iload_n hx hb dX3_reads_92 rfl (lv_at hl 2 rfl) ?_
            refine lv_isub hx hb dX3_reads_93 ?_
            exact hret _ _ _ _ _ dX3_reads_94 (w6_mv (so_e hf).2 I) (so_e hf).1 rfl
      · have hf := if_p c hf
        refine lv_iconst (v := (2 : Int32)) hx hb dX3_reads_72 (by decide) ?_
        exact hret _ _ _ _ _ dX3_reads_73 (w6_mv (so_e hf).2 I) (so_e hf).1 rfl
  have hJ37 : ∀ (V : Mm)  (H : Heap) (locs : List Loc) (ls : Array Slot), m_reads_j37 p1 p2 V = some (r, V') → w6_I D (mw g ad V ++ []) A s H locs → lv_has ls 6 [(0, .ref (ad 0)), (1, .int p1), (2, .int p2)] → W p l e rmX3_reads s m ([.ref (ad 0), .int p1, .int p2] : List Value).toArray below meth c H locs 0 0 Q (F0 m 37 ls []) := by
    intro V H locs ls hf I hl
    unfold m_reads_j37 at hf
    refine lv_iload_n hx hb dX3_reads_37 rfl (lv_at hl 1 rfl) ?_
    refine lv_iconst (v := (1 : Int32)) hx hb dX3_reads_38 (by decide) ?_
    refine lv_iadd hx hb dX3_reads_39 ?_
    refine lv_iload_n hx hb dX3_reads_40 rfl (lv_at hl 2 rfl) ?_
    refine lv_icmp_ge (tgt := 55) hx hb dX3_reads_41 (by decide) (fun c => ?_) (fun c => ?_)
    · have hf := if_p c hf
      refine lv_iconst (v := (-1 : Int32)) hx hb dX3_reads_55 (by decide) ?_
      exact hJ56 V (-1 : Int32) _ _ ls hf I (lv_sub hl [0, 1, 2] rfl)
    · have hf := if_n c hf
      refine lv_aload_n hx hb dX3_reads_44 rfl (lv_at hl 0 rfl) ?_
      refine w6_get F I mo_ob rfl in_X3 9 (by decide) q773 rfl rfl dX3_reads_45 ?_
      refine lv_iload_n hx hb dX3_reads_48 rfl (lv_at hl 1 rfl) ?_
      refine lv_iconst (v := (1 : Int32)) hx hb dX3_reads_49 (by decide) ?_
      refine lv_iadd hx hb dX3_reads_50 ?_
      obtain ⟨g4, hf⟩ := gd_e hf
      refine w6_bald (j := (p1 + (1 : Int32)).toNatClampNeg) F I m_ab g4 rfl dX3_reads_51 ?_
      refine lv_goto (tgt := 56) hx hb dX3_reads_52 (by decide) ?_
      exact hJ56 V (V.1 10 ((p1 + (1 : Int32)).toNatClampNeg)) _ _ ls hf I (lv_sub hl [0, 1, 2] rfl)
  unfold m_reads at hf
  refine lv_aload_n hx hb dX3_reads_0 rfl (lv_at hl 0 rfl) ?_
  refine w6_get F I mo_ob rfl in_X3 9 (by decide) q773 rfl rfl dX3_reads_1 ?_
  refine lv_iload_n hx hb dX3_reads_4 rfl (lv_at hl 1 rfl) ?_
  obtain ⟨g1, hf⟩ := gd_e hf
  refine w6_bald (j := p1.toNatClampNeg) F I m_ab g1 rfl dX3_reads_5 ?_
  obtain ⟨v2, ev2, hf⟩ := lt_e hf
  refine w6_nmi ev2 ?_
  refine lv_istore_n (lv' := [(3, .int v2), (0, .ref (ad 0)), (1, .int p1), (2, .int p2)]) hx hb dX3_reads_6 rfl hl (by decide) rfl (fun ls hl => ?_)
  refine lv_iload_n hx hb dX3_reads_7 rfl (lv_at hl 0 rfl) ?_
  refine lv_bipush (v := (65 : Int32)) hx hb dX3_reads_8 (by decide) ?_
  refine lv_icmp_eq (tgt := 19) hx hb dX3_reads_10 (by decide) (fun c => ?_) (fun c => ?_)
  · have hf := if_p c hf
    refine lv_iconst (v := (1 : Int32)) hx hb dX3_reads_19 (by decide) ?_
    exact hret _ _ _ _ _ dX3_reads_20 (w6_mv (so_e hf).2 I) (so_e hf).1 rfl
  · have hf := if_n c hf
    refine lv_iload_n hx hb dX3_reads_13 rfl (lv_at hl 0 rfl) ?_
    refine lv_bipush (v := (66 : Int32)) hx hb dX3_reads_14 (by decide) ?_
    refine lv_icmp_ne (tgt := 21) hx hb dX3_reads_16 (by decide) (fun c => ?_) (fun c => ?_)
    · have hf := if_n c hf
      refine lv_iload_n hx hb dX3_reads_21 rfl (lv_at hl 0 rfl) ?_
      refine lv_bipush (v := (97 : Int32)) hx hb dX3_reads_22 (by decide) ?_
      refine lv_icmp_eq (tgt := 37) hx hb dX3_reads_24 (by decide) (fun c => ?_) (fun c => ?_)
      · have hf := if_p c hf
        exact hJ37 V _ _ ls hf I (lv_sub hl [1, 2, 3] rfl)
      · have hf := if_n c hf
        refine lv_iload_n hx hb dX3_reads_27 rfl (lv_at hl 0 rfl) ?_
        refine lv_bipush (v := (98 : Int32)) hx hb dX3_reads_28 (by decide) ?_
        refine lv_icmp_eq (tgt := 37) hx hb dX3_reads_30 (by decide) (fun c => ?_) (fun c => ?_)
        · have hf := if_p c hf
          exact hJ37 V _ _ ls hf I (lv_sub hl [1, 2, 3] rfl)
        · have hf := if_n c hf
          refine lv_iconst (v := (-1 : Int32)) hx hb dX3_reads_33 (by decide) ?_
          refine lv_iload_n hx hb dX3_reads_34 rfl (lv_at hl 2 rfl) ?_
          refine lv_isub hx hb dX3_reads_35 ?_
          exact hret _ _ _ _ _ dX3_reads_36 (w6_mv (so_e hf).2 I) (so_e hf).1 rfl
    · have hf := if_p c hf
      refine lv_iconst (v := (1 : Int32)) hx hb dX3_reads_19 (by decide) ?_
      exact hret _ _ _ _ _ dX3_reads_20 (w6_mv (so_e hf).2 I) (so_e hf).1 rfl
def m_doItem_j28 (p1 : Int32) (V : Mm)  (a2 : Int32) : Option (Int32 × Mm) :=
  bi_ (m_point V (a2 - (65 : Int32))) fun r8 V6 => some ((1 : Int32), V6)
def m_doItem (V : Mm) (p1 : Int32) : Option (Int32 × Mm) :=
  gd_ (ix_ p1 100) (lt_ ((V.1 10 p1.toNatClampNeg)) fun v2 => bi_ (m_isOn V) fun r5 V3 => if r5 = (0 : Int32) then (some ((0 : Int32), V3)) else (if v2 = (65 : Int32) then (m_doItem_j28 p1 V3 v2) else (if v2 = (66 : Int32) then (m_doItem_j28 p1 V3 v2) else (lt_ ((v2 - (97 : Int32))) fun v9 => gd_ (ix_ (p1 + (1 : Int32)) 100) (lt_ ((V3.1 10 ((p1 + (1 : Int32)).toNatClampNeg))) fun v11 => if v11 = (33 : Int32) then (bi_ (m_doPause V3 v9) fun r28 V26 => if r28 = (-1 : Int32) then (some ((0 : Int32), V26)) else (some ((1 : Int32), V26))) else (if v11 = (45 : Int32) then (bi_ (m_doFree V3 v9 (-1 : Int32)) fun r25 V23 => if r25 = (-1 : Int32) then (some ((0 : Int32), V23)) else (some ((1 : Int32), V23))) else (gd_ (ix_ (p1 + (2 : Int32)) 100) (lt_ ((pm_playerOf (V3.1 10 ((p1 + (2 : Int32)).toNatClampNeg)))) fun v13 => if v11 = (42 : Int32) then (bi_ (m_doFree V3 v9 v13) fun r22 V20 => if r22 = (-1 : Int32) then (some ((0 : Int32), V20)) else (some ((1 : Int32), V20))) else (bi_ (m_mayNot V3 v9 (pm_playerOf v11) v13) fun r16 V14 => if r16 = (0 : Int32) then (bi_ (m_doChange V14 v9 (pm_playerOf v11) v13) fun r19 V17 => some ((1 : Int32), V17)) else (some ((0 : Int32), V14)))))))))))
theorem hdX3_doItem : w6_hd yX3_doItem 1 := by decide +kernel
abbrev rmX3_doItem : Room := { frames := 4, cells := 0, slots := 0, locals := 85 }
set_option maxHeartbeats 4000000 in
set_option maxRecDepth 100000 in
theorem ctm_doItem (l : Launch) (D : va_G) (g : Nat → ClassId) (ad : Nat → Nat) (V : Mm) (p1 : Int32) (r : Int32) (V' : Mm) (hf : m_doItem V p1 = some (r, V'))  : CTi l D g yX3_doItem cX3_doItem 6 .boolean rmX3_doItem [.ref (ad 0), .int p1] (mw g ad V) (mw g ad V') r := by
  intro sz
  refine w6_starti RX3 (by decide) (Nat.le_of_ble_eq_true rfl) rfl ?_
  intro p e s m below meth c A ls Q hx hb hown hts F I hl hret
  have hl : lv_has ls 6 [(0, .ref (ad 0)), (1, .int p1)] := hl
  have hJ28 : ∀ (V : Mm) (a2 : Int32) (H : Heap) (locs : List Loc) (ls : Array Slot), m_doItem_j28 p1 V a2 = some (r, V') → w6_I D (mw g ad V ++ []) A s H locs → lv_has ls 6 [(0, .ref (ad 0)), (2, .int a2)] → W p l e rmX3_doItem s m ([.ref (ad 0), .int p1] : List Value).toArray below meth c H locs 0 0 Q (F0 m 28 ls []) := by
    intro V a2 H locs ls hf I hl
    unfold m_doItem_j28 at hf
    refine lv_aload_n hx hb dX3_doItem_28 rfl (lv_at hl 0 rfl) ?_
    refine lv_iload_n hx hb dX3_doItem_29 rfl (lv_at hl 1 rfl) ?_
    refine lv_bipush (v := (65 : Int32)) hx hb dX3_doItem_30 (by decide) ?_
    refine lv_isub hx hb dX3_doItem_32 ?_
    obtain ⟨r8, V6, h7, hf⟩ := bi_e hf
    refine xz_Vi F I (ctm_point l D g ad V (a2 - (65 : Int32)) r8 V6 h7 ) (lw_V q877 q879 qs26 q50 q880) hdX3_point rfl (Nat.le_of_ble_eq_true rfl) (Nat.le_of_ble_eq_true rfl) (w6_recv F I mo_ob rfl) rfl hl.1 [] rfl (Nat.le_of_ble_eq_true rfl) dX3_doItem_33 ⟨Nat.le_of_ble_eq_true rfl, Nat.le_of_ble_eq_true rfl⟩ (fun H locs I => ?_)
    refine lv_pop hx hb dX3_doItem_36 rfl ?_
    refine lv_iconst (v := (1 : Int32)) hx hb dX3_doItem_37 (by decide) ?_
    exact hret _ _ _ _ _ dX3_doItem_38 (w6_mv (so_e hf).2 I) (so_e hf).1 rfl
  unfold m_doItem at hf
  refine lv_aload_n hx hb dX3_doItem_0 rfl (lv_at hl 0 rfl) ?_
  refine w6_get F I mo_ob rfl in_X3 9 (by decide) q773 rfl rfl dX3_doItem_1 ?_
  refine lv_iload_n hx hb dX3_doItem_4 rfl (lv_at hl 1 rfl) ?_
  obtain ⟨g1, hf⟩ := gd_e hf
  refine w6_bald (j := p1.toNatClampNeg) F I m_ab g1 rfl dX3_doItem_5 ?_
  obtain ⟨v2, ev2, hf⟩ := lt_e hf
  refine w6_nmi ev2 ?_
  refine lv_istore_n (lv' := [(2, .int v2), (0, .ref (ad 0)), (1, .int p1)]) hx hb dX3_doItem_6 rfl hl (by decide) rfl (fun ls hl => ?_)
  refine lv_aload_n hx hb dX3_doItem_7 rfl (lv_at hl 1 rfl) ?_
  obtain ⟨r5, V3, h4, hf⟩ := bi_e hf
  refine xz_Vi F I (ctm_isOn l D g ad V r5 V3 h4 ) (lw_V q845 q847 qs23 q50 q848) hdX3_isOn rfl (Nat.le_of_ble_eq_true rfl) (Nat.le_of_ble_eq_true rfl) (w6_recv F I mo_ob rfl) rfl hl.1 [] rfl (Nat.le_of_ble_eq_true rfl) dX3_doItem_8 ⟨Nat.le_of_ble_eq_true rfl, Nat.le_of_ble_eq_true rfl⟩ (fun H locs I => ?_)
  refine lv_if_ne (tgt := 16) hx hb dX3_doItem_11 (by decide) (fun c => ?_) (fun c => ?_)
  · have hf := if_n c hf
    refine lv_iload_n hx hb dX3_doItem_16 rfl (lv_at hl 0 rfl) ?_
    refine lv_bipush (v := (65 : Int32)) hx hb dX3_doItem_17 (by decide) ?_
    refine lv_icmp_eq (tgt := 28) hx hb dX3_doItem_19 (by decide) (fun c => ?_) (fun c => ?_)
    · have hf := if_p c hf
      exact hJ28 V3 v2 _ _ ls hf I (lv_sub hl [1, 0] rfl)
    · have hf := if_n c hf
      refine lv_iload_n hx hb dX3_doItem_22 rfl (lv_at hl 0 rfl) ?_
      refine lv_bipush (v := (66 : Int32)) hx hb dX3_doItem_23 (by decide) ?_
      refine lv_icmp_ne (tgt := 39) hx hb dX3_doItem_25 (by decide) (fun c => ?_) (fun c => ?_)
      · have hf := if_n c hf
        refine lv_iload_n hx hb dX3_doItem_39 rfl (lv_at hl 0 rfl) ?_
        refine lv_bipush (v := (97 : Int32)) hx hb dX3_doItem_40 (by decide) ?_
        refine lv_isub hx hb dX3_doItem_42 ?_
        obtain ⟨v9, ev9, hf⟩ := lt_e hf
        refine w6_nmi ev9 ?_
        refine lv_istore_n (lv' := [(3, .int v9), (2, .int v2), (0, .ref (ad 0)), (1, .int p1)]) hx hb dX3_doItem_43 rfl hl (by decide) rfl (fun ls hl => ?_)
        refine lv_aload_n hx hb dX3_doItem_44 rfl (lv_at hl 2 rfl) ?_
        refine w6_get F I mo_ob rfl in_X3 9 (by decide) q773 rfl rfl dX3_doItem_45 ?_
        refine lv_iload_n hx hb dX3_doItem_48 rfl (lv_at hl 3 rfl) ?_
        refine lv_iconst (v := (1 : Int32)) hx hb dX3_doItem_49 (by decide) ?_
        refine lv_iadd hx hb dX3_doItem_50 ?_
        obtain ⟨g10, hf⟩ := gd_e hf
        refine w6_bald (j := (p1 + (1 : Int32)).toNatClampNeg) F I m_ab g10 rfl dX3_doItem_51 ?_
        obtain ⟨v11, ev11, hf⟩ := lt_e hf
        refine w6_nmi ev11 ?_
        refine lv_istore (lv' := [(4, .int v11), (3, .int v9), (2, .int v2), (0, .ref (ad 0)), (1, .int p1)]) hx hb dX3_doItem_52 hl (by decide) rfl (fun ls hl => ?_)
        refine lv_iload hx hb dX3_doItem_54 (lv_at hl 0 rfl) ?_
        refine lv_bipush (v := (33 : Int32)) hx hb dX3_doItem_56 (by decide) ?_
        refine lv_icmp_ne (tgt := 76) hx hb dX3_doItem_58 (by decide) (fun c => ?_) (fun c => ?_)
        · have hf := if_n c hf
          refine lv_iload hx hb dX3_doItem_76 (lv_at hl 0 rfl) ?_
          refine lv_bipush (v := (45 : Int32)) hx hb dX3_doItem_78 (by decide) ?_
          refine lv_icmp_ne (tgt := 99) hx hb dX3_doItem_80 (by decide) (fun c => ?_) (fun c => ?_)
          · have hf := if_n c hf
            refine lv_aload_n hx hb dX3_doItem_99 rfl (lv_at hl 3 rfl) ?_
            refine w6_get F I mo_ob rfl in_X3 9 (by decide) q773 rfl rfl dX3_doItem_100 ?_
            refine lv_iload_n hx hb dX3_doItem_103 rfl (lv_at hl 4 rfl) ?_
            refine lv_iconst (v := (2 : Int32)) hx hb dX3_doItem_104 (by decide) ?_
            refine lv_iadd hx hb dX3_doItem_105 ?_
            obtain ⟨g12, hf⟩ := gd_e hf
            refine w6_bald (j := (p1 + (2 : Int32)).toNatClampNeg) F I m_ab g12 rfl dX3_doItem_106 ?_
            refine xz_Pi F I (ctpm_playerOf l D g (V3.1 10 ((p1 + (2 : Int32)).toNatClampNeg)) _ rfl) (lw_S q982 q983 q50 q984) hdX3_playerOf (Nat.le_of_ble_eq_true rfl) (Nat.le_of_ble_eq_true rfl) rfl hl.1 [] rfl (Nat.le_of_ble_eq_true rfl) dX3_doItem_107 ⟨Nat.le_of_ble_eq_true rfl, Nat.le_of_ble_eq_true rfl⟩ (fun H locs I => ?_)
            obtain ⟨v13, ev13, hf⟩ := lt_e hf
            refine w6_nmi ev13 ?_
            refine lv_istore (lv' := [(5, .int v13), (4, .int v11), (3, .int v9), (2, .int v2), (0, .ref (ad 0)), (1, .int p1)]) hx hb dX3_doItem_110 hl (by decide) rfl (fun ls hl => ?_)
            refine lv_iload hx hb dX3_doItem_112 (lv_at hl 1 rfl) ?_
            refine lv_bipush (v := (42 : Int32)) hx hb dX3_doItem_114 (by decide) ?_
            refine lv_icmp_ne (tgt := 136) hx hb dX3_doItem_116 (by decide) (fun c => ?_) (fun c => ?_)
            · have hf := if_n c hf
              refine lv_aload_n hx hb dX3_doItem_136 rfl (lv_at hl 4 rfl) ?_
              refine lv_iload_n hx hb dX3_doItem_137 rfl (lv_at hl 2 rfl) ?_
              refine lv_iload hx hb dX3_doItem_138 (lv_at hl 1 rfl) ?_
              refine xz_Pi F I (ctpm_playerOf l D g v11 _ rfl) (lw_S q982 q983 q50 q984) hdX3_playerOf (Nat.le_of_ble_eq_true rfl) (Nat.le_of_ble_eq_true rfl) rfl hl.1 [.int v9, .ref (ad 0)] rfl (Nat.le_of_ble_eq_true rfl) dX3_doItem_140 ⟨Nat.le_of_ble_eq_true rfl, Nat.le_of_ble_eq_true rfl⟩ (fun H locs I => ?_)
              refine lv_iload hx hb dX3_doItem_143 (lv_at hl 0 rfl) ?_
              obtain ⟨r16, V14, h15, hf⟩ := bi_e hf
              refine xz_Vi F I (ctm_mayNot l D g ad V3 v9 (pm_playerOf v11) v13 r16 V14 h15 ) (lw_V q901 q903 qs31 q50 q904) hdX3_mayNot rfl (Nat.le_of_ble_eq_true rfl) (Nat.le_of_ble_eq_true rfl) (w6_recv F I mo_ob rfl) rfl hl.1 [] rfl (Nat.le_of_ble_eq_true rfl) dX3_doItem_145 ⟨Nat.le_of_ble_eq_true rfl, Nat.le_of_ble_eq_true rfl⟩ (fun H locs I => ?_)
              refine lv_if_eq (tgt := 153) hx hb dX3_doItem_148 (by decide) (fun c => ?_) (fun c => ?_)
              · have hf := if_p c hf
                refine lv_aload_n hx hb dX3_doItem_153 rfl (lv_at hl 4 rfl) ?_
                refine lv_iload_n hx hb dX3_doItem_154 rfl (lv_at hl 2 rfl) ?_
                refine lv_iload hx hb dX3_doItem_155 (lv_at hl 1 rfl) ?_
                refine xz_Pi F I (ctpm_playerOf l D g v11 _ rfl) (lw_S q982 q983 q50 q984) hdX3_playerOf (Nat.le_of_ble_eq_true rfl) (Nat.le_of_ble_eq_true rfl) rfl hl.1 [.int v9, .ref (ad 0)] rfl (Nat.le_of_ble_eq_true rfl) dX3_doItem_157 ⟨Nat.le_of_ble_eq_true rfl, Nat.le_of_ble_eq_true rfl⟩ (fun H locs I => ?_)
                refine lv_iload hx hb dX3_doItem_160 (lv_at hl 0 rfl) ?_
                obtain ⟨r19, V17, h18, hf⟩ := bi_e hf
                refine xz_Vi F I (ctm_doChange l D g ad V14 v9 (pm_playerOf v11) v13 r19 V17 h18 ) (lw_V q913 q915 qs33 q50 q916) hdX3_doChange rfl (Nat.le_of_ble_eq_true rfl) (Nat.le_of_ble_eq_true rfl) (w6_recv F I mo_ob rfl) rfl hl.1 [] rfl (Nat.le_of_ble_eq_true rfl) dX3_doItem_162 ⟨Nat.le_of_ble_eq_true rfl, Nat.le_of_ble_eq_true rfl⟩ (fun H locs I => ?_)
                refine lv_pop hx hb dX3_doItem_165 rfl ?_
                refine lv_iconst (v := (1 : Int32)) hx hb dX3_doItem_166 (by decide) ?_
                exact hret _ _ _ _ _ dX3_doItem_167 (w6_mv (so_e hf).2 I) (so_e hf).1 rfl
              · have hf := if_n c hf
                refine lv_iconst (v := (0 : Int32)) hx hb dX3_doItem_151 (by decide) ?_
                exact hret _ _ _ _ _ dX3_doItem_152 (w6_mv (so_e hf).2 I) (so_e hf).1 rfl
            · have hf := if_p c hf
              refine lv_aload_n hx hb dX3_doItem_119 rfl (lv_at hl 4 rfl) ?_
              refine lv_iload_n hx hb dX3_doItem_120 rfl (lv_at hl 2 rfl) ?_
              refine lv_iload hx hb dX3_doItem_121 (lv_at hl 0 rfl) ?_
              obtain ⟨r22, V20, h21, hf⟩ := bi_e hf
              refine xz_Vi F I (ctm_doFree l D g ad V3 v9 v13 r22 V20 h21 ) (lw_V q921 q923 qs34 q50 q924) hdX3_doFree rfl (Nat.le_of_ble_eq_true rfl) (Nat.le_of_ble_eq_true rfl) (w6_recv F I mo_ob rfl) rfl hl.1 [] rfl (Nat.le_of_ble_eq_true rfl) dX3_doItem_123 ⟨Nat.le_of_ble_eq_true rfl, Nat.le_of_ble_eq_true rfl⟩ (fun H locs I => ?_)
              refine lv_iconst (v := (-1 : Int32)) hx hb dX3_doItem_126 (by decide) ?_
              refine lv_icmp_eq (tgt := 134) hx hb dX3_doItem_127 (by decide) (fun c => ?_) (fun c => ?_)
              · have hf := if_p c hf
                refine lv_iconst (v := (0 : Int32)) hx hb dX3_doItem_134 (by decide) ?_
                exact hret _ _ _ _ _ dX3_doItem_135 (w6_mv (so_e hf).2 I) (so_e hf).1 rfl
              · have hf := if_n c hf
                refine lv_iconst (v := (1 : Int32)) hx hb dX3_doItem_130 (by decide) ?_
                refine lv_goto (tgt := 135) hx hb dX3_doItem_131 (by decide) ?_
                exact hret _ _ _ _ _ dX3_doItem_135 (w6_mv (so_e hf).2 I) (so_e hf).1 rfl
          · have hf := if_p c hf
            refine lv_aload_n hx hb dX3_doItem_83 rfl (lv_at hl 3 rfl) ?_
            refine lv_iload_n hx hb dX3_doItem_84 rfl (lv_at hl 1 rfl) ?_
            refine lv_iconst (v := (-1 : Int32)) hx hb dX3_doItem_85 (by decide) ?_
            obtain ⟨r25, V23, h24, hf⟩ := bi_e hf
            refine xz_Vi F I (ctm_doFree l D g ad V3 v9 (-1 : Int32) r25 V23 h24 ) (lw_V q921 q923 qs34 q50 q924) hdX3_doFree rfl (Nat.le_of_ble_eq_true rfl) (Nat.le_of_ble_eq_true rfl) (w6_recv F I mo_ob rfl) rfl hl.1 [] rfl (Nat.le_of_ble_eq_true rfl) dX3_doItem_86 ⟨Nat.le_of_ble_eq_true rfl, Nat.le_of_ble_eq_true rfl⟩ (fun H locs I => ?_)
            refine lv_iconst (v := (-1 : Int32)) hx hb dX3_doItem_89 (by decide) ?_
            refine lv_icmp_eq (tgt := 97) hx hb dX3_doItem_90 (by decide) (fun c => ?_) (fun c => ?_)
            · have hf := if_p c hf
              refine lv_iconst (v := (0 : Int32)) hx hb dX3_doItem_97 (by decide) ?_
              exact hret _ _ _ _ _ dX3_doItem_98 (w6_mv (so_e hf).2 I) (so_e hf).1 rfl
            · have hf := if_n c hf
              refine lv_iconst (v := (1 : Int32)) hx hb dX3_doItem_93 (by decide) ?_
              refine lv_goto (tgt := 98) hx hb dX3_doItem_94 (by decide) ?_
              exact hret _ _ _ _ _ dX3_doItem_98 (w6_mv (so_e hf).2 I) (so_e hf).1 rfl
        · have hf := if_p c hf
          refine lv_aload_n hx hb dX3_doItem_61 rfl (lv_at hl 3 rfl) ?_
          refine lv_iload_n hx hb dX3_doItem_62 rfl (lv_at hl 1 rfl) ?_
          obtain ⟨r28, V26, h27, hf⟩ := bi_e hf
          refine xz_Vi F I (ctm_doPause l D g ad V3 v9 r28 V26 h27 ) (lw_V q929 q931 qs35 q50 q932) hdX3_doPause rfl (Nat.le_of_ble_eq_true rfl) (Nat.le_of_ble_eq_true rfl) (w6_recv F I mo_ob rfl) rfl hl.1 [] rfl (Nat.le_of_ble_eq_true rfl) dX3_doItem_63 ⟨Nat.le_of_ble_eq_true rfl, Nat.le_of_ble_eq_true rfl⟩ (fun H locs I => ?_)
          refine lv_iconst (v := (-1 : Int32)) hx hb dX3_doItem_66 (by decide) ?_
          refine lv_icmp_eq (tgt := 74) hx hb dX3_doItem_67 (by decide) (fun c => ?_) (fun c => ?_)
          · have hf := if_p c hf
            refine lv_iconst (v := (0 : Int32)) hx hb dX3_doItem_74 (by decide) ?_
            exact hret _ _ _ _ _ dX3_doItem_75 (w6_mv (so_e hf).2 I) (so_e hf).1 rfl
          · have hf := if_n c hf
            refine lv_iconst (v := (1 : Int32)) hx hb dX3_doItem_70 (by decide) ?_
            refine lv_goto (tgt := 75) hx hb dX3_doItem_71 (by decide) ?_
            exact hret _ _ _ _ _ dX3_doItem_75 (w6_mv (so_e hf).2 I) (so_e hf).1 rfl
      · have hf := if_p c hf
        exact hJ28 V3 v2 _ _ ls hf I (lv_sub hl [1, 0] rfl)
  · have hf := if_p c hf
    refine lv_iconst (v := (0 : Int32)) hx hb dX3_doItem_14 (by decide) ?_
    exact hret _ _ _ _ _ dX3_doItem_15 (w6_mv (so_e hf).2 I) (so_e hf).1 rfl
def m_putAside_l2 : Nat → Mm → Int32 → Option Mm
  | 0, _, _ => none
  | n2 + 1, V, a1 =>
  if (106 : Int32) ≤ a1 then (some V) else (gd_ (ix_ a1 106) (gd_ (ix_ a1 106) (lt_ (mset V 7 a1.toNatClampNeg (V.1 6 a1.toNatClampNeg)) fun V3 => lt_ (a1 + (1 : Int32)) fun v4 => m_putAside_l2 n2 V3 v4)))
def m_putAside (V : Mm) : Option Mm :=
  m_putAside_l2 200 V (0 : Int32)
theorem hdX3_putAside : w6_hd yX3_putAside 0 := by decide +kernel
abbrev rmX3_putAside : Room := { frames := 0, cells := 0, slots := 0, locals := 0 }
set_option maxHeartbeats 4000000 in
set_option maxRecDepth 100000 in
theorem ctm_putAside (l : Launch) (D : va_G) (g : Nat → ClassId) (ad : Nat → Nat) (V : Mm) (V' : Mm) (hf : m_putAside V = some V')  : CTv l D g yX3_putAside cX3_putAside 2 rmX3_putAside [.ref (ad 0)] (mw g ad V) (mw g ad V') := by
  intro sz
  refine w6_startv RX3 (by decide) (Nat.le_of_ble_eq_true rfl) rfl ?_
  intro p e s m below meth c A ls Q hx hb hown hts F I hl hret
  have hl : lv_has ls 2 [(0, .ref (ad 0))] := hl
  have hL2 : ∀ (n2 : Nat) (V : Mm) (a1 : Int32) (H : Heap) (locs : List Loc) (ls : Array Slot), m_putAside_l2 n2 V a1 = some V' → w6_I D (mw g ad V ++ []) A s H locs → lv_has ls 2 [(0, .ref (ad 0)), (1, .int a1)] → W p l e rmX3_putAside s m ([.ref (ad 0)] : List Value).toArray below meth c H locs 0 0 Q (F0 m 2 ls []) := by
    intro n2
    induction n2 with
    | zero =>
      intro V a1 H locs ls hf
      rw [m_putAside_l2] at hf
      cases hf
    | succ n2 ih2 =>
      intro V a1 H locs ls hf I hl
      rw [m_putAside_l2] at hf
      refine lv_iload_n hx hb dX3_putAside_2 rfl (lv_at hl 1 rfl) ?_
      refine lv_bipush (v := (106 : Int32)) hx hb dX3_putAside_3 (by decide) ?_
      refine lv_icmp_ge (tgt := 26) hx hb dX3_putAside_5 (by decide) (fun c => ?_) (fun c => ?_)
      · have hf := if_p c hf
        exact hret _ _ _ _ dX3_putAside_26 (w6_mv (Option.some.inj hf) I)
      · have hf := if_n c hf
        refine lv_aload_n hx hb dX3_putAside_8 rfl (lv_at hl 0 rfl) ?_
        refine w6_get F I mo_ob rfl in_X3 6 (by decide) q770 rfl rfl dX3_putAside_9 ?_
        refine lv_iload_n hx hb dX3_putAside_12 rfl (lv_at hl 1 rfl) ?_
        refine lv_aload_n hx hb dX3_putAside_13 rfl (lv_at hl 0 rfl) ?_
        refine w6_get F I mo_ob rfl in_X3 5 (by decide) q769 rfl rfl dX3_putAside_14 ?_
        refine lv_iload_n hx hb dX3_putAside_17 rfl (lv_at hl 1 rfl) ?_
        obtain ⟨g1, hf⟩ := gd_e hf
        refine w6_iald (j := a1.toNatClampNeg) F I (m_ar 6 106 (by decide) rfl) g1 rfl dX3_putAside_18 ?_
        obtain ⟨g2, hf⟩ := gd_e hf
        obtain ⟨V3, eV3, hf⟩ := lt_e hf
        refine w6_iast (j := a1.toNatClampNeg) msh_lc F I (m_ar 7 106 (by decide) rfl) g2 rfl dX3_putAside_19 eV3 (fun H locs I => ?_)
        obtain ⟨v4, ev4, hf⟩ := lt_e hf
        refine lv_iinc (v := v4) (lv' := [(1, .int v4), (0, .ref (ad 0))]) hx hb dX3_putAside_20 hl (k := 1) rfl (by rw [ev4]; rfl) (by decide) rfl (fun ls hl => ?_)
        refine lv_goto (tgt := 2) hx hb dX3_putAside_23 (by decide) ?_
        exact ih2 V3 v4 _ _ ls hf I (lv_sub hl [1, 0] rfl)
  unfold m_putAside at hf
  refine lv_iconst (v := (0 : Int32)) hx hb dX3_putAside_0 (by decide) ?_
  refine lv_istore_n (lv' := [(1, .int (0 : Int32)), (0, .ref (ad 0))]) hx hb dX3_putAside_1 rfl hl (by decide) rfl (fun ls hl => ?_)
  exact hL2 200 V (0 : Int32) _ _ ls hf I (lv_sub hl [1, 0] rfl)
def m_putBack_l2 : Nat → Mm → Int32 → Option Mm
  | 0, _, _ => none
  | n2 + 1, V, a1 =>
  if (106 : Int32) ≤ a1 then (some V) else (gd_ (ix_ a1 106) (gd_ (ix_ a1 106) (lt_ (mset V 6 a1.toNatClampNeg (V.1 7 a1.toNatClampNeg)) fun V3 => lt_ (a1 + (1 : Int32)) fun v4 => m_putBack_l2 n2 V3 v4)))
def m_putBack (V : Mm) : Option Mm :=
  m_putBack_l2 200 V (0 : Int32)
theorem hdX3_putBack : w6_hd yX3_putBack 0 := by decide +kernel
abbrev rmX3_putBack : Room := { frames := 0, cells := 0, slots := 0, locals := 0 }
set_option maxHeartbeats 4000000 in
set_option maxRecDepth 100000 in
theorem ctm_putBack (l : Launch) (D : va_G) (g : Nat → ClassId) (ad : Nat → Nat) (V : Mm) (V' : Mm) (hf : m_putBack V = some V')  : CTv l D g yX3_putBack cX3_putBack 2 rmX3_putBack [.ref (ad 0)] (mw g ad V) (mw g ad V') := by
  intro sz
  refine w6_startv RX3 (by decide) (Nat.le_of_ble_eq_true rfl) rfl ?_
  intro p e s m below meth c A ls Q hx hb hown hts F I hl hret
  have hl : lv_has ls 2 [(0, .ref (ad 0))] := hl
  have hL2 : ∀ (n2 : Nat) (V : Mm) (a1 : Int32) (H : Heap) (locs : List Loc) (ls : Array Slot), m_putBack_l2 n2 V a1 = some V' → w6_I D (mw g ad V ++ []) A s H locs → lv_has ls 2 [(0, .ref (ad 0)), (1, .int a1)] → W p l e rmX3_putBack s m ([.ref (ad 0)] : List Value).toArray below meth c H locs 0 0 Q (F0 m 2 ls []) := by
    intro n2
    induction n2 with
    | zero =>
      intro V a1 H locs ls hf
      rw [m_putBack_l2] at hf
      cases hf
    | succ n2 ih2 =>
      intro V a1 H locs ls hf I hl
      rw [m_putBack_l2] at hf
      refine lv_iload_n hx hb dX3_putBack_2 rfl (lv_at hl 1 rfl) ?_
      refine lv_bipush (v := (106 : Int32)) hx hb dX3_putBack_3 (by decide) ?_
      refine lv_icmp_ge (tgt := 26) hx hb dX3_putBack_5 (by decide) (fun c => ?_) (fun c => ?_)
      · have hf := if_p c hf
        exact hret _ _ _ _ dX3_putBack_26 (w6_mv (Option.some.inj hf) I)
      · have hf := if_n c hf
        refine lv_aload_n hx hb dX3_putBack_8 rfl (lv_at hl 0 rfl) ?_
        refine w6_get F I mo_ob rfl in_X3 5 (by decide) q769 rfl rfl dX3_putBack_9 ?_
        refine lv_iload_n hx hb dX3_putBack_12 rfl (lv_at hl 1 rfl) ?_
        refine lv_aload_n hx hb dX3_putBack_13 rfl (lv_at hl 0 rfl) ?_
        refine w6_get F I mo_ob rfl in_X3 6 (by decide) q770 rfl rfl dX3_putBack_14 ?_
        refine lv_iload_n hx hb dX3_putBack_17 rfl (lv_at hl 1 rfl) ?_
        obtain ⟨g1, hf⟩ := gd_e hf
        refine w6_iald (j := a1.toNatClampNeg) F I (m_ar 7 106 (by decide) rfl) g1 rfl dX3_putBack_18 ?_
        obtain ⟨g2, hf⟩ := gd_e hf
        obtain ⟨V3, eV3, hf⟩ := lt_e hf
        refine w6_iast (j := a1.toNatClampNeg) msh_lc F I (m_ar 6 106 (by decide) rfl) g2 rfl dX3_putBack_19 eV3 (fun H locs I => ?_)
        obtain ⟨v4, ev4, hf⟩ := lt_e hf
        refine lv_iinc (v := v4) (lv' := [(1, .int v4), (0, .ref (ad 0))]) hx hb dX3_putBack_20 hl (k := 1) rfl (by rw [ev4]; rfl) (by decide) rfl (fun ls hl => ?_)
        refine lv_goto (tgt := 2) hx hb dX3_putBack_23 (by decide) ?_
        exact ih2 V3 v4 _ _ ls hf I (lv_sub hl [1, 0] rfl)
  unfold m_putBack at hf
  refine lv_iconst (v := (0 : Int32)) hx hb dX3_putBack_0 (by decide) ?_
  refine lv_istore_n (lv' := [(1, .int (0 : Int32)), (0, .ref (ad 0))]) hx hb dX3_putBack_1 rfl hl (by decide) rfl (fun ls hl => ?_)
  exact hL2 200 V (0 : Int32) _ _ ls hf I (lv_sub hl [1, 0] rfl)
def m_sheet_j96 (V : Mm)  (a4 : Int32) : Option (Int32 × Mm) :=
  (m_putBack V).bind fun V18 => some (((-1001 : Int32) - a4), V18)
def m_sheet_l81 : Nat → Mm → Int32 → Int32 → Int32 → Option (Int32 × Mm)
  | 0, _, _, _, _ => none
  | n81 + 1, V, a1, a3, a4 =>
  if a1 ≤ a4 then (some (a3, V)) else (bi_ (m_doItem V a4) fun r12 V10 => if r12 = (0 : Int32) then (m_sheet_j96 V10 a4) else (lt_ (a3 + (1 : Int32)) fun v13 => bi_ (m_reads V10 a4 a1) fun r16 V14 => lt_ ((a4 + r16)) fun v17 => m_sheet_l81 n81 V14 a1 v13 v17))
def m_sheet_j63 (V : Mm)  (a1 : Int32) : Option (Int32 × Mm) :=
  if a1 ≤ (80 : Int32) then ((m_putAside V).bind fun V8 => m_sheet_l81 200 V8 a1 (0 : Int32) (0 : Int32)) else (some ((-81 : Int32), V))
def m_sheet_l34 : Nat → Mm → Int32 → Int32 → Int32 → Option (Int32 × Mm)
  | 0, _, _, _, _ => none
  | n34 + 1, V, a1, a2, a3 =>
  if a2 ≤ a3 then (m_sheet_j63 V a1) else (bi_ (m_reads V a3 a2) fun r22 V20 => if (0 : Int32) ≤ r22 then (lt_ ((a3 + r22)) fun v23 => m_sheet_l34 n34 V20 a1 a2 v23) else (some (r22, V20)))
def m_sheet (V : Mm) : Option (Int32 × Mm) :=
  lt_ (mset V 0 13 (0 : Int32)) fun V1 => lt_ ((V1.1 0 10)) fun v2 => lt_ (mset V1 0 10 (0 : Int32)) fun V3 => bi_ (m_isOn V3) fun r6 V4 => if r6 = (0 : Int32) then (some ((-100 : Int32), V4)) else (lt_ ((if (80 : Int32) < v2 then (80 : Int32) else v2)) fun v7 => m_sheet_l34 200 V4 v2 v7 (0 : Int32))
theorem hdX3_sheet : w6_hd yX3_sheet 0 := by decide +kernel
abbrev rmX3_sheet : Room := { frames := 5, cells := 0, slots := 0, locals := 110 }
set_option maxHeartbeats 4000000 in
set_option maxRecDepth 100000 in
theorem ctm_sheet (l : Launch) (D : va_G) (g : Nat → ClassId) (ad : Nat → Nat) (V : Mm) (r : Int32) (V' : Mm) (hf : m_sheet V = some (r, V'))  : CTi l D g yX3_sheet cX3_sheet 5 .int rmX3_sheet [.ref (ad 0)] (mw g ad V) (mw g ad V') r := by
  intro sz
  refine w6_starti RX3 (by decide) (Nat.le_of_ble_eq_true rfl) rfl ?_
  intro p e s m below meth c A ls Q hx hb hown hts F I hl hret
  have hl : lv_has ls 5 [(0, .ref (ad 0))] := hl
  have hJ96 : ∀ (V : Mm) (a4 : Int32) (H : Heap) (locs : List Loc) (ls : Array Slot), m_sheet_j96 V a4 = some (r, V') → w6_I D (mw g ad V ++ []) A s H locs → lv_has ls 5 [(0, .ref (ad 0)), (4, .int a4)] → W p l e rmX3_sheet s m ([.ref (ad 0)] : List Value).toArray below meth c H locs 0 0 Q (F0 m 96 ls []) := by
    intro V a4 H locs ls hf I hl
    unfold m_sheet_j96 at hf
    refine lv_aload_n hx hb dX3_sheet_96 rfl (lv_at hl 0 rfl) ?_
    obtain ⟨V18, h19, hf⟩ := bn_e hf
    refine xz_Vv F I (ctm_putBack l D g ad V V18 h19 ) (lw_V q993 q995 qs39 q50 q996) hdX3_putBack rfl (Nat.le_of_ble_eq_true rfl) (Nat.le_of_ble_eq_true rfl) (w6_recv F I mo_ob rfl) rfl hl.1 [] rfl (Nat.le_of_ble_eq_true rfl) dX3_sheet_97 ⟨Nat.le_of_ble_eq_true rfl, Nat.le_of_ble_eq_true rfl⟩ (fun H locs I => ?_)
    refine lv_sipush (v := (-1001 : Int32)) hx hb dX3_sheet_100 (by decide) ?_
    refine lv_iload hx hb dX3_sheet_103 (lv_at hl 1 rfl) ?_
    refine lv_isub hx hb dX3_sheet_105 ?_
    exact hret _ _ _ _ _ dX3_sheet_106 (w6_mv (so_e hf).2 I) (so_e hf).1 rfl
  have hL81 : ∀ (n81 : Nat) (V : Mm) (a1 : Int32) (a3 : Int32) (a4 : Int32) (H : Heap) (locs : List Loc) (ls : Array Slot), m_sheet_l81 n81 V a1 a3 a4 = some (r, V') → w6_I D (mw g ad V ++ []) A s H locs → lv_has ls 5 [(0, .ref (ad 0)), (1, .int a1), (3, .int a3), (4, .int a4)] → W p l e rmX3_sheet s m ([.ref (ad 0)] : List Value).toArray below meth c H locs 0 0 Q (F0 m 81 ls []) := by
    intro n81
    induction n81 with
    | zero =>
      intro V a1 a3 a4 H locs ls hf
      rw [m_sheet_l81] at hf
      cases hf
    | succ n81 ih81 =>
      intro V a1 a3 a4 H locs ls hf I hl
      rw [m_sheet_l81] at hf
      refine lv_iload hx hb dX3_sheet_81 (lv_at hl 3 rfl) ?_
      refine lv_iload_n hx hb dX3_sheet_83 rfl (lv_at hl 1 rfl) ?_
      refine lv_icmp_ge (tgt := 125) hx hb dX3_sheet_84 (by decide) (fun c => ?_) (fun c => ?_)
      · have hf := if_p c hf
        refine lv_iload_n hx hb dX3_sheet_125 rfl (lv_at hl 2 rfl) ?_
        exact hret _ _ _ _ _ dX3_sheet_126 (w6_mv (so_e hf).2 I) (so_e hf).1 rfl
      · have hf := if_n c hf
        refine lv_aload_n hx hb dX3_sheet_87 rfl (lv_at hl 0 rfl) ?_
        refine lv_iload hx hb dX3_sheet_88 (lv_at hl 3 rfl) ?_
        obtain ⟨r12, V10, h11, hf⟩ := bi_e hf
        refine xz_Vi F I (ctm_doItem l D g ad V a4 r12 V10 h11 ) (lw_V q989 q991 qs38 q50 q992) hdX3_doItem rfl (Nat.le_of_ble_eq_true rfl) (Nat.le_of_ble_eq_true rfl) (w6_recv F I mo_ob rfl) rfl hl.1 [] rfl (Nat.le_of_ble_eq_true rfl) dX3_sheet_90 ⟨Nat.le_of_ble_eq_true rfl, Nat.le_of_ble_eq_true rfl⟩ (fun H locs I => ?_)
        refine lv_if_ne (tgt := 107) hx hb dX3_sheet_93 (by decide) (fun c => ?_) (fun c => ?_)
        · have hf := if_n c hf
          obtain ⟨v13, ev13, hf⟩ := lt_e hf
          refine lv_iinc (v := v13) (lv' := [(3, .int v13), (0, .ref (ad 0)), (1, .int a1), (4, .int a4)]) hx hb dX3_sheet_107 hl (k := 2) rfl (by rw [ev13]; rfl) (by decide) rfl (fun ls hl => ?_)
          refine lv_iload hx hb dX3_sheet_110 (lv_at hl 3 rfl) ?_
          refine lv_aload_n hx hb dX3_sheet_112 rfl (lv_at hl 1 rfl) ?_
          refine lv_iload hx hb dX3_sheet_113 (lv_at hl 3 rfl) ?_
          refine lv_iload_n hx hb dX3_sheet_115 rfl (lv_at hl 2 rfl) ?_
          obtain ⟨r16, V14, h15, hf⟩ := bi_e hf
          refine xz_Vi F I (ctm_reads l D g ad V10 a4 a1 r16 V14 h15 ) (lw_V q978 q980 qs36 q50 q981) hdX3_reads rfl (Nat.le_of_ble_eq_true rfl) (Nat.le_of_ble_eq_true rfl) (w6_recv F I mo_ob rfl) rfl hl.1 [.int a4] rfl (Nat.le_of_ble_eq_true rfl) dX3_sheet_116 ⟨Nat.le_of_ble_eq_true rfl, Nat.le_of_ble_eq_true rfl⟩ (fun H locs I => ?_)
          refine lv_iadd hx hb dX3_sheet_119 ?_
          obtain ⟨v17, ev17, hf⟩ := lt_e hf
          refine w6_nmi ev17 ?_
          refine lv_istore (lv' := [(4, .int v17), (3, .int v13), (0, .ref (ad 0)), (1, .int a1)]) hx hb dX3_sheet_120 hl (by decide) rfl (fun ls hl => ?_)
          refine lv_goto (tgt := 81) hx hb dX3_sheet_122 (by decide) ?_
          exact ih81 V14 a1 v13 v17 _ _ ls hf I (lv_sub hl [2, 3, 1, 0] rfl)
        · have hf := if_p c hf
          exact hJ96 V10 a4 _ _ ls hf I (lv_sub hl [0, 3] rfl)
  have hJ63 : ∀ (V : Mm) (a1 : Int32) (H : Heap) (locs : List Loc) (ls : Array Slot), m_sheet_j63 V a1 = some (r, V') → w6_I D (mw g ad V ++ []) A s H locs → lv_has ls 5 [(0, .ref (ad 0)), (1, .int a1)] → W p l e rmX3_sheet s m ([.ref (ad 0)] : List Value).toArray below meth c H locs 0 0 Q (F0 m 63 ls []) := by
    intro V a1 H locs ls hf I hl
    unfold m_sheet_j63 at hf
    refine lv_iload_n hx hb dX3_sheet_63 rfl (lv_at hl 1 rfl) ?_
    refine lv_bipush (v := (80 : Int32)) hx hb dX3_sheet_64 (by decide) ?_
    refine lv_icmp_le (tgt := 72) hx hb dX3_sheet_66 (by decide) (fun c => ?_) (fun c => ?_)
    · have hf := if_p c hf
      refine lv_aload_n hx hb dX3_sheet_72 rfl (lv_at hl 0 rfl) ?_
      obtain ⟨V8, h9, hf⟩ := bn_e hf
      refine xz_Vv F I (ctm_putAside l D g ad V V8 h9 ) (lw_V q985 q987 qs37 q50 q988) hdX3_putAside rfl (Nat.le_of_ble_eq_true rfl) (Nat.le_of_ble_eq_true rfl) (w6_recv F I mo_ob rfl) rfl hl.1 [] rfl (Nat.le_of_ble_eq_true rfl) dX3_sheet_73 ⟨Nat.le_of_ble_eq_true rfl, Nat.le_of_ble_eq_true rfl⟩ (fun H locs I => ?_)
      refine lv_iconst (v := (0 : Int32)) hx hb dX3_sheet_76 (by decide) ?_
      refine lv_istore_n (lv' := [(3, .int (0 : Int32)), (0, .ref (ad 0)), (1, .int a1)]) hx hb dX3_sheet_77 rfl hl (by decide) rfl (fun ls hl => ?_)
      refine lv_iconst (v := (0 : Int32)) hx hb dX3_sheet_78 (by decide) ?_
      refine lv_istore (lv' := [(4, .int (0 : Int32)), (3, .int (0 : Int32)), (0, .ref (ad 0)), (1, .int a1)]) hx hb dX3_sheet_79 hl (by decide) rfl (fun ls hl => ?_)
      exact hL81 200 V8 a1 (0 : Int32) (0 : Int32) _ _ ls hf I (lv_sub hl [2, 3, 1, 0] rfl)
    · have hf := if_n c hf
      refine lv_bipush (v := (-81 : Int32)) hx hb dX3_sheet_69 (by decide) ?_
      exact hret _ _ _ _ _ dX3_sheet_71 (w6_mv (so_e hf).2 I) (so_e hf).1 rfl
  have hL34 : ∀ (n34 : Nat) (V : Mm) (a1 : Int32) (a2 : Int32) (a3 : Int32) (H : Heap) (locs : List Loc) (ls : Array Slot), m_sheet_l34 n34 V a1 a2 a3 = some (r, V') → w6_I D (mw g ad V ++ []) A s H locs → lv_has ls 5 [(0, .ref (ad 0)), (1, .int a1), (2, .int a2), (3, .int a3)] → W p l e rmX3_sheet s m ([.ref (ad 0)] : List Value).toArray below meth c H locs 0 0 Q (F0 m 34 ls []) := by
    intro n34
    induction n34 with
    | zero =>
      intro V a1 a2 a3 H locs ls hf
      rw [m_sheet_l34] at hf
      cases hf
    | succ n34 ih34 =>
      intro V a1 a2 a3 H locs ls hf I hl
      rw [m_sheet_l34] at hf
      refine lv_iload_n hx hb dX3_sheet_34 rfl (lv_at hl 3 rfl) ?_
      refine lv_iload_n hx hb dX3_sheet_35 rfl (lv_at hl 2 rfl) ?_
      refine lv_icmp_ge (tgt := 63) hx hb dX3_sheet_36 (by decide) (fun c => ?_) (fun c => ?_)
      · have hf := if_p c hf
        exact hJ63 V a1 _ _ ls hf I (lv_sub hl [0, 1] rfl)
      · have hf := if_n c hf
        refine lv_aload_n hx hb dX3_sheet_39 rfl (lv_at hl 0 rfl) ?_
        refine lv_iload_n hx hb dX3_sheet_40 rfl (lv_at hl 3 rfl) ?_
        refine lv_iload_n hx hb dX3_sheet_41 rfl (lv_at hl 2 rfl) ?_
        obtain ⟨r22, V20, h21, hf⟩ := bi_e hf
        refine xz_Vi F I (ctm_reads l D g ad V a3 a2 r22 V20 h21 ) (lw_V q978 q980 qs36 q50 q981) hdX3_reads rfl (Nat.le_of_ble_eq_true rfl) (Nat.le_of_ble_eq_true rfl) (w6_recv F I mo_ob rfl) rfl hl.1 [] rfl (Nat.le_of_ble_eq_true rfl) dX3_sheet_42 ⟨Nat.le_of_ble_eq_true rfl, Nat.le_of_ble_eq_true rfl⟩ (fun H locs I => ?_)
        refine lv_istore (lv' := [(4, .int r22), (0, .ref (ad 0)), (1, .int a1), (2, .int a2), (3, .int a3)]) hx hb dX3_sheet_45 hl (by decide) rfl (fun ls hl => ?_)
        refine lv_iload hx hb dX3_sheet_47 (lv_at hl 0 rfl) ?_
        refine lv_if_ge (tgt := 55) hx hb dX3_sheet_49 (by decide) (fun c => ?_) (fun c => ?_)
        · have hf := if_p c hf
          refine lv_iload_n hx hb dX3_sheet_55 rfl (lv_at hl 4 rfl) ?_
          refine lv_iload hx hb dX3_sheet_56 (lv_at hl 0 rfl) ?_
          refine lv_iadd hx hb dX3_sheet_58 ?_
          obtain ⟨v23, ev23, hf⟩ := lt_e hf
          refine w6_nmi ev23 ?_
          refine lv_istore_n (lv' := [(3, .int v23), (4, .int r22), (0, .ref (ad 0)), (1, .int a1), (2, .int a2)]) hx hb dX3_sheet_59 rfl hl (by decide) rfl (fun ls hl => ?_)
          refine lv_goto (tgt := 34) hx hb dX3_sheet_60 (by decide) ?_
          exact ih34 V20 a1 a2 v23 _ _ ls hf I (lv_sub hl [2, 3, 4, 0] rfl)
        · have hf := if_n c hf
          refine lv_iload hx hb dX3_sheet_52 (lv_at hl 0 rfl) ?_
          exact hret _ _ _ _ _ dX3_sheet_54 (w6_mv (so_e hf).2 I) (so_e hf).1 rfl
  unfold m_sheet at hf
  refine lv_aload_n hx hb dX3_sheet_0 rfl (lv_at hl 0 rfl) ?_
  refine lv_iconst (v := (0 : Int32)) hx hb dX3_sheet_1 (by decide) ?_
  obtain ⟨V1, eV1, hf⟩ := lt_e hf
  refine w6_put msh_lc F I mo_ob rfl in_X3 tyX3 tyX3_ok nmX3 13 (by decide) (mo_nf 13 (by decide)) q777 rfl rfl (tyX3_ok 13 (by decide)) rfl rfl dX3_sheet_2 eV1 (fun H locs I => ?_)
  refine lv_aload_n hx hb dX3_sheet_5 rfl (lv_at hl 0 rfl) ?_
  refine w6_get F I mo_ob rfl in_X3 10 (by decide) q774 rfl rfl dX3_sheet_6 ?_
  obtain ⟨v2, ev2, hf⟩ := lt_e hf
  refine w6_nmi ev2 ?_
  refine lv_istore_n (lv' := [(1, .int v2), (0, .ref (ad 0))]) hx hb dX3_sheet_9 rfl hl (by decide) rfl (fun ls hl => ?_)
  refine lv_aload_n hx hb dX3_sheet_10 rfl (lv_at hl 1 rfl) ?_
  refine lv_iconst (v := (0 : Int32)) hx hb dX3_sheet_11 (by decide) ?_
  obtain ⟨V3, eV3, hf⟩ := lt_e hf
  refine w6_put msh_lc F I mo_ob rfl in_X3 tyX3 tyX3_ok nmX3 10 (by decide) (mo_nf 10 (by decide)) q774 rfl rfl (tyX3_ok 10 (by decide)) rfl rfl dX3_sheet_12 eV3 (fun H locs I => ?_)
  refine lv_aload_n hx hb dX3_sheet_15 rfl (lv_at hl 1 rfl) ?_
  obtain ⟨r6, V4, h5, hf⟩ := bi_e hf
  refine xz_Vi F I (ctm_isOn l D g ad V3 r6 V4 h5 ) (lw_V q845 q847 qs23 q50 q848) hdX3_isOn rfl (Nat.le_of_ble_eq_true rfl) (Nat.le_of_ble_eq_true rfl) (w6_recv F I mo_ob rfl) rfl hl.1 [] rfl (Nat.le_of_ble_eq_true rfl) dX3_sheet_16 ⟨Nat.le_of_ble_eq_true rfl, Nat.le_of_ble_eq_true rfl⟩ (fun H locs I => ?_)
  refine lv_if_ne (tgt := 25) hx hb dX3_sheet_19 (by decide) (fun c => ?_) (fun c => ?_)
  · have hf := if_n c hf
    refine lv_iload_n hx hb dX3_sheet_25 rfl (lv_at hl 0 rfl) ?_
    refine lv_bipush (v := (80 : Int32)) hx hb dX3_sheet_26 (by decide) ?_
    refine va_mmin hx hb (by rw [F.1.2.2.1]; exact hl.1.symm) hown (hts _ q977) (hts _ q398) (hts _ q52) (hts _ q399) (Nat.le_of_ble_eq_true rfl) (Nat.le_of_ble_eq_true rfl) (Nat.le_of_ble_eq_true rfl) (Nat.le_of_ble_eq_true rfl) dX3_sheet_28 ?_
    obtain ⟨v7, ev7, hf⟩ := lt_e hf
    refine w6_nmi ev7 ?_
    refine lv_istore_n (lv' := [(2, .int v7), (1, .int v2), (0, .ref (ad 0))]) hx hb dX3_sheet_31 rfl hl (by decide) rfl (fun ls hl => ?_)
    refine lv_iconst (v := (0 : Int32)) hx hb dX3_sheet_32 (by decide) ?_
    refine lv_istore_n (lv' := [(3, .int (0 : Int32)), (2, .int v7), (1, .int v2), (0, .ref (ad 0))]) hx hb dX3_sheet_33 rfl hl (by decide) rfl (fun ls hl => ?_)
    exact hL34 200 V4 v2 v7 (0 : Int32) _ _ ls hf I (lv_sub hl [3, 2, 1, 0] rfl)
  · have hf := if_p c hf
    refine lv_bipush (v := (-100 : Int32)) hx hb dX3_sheet_22 (by decide) ?_
    exact hret _ _ _ _ _ dX3_sheet_24 (w6_mv (so_e hf).2 I) (so_e hf).1 rfl
def m_countNow_j72 (rec2 : Mm → Int32 → Option Mm) (V : Mm)  (a1 : Int32) : Option Mm :=
  lt_ (a1 + (1 : Int32)) fun v1 => rec2 V v1
def m_countNow_j65 (rec2 : Mm → Int32 → Option Mm) (rec9 : Mm → Int32 → Int32 → Option Mm) (V : Mm)  (a1 : Int32) (a2 : Int32) (s0 : Int32) (s1 : Int32) : Option Mm :=
  gd_ (ix_ s1 12) (lt_ (mset V 12 s1.toNatClampNeg s0) fun V9 => lt_ (a2 + (1 : Int32)) fun v10 => rec9 V9 a1 v10)
def m_countNow_j64 (rec2 : Mm → Int32 → Option Mm) (rec9 : Mm → Int32 → Int32 → Option Mm) (V : Mm)  (a1 : Int32) (a2 : Int32) (a3 : Int32) (s0 : Int32) : Option Mm :=
  m_countNow_j65 rec2 rec9 V a1 a2 a3 s0
def m_countNow_l9 (rec2 : Mm → Int32 → Option Mm) : Nat → Mm → Int32 → Int32 → Option Mm
  | 0, _, _, _ => none
  | n9 + 1, V, a1, a2 =>
  if (6 : Int32) ≤ a2 then (m_countNow_j72 rec2 V a1) else (bi_ (m_get V a1 ((8 : Int32) + a2)) fun r4 V2 => bi_ (m_get V2 a1 (4 : Int32)) fun r7 V5 => if r7 = (-1 : Int32) then (m_countNow_j64 rec2 (m_countNow_l9 rec2 n9) V5 a1 a2 r4 (((6 : Int32) * a1) + a2)) else (gd_ (ix_ a1 2) (if r4 = (V5.1 2 a1.toNatClampNeg) then (bi_ (m_get V5 a1 (4 : Int32)) fun r14 V12 => m_countNow_j65 rec2 (m_countNow_l9 rec2 n9) V12 a1 a2 r14 (((6 : Int32) * a1) + a2)) else (m_countNow_j64 rec2 (m_countNow_l9 rec2 n9) V5 a1 a2 r4 (((6 : Int32) * a1) + a2)))))
def m_countNow_l2 : Nat → Mm → Int32 → Option Mm
  | 0, _, _ => none
  | n2 + 1, V, a1 =>
  if (2 : Int32) ≤ a1 then (some V) else (m_countNow_l9 (m_countNow_l2 n2) 200 V a1 (0 : Int32))
def m_countNow (V : Mm) : Option Mm :=
  m_countNow_l2 200 V (0 : Int32)
theorem hdX3_countNow : w6_hd yX3_countNow 0 := by decide +kernel
abbrev rmX3_countNow : Room := { frames := 1, cells := 0, slots := 0, locals := 22 }
set_option maxHeartbeats 4000000 in
set_option maxRecDepth 100000 in
theorem ctm_countNow (l : Launch) (D : va_G) (g : Nat → ClassId) (ad : Nat → Nat) (V : Mm) (V' : Mm) (hf : m_countNow V = some V')  : CTv l D g yX3_countNow cX3_countNow 4 rmX3_countNow [.ref (ad 0)] (mw g ad V) (mw g ad V') := by
  intro sz
  refine w6_startv RX3 (by decide) (Nat.le_of_ble_eq_true rfl) rfl ?_
  intro p e s m below meth c A ls Q hx hb hown hts F I hl hret
  have hl : lv_has ls 4 [(0, .ref (ad 0))] := hl
  have hL2 : ∀ (n2 : Nat) (V : Mm) (a1 : Int32) (H : Heap) (locs : List Loc) (ls : Array Slot), m_countNow_l2 n2 V a1 = some V' → w6_I D (mw g ad V ++ []) A s H locs → lv_has ls 4 [(0, .ref (ad 0)), (1, .int a1)] → W p l e rmX3_countNow s m ([.ref (ad 0)] : List Value).toArray below meth c H locs 0 0 Q (F0 m 2 ls []) := by
    intro n2
    induction n2 with
    | zero =>
      intro V a1 H locs ls hf
      rw [m_countNow_l2] at hf
      cases hf
    | succ n2 ih2 =>
      have hJ72 : ∀ (V : Mm) (a1 : Int32) (H : Heap) (locs : List Loc) (ls : Array Slot), m_countNow_j72 (m_countNow_l2 n2) V a1 = some V' → w6_I D (mw g ad V ++ []) A s H locs → lv_has ls 4 [(0, .ref (ad 0)), (1, .int a1)] → W p l e rmX3_countNow s m ([.ref (ad 0)] : List Value).toArray below meth c H locs 0 0 Q (F0 m 72 ls []) := by
        intro V a1 H locs ls hf I hl
        unfold m_countNow_j72 at hf
        obtain ⟨v1, ev1, hf⟩ := lt_e hf
        refine lv_iinc (v := v1) (lv' := [(1, .int v1), (0, .ref (ad 0))]) hx hb dX3_countNow_72 hl (k := 1) rfl (by rw [ev1]; rfl) (by decide) rfl (fun ls hl => ?_)
        refine lv_goto (tgt := 2) hx hb dX3_countNow_75 (by decide) ?_
        exact ih2 V v1 _ _ ls hf I (lv_sub hl [1, 0] rfl)
      have hL9 : ∀ (n9 : Nat) (V : Mm) (a1 : Int32) (a2 : Int32) (H : Heap) (locs : List Loc) (ls : Array Slot), m_countNow_l9 (m_countNow_l2 n2) n9 V a1 a2 = some V' → w6_I D (mw g ad V ++ []) A s H locs → lv_has ls 4 [(0, .ref (ad 0)), (1, .int a1), (2, .int a2)] → W p l e rmX3_countNow s m ([.ref (ad 0)] : List Value).toArray below meth c H locs 0 0 Q (F0 m 9 ls []) := by
        intro n9
        induction n9 with
        | zero =>
          intro V a1 a2 H locs ls hf
          rw [m_countNow_l9] at hf
          cases hf
        | succ n9 ih9 =>
          have hJ65 : ∀ (V : Mm) (a1 : Int32) (a2 : Int32) (s0 : Int32) (s1 : Int32) (H : Heap) (locs : List Loc) (ls : Array Slot), m_countNow_j65 (m_countNow_l2 n2) (m_countNow_l9 (m_countNow_l2 n2) n9) V a1 a2 s0 s1 = some V' → w6_I D (mw g ad V ++ []) A s H locs → lv_has ls 4 [(0, .ref (ad 0)), (1, .int a1), (2, .int a2)] → W p l e rmX3_countNow s m ([.ref (ad 0)] : List Value).toArray below meth c H locs 0 0 Q (F0 m 65 ls [.int s0, .int s1, .ref (ad 12)]) := by
            intro V a1 a2 s0 s1 H locs ls hf I hl
            unfold m_countNow_j65 at hf
            obtain ⟨g8, hf⟩ := gd_e hf
            obtain ⟨V9, eV9, hf⟩ := lt_e hf
            refine w6_iast (j := s1.toNatClampNeg) msh_lc F I (m_ar 12 12 (by decide) rfl) g8 rfl dX3_countNow_65 eV9 (fun H locs I => ?_)
            obtain ⟨v10, ev10, hf⟩ := lt_e hf
            refine lv_iinc (v := v10) (lv' := [(2, .int v10), (0, .ref (ad 0)), (1, .int a1)]) hx hb dX3_countNow_66 hl (k := 2) rfl (by rw [ev10]; rfl) (by decide) rfl (fun ls hl => ?_)
            refine lv_goto (tgt := 9) hx hb dX3_countNow_69 (by decide) ?_
            exact ih9 V9 a1 v10 _ _ ls hf I (lv_sub hl [1, 2, 0] rfl)
          have hJ64 : ∀ (V : Mm) (a1 : Int32) (a2 : Int32) (a3 : Int32) (s0 : Int32) (H : Heap) (locs : List Loc) (ls : Array Slot), m_countNow_j64 (m_countNow_l2 n2) (m_countNow_l9 (m_countNow_l2 n2) n9) V a1 a2 a3 s0 = some V' → w6_I D (mw g ad V ++ []) A s H locs → lv_has ls 4 [(0, .ref (ad 0)), (1, .int a1), (2, .int a2), (3, .int a3)] → W p l e rmX3_countNow s m ([.ref (ad 0)] : List Value).toArray below meth c H locs 0 0 Q (F0 m 64 ls [.int s0, .ref (ad 12)]) := by
            intro V a1 a2 a3 s0 H locs ls hf I hl
            unfold m_countNow_j64 at hf
            refine lv_iload_n hx hb dX3_countNow_64 rfl (lv_at hl 3 rfl) ?_
            exact hJ65 V a1 a2 a3 s0 _ _ ls hf I (lv_sub hl [0, 1, 2] rfl)
          intro V a1 a2 H locs ls hf I hl
          rw [m_countNow_l9] at hf
          refine lv_iload_n hx hb dX3_countNow_9 rfl (lv_at hl 2 rfl) ?_
          refine lv_bipush (v := (6 : Int32)) hx hb dX3_countNow_10 (by decide) ?_
          refine lv_icmp_ge (tgt := 72) hx hb dX3_countNow_12 (by decide) (fun c => ?_) (fun c => ?_)
          · have hf := if_p c hf
            exact hJ72 V a1 _ _ ls hf I (lv_sub hl [0, 1] rfl)
          · have hf := if_n c hf
            refine lv_aload_n hx hb dX3_countNow_15 rfl (lv_at hl 0 rfl) ?_
            refine lv_iload_n hx hb dX3_countNow_16 rfl (lv_at hl 1 rfl) ?_
            refine lv_bipush (v := (8 : Int32)) hx hb dX3_countNow_17 (by decide) ?_
            refine lv_iload_n hx hb dX3_countNow_19 rfl (lv_at hl 2 rfl) ?_
            refine lv_iadd hx hb dX3_countNow_20 ?_
            obtain ⟨r4, V2, h3, hf⟩ := bi_e hf
            refine xz_Vi F I (ctm_get l D g ad V a1 ((8 : Int32) + a2) r4 V2 h3 ) (lw_V q869 q871 qs25 q50 q872) hdX3_get rfl (Nat.le_of_ble_eq_true rfl) (Nat.le_of_ble_eq_true rfl) (w6_recv F I mo_ob rfl) rfl hl.1 [] rfl (Nat.le_of_ble_eq_true rfl) dX3_countNow_21 ⟨Nat.le_of_ble_eq_true rfl, Nat.le_of_ble_eq_true rfl⟩ (fun H locs I => ?_)
            refine lv_istore_n (lv' := [(3, .int r4), (0, .ref (ad 0)), (1, .int a1), (2, .int a2)]) hx hb dX3_countNow_24 rfl hl (by decide) rfl (fun ls hl => ?_)
            refine lv_aload_n hx hb dX3_countNow_25 rfl (lv_at hl 1 rfl) ?_
            refine w6_get F I mo_ob rfl in_X3 15 (by decide) q779 rfl rfl dX3_countNow_26 ?_
            refine lv_bipush (v := (6 : Int32)) hx hb dX3_countNow_29 (by decide) ?_
            refine lv_iload_n hx hb dX3_countNow_31 rfl (lv_at hl 2 rfl) ?_
            refine lv_imul hx hb dX3_countNow_32 ?_
            refine lv_iload_n hx hb dX3_countNow_33 rfl (lv_at hl 3 rfl) ?_
            refine lv_iadd hx hb dX3_countNow_34 ?_
            refine lv_aload_n hx hb dX3_countNow_35 rfl (lv_at hl 1 rfl) ?_
            refine lv_iload_n hx hb dX3_countNow_36 rfl (lv_at hl 2 rfl) ?_
            refine lv_iconst (v := (4 : Int32)) hx hb dX3_countNow_37 (by decide) ?_
            obtain ⟨r7, V5, h6, hf⟩ := bi_e hf
            refine xz_Vi F I (ctm_get l D g ad V2 a1 (4 : Int32) r7 V5 h6 ) (lw_V q869 q871 qs25 q50 q872) hdX3_get rfl (Nat.le_of_ble_eq_true rfl) (Nat.le_of_ble_eq_true rfl) (w6_recv F I mo_ob rfl) rfl hl.1 [.int (((6 : Int32) * a1) + a2), .ref (ad 12)] rfl (Nat.le_of_ble_eq_true rfl) dX3_countNow_38 ⟨Nat.le_of_ble_eq_true rfl, Nat.le_of_ble_eq_true rfl⟩ (fun H locs I => ?_)
            refine lv_iconst (v := (-1 : Int32)) hx hb dX3_countNow_41 (by decide) ?_
            refine lv_icmp_eq (tgt := 64) hx hb dX3_countNow_42 (by decide) (fun c => ?_) (fun c => ?_)
            · have hf := if_p c hf
              exact hJ64 V5 a1 a2 r4 (((6 : Int32) * a1) + a2) _ _ ls hf I (lv_sub hl [1, 2, 3, 0] rfl)
            · have hf := if_n c hf
              refine lv_iload_n hx hb dX3_countNow_45 rfl (lv_at hl 0 rfl) ?_
              refine lv_aload_n hx hb dX3_countNow_46 rfl (lv_at hl 1 rfl) ?_
              refine w6_get F I mo_ob rfl in_X3 1 (by decide) q765 rfl rfl dX3_countNow_47 ?_
              refine lv_iload_n hx hb dX3_countNow_50 rfl (lv_at hl 2 rfl) ?_
              obtain ⟨g11, hf⟩ := gd_e hf
              refine w6_iald (j := a1.toNatClampNeg) F I (m_ar 2 2 (by decide) rfl) g11 rfl dX3_countNow_51 ?_
              refine lv_icmp_ne (tgt := 64) hx hb dX3_countNow_52 (by decide) (fun c => ?_) (fun c => ?_)
              · have hf := if_n c hf
                exact hJ64 V5 a1 a2 r4 (((6 : Int32) * a1) + a2) _ _ ls hf I (lv_sub hl [1, 2, 3, 0] rfl)
              · have hf := if_p c hf
                refine lv_aload_n hx hb dX3_countNow_55 rfl (lv_at hl 1 rfl) ?_
                refine lv_iload_n hx hb dX3_countNow_56 rfl (lv_at hl 2 rfl) ?_
                refine lv_iconst (v := (4 : Int32)) hx hb dX3_countNow_57 (by decide) ?_
                obtain ⟨r14, V12, h13, hf⟩ := bi_e hf
                refine xz_Vi F I (ctm_get l D g ad V5 a1 (4 : Int32) r14 V12 h13 ) (lw_V q869 q871 qs25 q50 q872) hdX3_get rfl (Nat.le_of_ble_eq_true rfl) (Nat.le_of_ble_eq_true rfl) (w6_recv F I mo_ob rfl) rfl hl.1 [.int (((6 : Int32) * a1) + a2), .ref (ad 12)] rfl (Nat.le_of_ble_eq_true rfl) dX3_countNow_58 ⟨Nat.le_of_ble_eq_true rfl, Nat.le_of_ble_eq_true rfl⟩ (fun H locs I => ?_)
                refine lv_goto (tgt := 65) hx hb dX3_countNow_61 (by decide) ?_
                exact hJ65 V12 a1 a2 r14 (((6 : Int32) * a1) + a2) _ _ ls hf I (lv_sub hl [1, 2, 3] rfl)
      intro V a1 H locs ls hf I hl
      rw [m_countNow_l2] at hf
      refine lv_iload_n hx hb dX3_countNow_2 rfl (lv_at hl 1 rfl) ?_
      refine lv_iconst (v := (2 : Int32)) hx hb dX3_countNow_3 (by decide) ?_
      refine lv_icmp_ge (tgt := 78) hx hb dX3_countNow_4 (by decide) (fun c => ?_) (fun c => ?_)
      · have hf := if_p c hf
        exact hret _ _ _ _ dX3_countNow_78 (w6_mv (Option.some.inj hf) I)
      · have hf := if_n c hf
        refine lv_iconst (v := (0 : Int32)) hx hb dX3_countNow_7 (by decide) ?_
        refine lv_istore_n (lv' := [(2, .int (0 : Int32)), (0, .ref (ad 0)), (1, .int a1)]) hx hb dX3_countNow_8 rfl hl (by decide) rfl (fun ls hl => ?_)
        exact hL9 200 V a1 (0 : Int32) _ _ ls hf I (lv_sub hl [1, 2, 0] rfl)
  unfold m_countNow at hf
  refine lv_iconst (v := (0 : Int32)) hx hb dX3_countNow_0 (by decide) ?_
  refine lv_istore_n (lv' := [(1, .int (0 : Int32)), (0, .ref (ad 0))]) hx hb dX3_countNow_1 rfl hl (by decide) rfl (fun ls hl => ?_)
  exact hL2 200 V (0 : Int32) _ _ ls hf I (lv_sub hl [1, 0] rfl)
def m_later (V : Mm) (p1 : Int32) (p2 : Int32) (p3 : Int32) : Option (Int32 × Mm) :=
  gd_ (ix_ (((6 : Int32) * p1) + ((p2 + p3) - (p2 + p3) / (6 : Int32) * (6 : Int32))) 12) (some ((V.1 12 ((((6 : Int32) * p1) + ((p2 + p3) - (p2 + p3) / (6 : Int32) * (6 : Int32))).toNatClampNeg)), V))
theorem hdX3_later : w6_hd yX3_later 3 := by decide +kernel
abbrev rmX3_later : Room := { frames := 0, cells := 0, slots := 0, locals := 0 }
set_option maxHeartbeats 4000000 in
set_option maxRecDepth 100000 in
theorem ctm_later (l : Launch) (D : va_G) (g : Nat → ClassId) (ad : Nat → Nat) (V : Mm) (p1 : Int32) (p2 : Int32) (p3 : Int32) (r : Int32) (V' : Mm) (hf : m_later V p1 p2 p3 = some (r, V'))  : CTi l D g yX3_later cX3_later 4 .int rmX3_later [.ref (ad 0), .int p1, .int p2, .int p3] (mw g ad V) (mw g ad V') r := by
  intro sz
  refine w6_starti RX3 (by decide) (Nat.le_of_ble_eq_true rfl) rfl ?_
  intro p e s m below meth c A ls Q hx hb hown hts F I hl hret
  have hl : lv_has ls 4 [(0, .ref (ad 0)), (1, .int p1), (2, .int p2), (3, .int p3)] := hl
  unfold m_later at hf
  refine lv_aload_n hx hb dX3_later_0 rfl (lv_at hl 0 rfl) ?_
  refine w6_get F I mo_ob rfl in_X3 15 (by decide) q779 rfl rfl dX3_later_1 ?_
  refine lv_bipush (v := (6 : Int32)) hx hb dX3_later_4 (by decide) ?_
  refine lv_iload_n hx hb dX3_later_6 rfl (lv_at hl 1 rfl) ?_
  refine lv_imul hx hb dX3_later_7 ?_
  refine lv_iload_n hx hb dX3_later_8 rfl (lv_at hl 2 rfl) ?_
  refine lv_iload_n hx hb dX3_later_9 rfl (lv_at hl 3 rfl) ?_
  refine lv_iadd hx hb dX3_later_10 ?_
  refine lv_bipush (v := (6 : Int32)) hx hb dX3_later_11 (by decide) ?_
  refine lv_irem hx hb dX3_later_13 (by decide) ?_
  refine lv_iadd hx hb dX3_later_14 ?_
  obtain ⟨g1, hf⟩ := gd_e hf
  refine w6_iald (j := (((6 : Int32) * p1) + ((p2 + p3) - (p2 + p3) / (6 : Int32) * (6 : Int32))).toNatClampNeg) F I (m_ar 12 12 (by decide) rfl) g1 rfl dX3_later_15 ?_
  exact hret _ _ _ _ _ dX3_later_16 (w6_mv (so_e hf).2 I) (so_e hf).1 rfl
def m_sum (V : Mm) (p1 : Int32) (p2 : Int32) (p3 : Int32) (p4 : Int32) (p5 : Int32) (p6 : Int32) : Option (Int32 × Mm) :=
  bi_ (m_later V p1 p4 p2) fun r3 V1 => bi_ (m_skillOf V1 p1 r3 p3) fun r6 V4 => bi_ (m_later V4 p1 p5 p2) fun r9 V7 => bi_ (m_skillOf V7 p1 r9 p3) fun r12 V10 => bi_ (m_later V10 p1 p6 p2) fun r15 V13 => bi_ (m_skillOf V13 p1 r15 p3) fun r18 V16 => some (((r6 + r12) + r18), V16)
theorem hdX3_sum : w6_hd yX3_sum 6 := by decide +kernel
abbrev rmX3_sum : Room := { frames := 1, cells := 0, slots := 0, locals := 23 }
set_option maxHeartbeats 4000000 in
set_option maxRecDepth 100000 in
theorem ctm_sum (l : Launch) (D : va_G) (g : Nat → ClassId) (ad : Nat → Nat) (V : Mm) (p1 : Int32) (p2 : Int32) (p3 : Int32) (p4 : Int32) (p5 : Int32) (p6 : Int32) (r : Int32) (V' : Mm) (hf : m_sum V p1 p2 p3 p4 p5 p6 = some (r, V'))  : CTi l D g yX3_sum cX3_sum 7 .int rmX3_sum [.ref (ad 0), .int p1, .int p2, .int p3, .int p4, .int p5, .int p6] (mw g ad V) (mw g ad V') r := by
  intro sz
  refine w6_starti RX3 (by decide) (Nat.le_of_ble_eq_true rfl) rfl ?_
  intro p e s m below meth c A ls Q hx hb hown hts F I hl hret
  have hl : lv_has ls 7 [(0, .ref (ad 0)), (1, .int p1), (2, .int p2), (3, .int p3), (4, .int p4), (5, .int p5), (6, .int p6)] := hl
  unfold m_sum at hf
  refine lv_aload_n hx hb dX3_sum_0 rfl (lv_at hl 0 rfl) ?_
  refine lv_iload_n hx hb dX3_sum_1 rfl (lv_at hl 1 rfl) ?_
  refine lv_aload_n hx hb dX3_sum_2 rfl (lv_at hl 0 rfl) ?_
  refine lv_iload_n hx hb dX3_sum_3 rfl (lv_at hl 1 rfl) ?_
  refine lv_iload hx hb dX3_sum_4 (lv_at hl 4 rfl) ?_
  refine lv_iload_n hx hb dX3_sum_6 rfl (lv_at hl 2 rfl) ?_
  obtain ⟨r3, V1, h2, hf⟩ := bi_e hf
  refine xz_Vi F I (ctm_later l D g ad V p1 p4 p2 r3 V1 h2 ) (lw_V q1009 q1011 qs42 q50 q1012) hdX3_later rfl (Nat.le_of_ble_eq_true rfl) (Nat.le_of_ble_eq_true rfl) (w6_recv F I mo_ob rfl) rfl hl.1 [.int p1, .ref (ad 0)] rfl (Nat.le_of_ble_eq_true rfl) dX3_sum_7 ⟨Nat.le_of_ble_eq_true rfl, Nat.le_of_ble_eq_true rfl⟩ (fun H locs I => ?_)
  refine lv_iload_n hx hb dX3_sum_10 rfl (lv_at hl 3 rfl) ?_
  obtain ⟨r6, V4, h5, hf⟩ := bi_e hf
  refine xz_Vi F I (ctm_skillOf l D g ad V1 p1 r3 p3 r6 V4 h5 ) (lw_V q837 q839 qs22 q50 q840) hdX3_skillOf rfl (Nat.le_of_ble_eq_true rfl) (Nat.le_of_ble_eq_true rfl) (w6_recv F I mo_ob rfl) rfl hl.1 [] rfl (Nat.le_of_ble_eq_true rfl) dX3_sum_11 ⟨Nat.le_of_ble_eq_true rfl, Nat.le_of_ble_eq_true rfl⟩ (fun H locs I => ?_)
  refine lv_aload_n hx hb dX3_sum_14 rfl (lv_at hl 0 rfl) ?_
  refine lv_iload_n hx hb dX3_sum_15 rfl (lv_at hl 1 rfl) ?_
  refine lv_aload_n hx hb dX3_sum_16 rfl (lv_at hl 0 rfl) ?_
  refine lv_iload_n hx hb dX3_sum_17 rfl (lv_at hl 1 rfl) ?_
  refine lv_iload hx hb dX3_sum_18 (lv_at hl 5 rfl) ?_
  refine lv_iload_n hx hb dX3_sum_20 rfl (lv_at hl 2 rfl) ?_
  obtain ⟨r9, V7, h8, hf⟩ := bi_e hf
  refine xz_Vi F I (ctm_later l D g ad V4 p1 p5 p2 r9 V7 h8 ) (lw_V q1009 q1011 qs42 q50 q1012) hdX3_later rfl (Nat.le_of_ble_eq_true rfl) (Nat.le_of_ble_eq_true rfl) (w6_recv F I mo_ob rfl) rfl hl.1 [.int p1, .ref (ad 0), .int r6] rfl (Nat.le_of_ble_eq_true rfl) dX3_sum_21 ⟨Nat.le_of_ble_eq_true rfl, Nat.le_of_ble_eq_true rfl⟩ (fun H locs I => ?_)
  refine lv_iload_n hx hb dX3_sum_24 rfl (lv_at hl 3 rfl) ?_
  obtain ⟨r12, V10, h11, hf⟩ := bi_e hf
  refine xz_Vi F I (ctm_skillOf l D g ad V7 p1 r9 p3 r12 V10 h11 ) (lw_V q837 q839 qs22 q50 q840) hdX3_skillOf rfl (Nat.le_of_ble_eq_true rfl) (Nat.le_of_ble_eq_true rfl) (w6_recv F I mo_ob rfl) rfl hl.1 [.int r6] rfl (Nat.le_of_ble_eq_true rfl) dX3_sum_25 ⟨Nat.le_of_ble_eq_true rfl, Nat.le_of_ble_eq_true rfl⟩ (fun H locs I => ?_)
  refine lv_iadd hx hb dX3_sum_28 ?_
  refine lv_aload_n hx hb dX3_sum_29 rfl (lv_at hl 0 rfl) ?_
  refine lv_iload_n hx hb dX3_sum_30 rfl (lv_at hl 1 rfl) ?_
  refine lv_aload_n hx hb dX3_sum_31 rfl (lv_at hl 0 rfl) ?_
  refine lv_iload_n hx hb dX3_sum_32 rfl (lv_at hl 1 rfl) ?_
  refine lv_iload hx hb dX3_sum_33 (lv_at hl 6 rfl) ?_
  refine lv_iload_n hx hb dX3_sum_35 rfl (lv_at hl 2 rfl) ?_
  obtain ⟨r15, V13, h14, hf⟩ := bi_e hf
  refine xz_Vi F I (ctm_later l D g ad V10 p1 p6 p2 r15 V13 h14 ) (lw_V q1009 q1011 qs42 q50 q1012) hdX3_later rfl (Nat.le_of_ble_eq_true rfl) (Nat.le_of_ble_eq_true rfl) (w6_recv F I mo_ob rfl) rfl hl.1 [.int p1, .ref (ad 0), .int (r6 + r12)] rfl (Nat.le_of_ble_eq_true rfl) dX3_sum_36 ⟨Nat.le_of_ble_eq_true rfl, Nat.le_of_ble_eq_true rfl⟩ (fun H locs I => ?_)
  refine lv_iload_n hx hb dX3_sum_39 rfl (lv_at hl 3 rfl) ?_
  obtain ⟨r18, V16, h17, hf⟩ := bi_e hf
  refine xz_Vi F I (ctm_skillOf l D g ad V13 p1 r15 p3 r18 V16 h17 ) (lw_V q837 q839 qs22 q50 q840) hdX3_skillOf rfl (Nat.le_of_ble_eq_true rfl) (Nat.le_of_ble_eq_true rfl) (w6_recv F I mo_ob rfl) rfl hl.1 [.int (r6 + r12)] rfl (Nat.le_of_ble_eq_true rfl) dX3_sum_40 ⟨Nat.le_of_ble_eq_true rfl, Nat.le_of_ble_eq_true rfl⟩ (fun H locs I => ?_)
  refine lv_iadd hx hb dX3_sum_43 ?_
  exact hret _ _ _ _ _ dX3_sum_44 (w6_mv (so_e hf).2 I) (so_e hf).1 rfl
def m_oddsOf_j20 (p1 : Int32) (p2 : Int32) (p3 : Int32) (V : Mm)  (a4 : Int32) (s0 : Int32) : Option (Int32 × Mm) :=
  bi_ (m_later V p3 (0 : Int32) a4) fun r3 V1 => bi_ (m_skillOf V1 p3 r3 (0 : Int32)) fun r6 V4 => bi_ (m_sum V4 ((1 : Int32) - p3) s0 (1 : Int32) (0 : Int32) (4 : Int32) (5 : Int32)) fun r9 V7 => bi_ (m_sum V7 p3 a4 (3 : Int32) (1 : Int32) (2 : Int32) (3 : Int32)) fun r12 V10 => bi_ (m_sum V10 ((1 : Int32) - p3) s0 (2 : Int32) (1 : Int32) (2 : Int32) (3 : Int32)) fun r15 V13 => lt_ ((((((380 : Int32) + r6) - (r9 / (3 : Int32))) + (r12 / (3 : Int32))) - (r15 / (3 : Int32)))) fun v16 => lt_ ((if v16 < (950 : Int32) then v16 else (950 : Int32))) fun v17 => lt_ ((if (50 : Int32) < v17 then v17 else (50 : Int32))) fun v18 => some (v18, V13)
def m_oddsOf_j9 (p1 : Int32) (p2 : Int32) (p3 : Int32) (V : Mm)  (s0 : Int32) : Option (Int32 × Mm) :=
  if p3 = (0 : Int32) then (m_oddsOf_j20 p1 p2 p3 V s0 p2) else (m_oddsOf_j20 p1 p2 p3 V s0 p1)
def m_oddsOf (V : Mm) (p1 : Int32) (p2 : Int32) (p3 : Int32) : Option (Int32 × Mm) :=
  if p3 = (0 : Int32) then (m_oddsOf_j9 p1 p2 p3 V p1) else (m_oddsOf_j9 p1 p2 p3 V p2)
theorem hdX3_oddsOf : w6_hd yX3_oddsOf 3 := by decide +kernel
abbrev rmX3_oddsOf : Room := { frames := 2, cells := 0, slots := 0, locals := 49 }
set_option maxHeartbeats 4000000 in
set_option maxRecDepth 100000 in
theorem ctm_oddsOf (l : Launch) (D : va_G) (g : Nat → ClassId) (ad : Nat → Nat) (V : Mm) (p1 : Int32) (p2 : Int32) (p3 : Int32) (r : Int32) (V' : Mm) (hf : m_oddsOf V p1 p2 p3 = some (r, V'))  : CTi l D g yX3_oddsOf cX3_oddsOf 7 .int rmX3_oddsOf [.ref (ad 0), .int p1, .int p2, .int p3] (mw g ad V) (mw g ad V') r := by
  intro sz
  refine w6_starti RX3 (by decide) (Nat.le_of_ble_eq_true rfl) rfl ?_
  intro p e s m below meth c A ls Q hx hb hown hts F I hl hret
  have hl : lv_has ls 7 [(0, .ref (ad 0)), (1, .int p1), (2, .int p2), (3, .int p3)] := hl
  have hJ20 : ∀ (V : Mm) (a4 : Int32) (s0 : Int32) (H : Heap) (locs : List Loc) (ls : Array Slot), m_oddsOf_j20 p1 p2 p3 V a4 s0 = some (r, V') → w6_I D (mw g ad V ++ []) A s H locs → lv_has ls 7 [(0, .ref (ad 0)), (3, .int p3), (4, .int a4)] → W p l e rmX3_oddsOf s m ([.ref (ad 0), .int p1, .int p2, .int p3] : List Value).toArray below meth c H locs 0 0 Q (F0 m 20 ls [.int s0]) := by
    intro V a4 s0 H locs ls hf I hl
    unfold m_oddsOf_j20 at hf
    refine lv_istore (lv' := [(5, .int s0), (0, .ref (ad 0)), (3, .int p3), (4, .int a4)]) hx hb dX3_oddsOf_20 hl (by decide) rfl (fun ls hl => ?_)
    refine lv_sipush (v := (380 : Int32)) hx hb dX3_oddsOf_22 (by decide) ?_
    refine lv_aload_n hx hb dX3_oddsOf_25 rfl (lv_at hl 1 rfl) ?_
    refine lv_iload_n hx hb dX3_oddsOf_26 rfl (lv_at hl 2 rfl) ?_
    refine lv_aload_n hx hb dX3_oddsOf_27 rfl (lv_at hl 1 rfl) ?_
    refine lv_iload_n hx hb dX3_oddsOf_28 rfl (lv_at hl 2 rfl) ?_
    refine lv_iconst (v := (0 : Int32)) hx hb dX3_oddsOf_29 (by decide) ?_
    refine lv_iload hx hb dX3_oddsOf_30 (lv_at hl 3 rfl) ?_
    obtain ⟨r3, V1, h2, hf⟩ := bi_e hf
    refine xz_Vi F I (ctm_later l D g ad V p3 (0 : Int32) a4 r3 V1 h2 ) (lw_V q1009 q1011 qs42 q50 q1012) hdX3_later rfl (Nat.le_of_ble_eq_true rfl) (Nat.le_of_ble_eq_true rfl) (w6_recv F I mo_ob rfl) rfl hl.1 [.int p3, .ref (ad 0), .int (380 : Int32)] rfl (Nat.le_of_ble_eq_true rfl) dX3_oddsOf_32 ⟨Nat.le_of_ble_eq_true rfl, Nat.le_of_ble_eq_true rfl⟩ (fun H locs I => ?_)
    refine lv_iconst (v := (0 : Int32)) hx hb dX3_oddsOf_35 (by decide) ?_
    obtain ⟨r6, V4, h5, hf⟩ := bi_e hf
    refine xz_Vi F I (ctm_skillOf l D g ad V1 p3 r3 (0 : Int32) r6 V4 h5 ) (lw_V q837 q839 qs22 q50 q840) hdX3_skillOf rfl (Nat.le_of_ble_eq_true rfl) (Nat.le_of_ble_eq_true rfl) (w6_recv F I mo_ob rfl) rfl hl.1 [.int (380 : Int32)] rfl (Nat.le_of_ble_eq_true rfl) dX3_oddsOf_36 ⟨Nat.le_of_ble_eq_true rfl, Nat.le_of_ble_eq_true rfl⟩ (fun H locs I => ?_)
    refine lv_iadd hx hb dX3_oddsOf_39 ?_
    refine lv_aload_n hx hb dX3_oddsOf_40 rfl (lv_at hl 1 rfl) ?_
    refine lv_iconst (v := (1 : Int32)) hx hb dX3_oddsOf_41 (by decide) ?_
    refine lv_iload_n hx hb dX3_oddsOf_42 rfl (lv_at hl 2 rfl) ?_
    refine lv_isub hx hb dX3_oddsOf_43 ?_
    refine lv_iload hx hb dX3_oddsOf_44 (lv_at hl 0 rfl) ?_
    refine lv_iconst (v := (1 : Int32)) hx hb dX3_oddsOf_46 (by decide) ?_
    refine lv_iconst (v := (0 : Int32)) hx hb dX3_oddsOf_47 (by decide) ?_
    refine lv_iconst (v := (4 : Int32)) hx hb dX3_oddsOf_48 (by decide) ?_
    refine lv_iconst (v := (5 : Int32)) hx hb dX3_oddsOf_49 (by decide) ?_
    obtain ⟨r9, V7, h8, hf⟩ := bi_e hf
    refine xz_Vi F I (ctm_sum l D g ad V4 ((1 : Int32) - p3) s0 (1 : Int32) (0 : Int32) (4 : Int32) (5 : Int32) r9 V7 h8 ) (lw_V q1013 q1015 qs43 q50 q1016) hdX3_sum rfl (Nat.le_of_ble_eq_true rfl) (Nat.le_of_ble_eq_true rfl) (w6_recv F I mo_ob rfl) rfl hl.1 [.int ((380 : Int32) + r6)] rfl (Nat.le_of_ble_eq_true rfl) dX3_oddsOf_50 ⟨Nat.le_of_ble_eq_true rfl, Nat.le_of_ble_eq_true rfl⟩ (fun H locs I => ?_)
    refine lv_iconst (v := (3 : Int32)) hx hb dX3_oddsOf_53 (by decide) ?_
    refine lv_idiv hx hb dX3_oddsOf_54 (by decide) ?_
    refine lv_isub hx hb dX3_oddsOf_55 ?_
    refine lv_aload_n hx hb dX3_oddsOf_56 rfl (lv_at hl 1 rfl) ?_
    refine lv_iload_n hx hb dX3_oddsOf_57 rfl (lv_at hl 2 rfl) ?_
    refine lv_iload hx hb dX3_oddsOf_58 (lv_at hl 3 rfl) ?_
    refine lv_iconst (v := (3 : Int32)) hx hb dX3_oddsOf_60 (by decide) ?_
    refine lv_iconst (v := (1 : Int32)) hx hb dX3_oddsOf_61 (by decide) ?_
    refine lv_iconst (v := (2 : Int32)) hx hb dX3_oddsOf_62 (by decide) ?_
    refine lv_iconst (v := (3 : Int32)) hx hb dX3_oddsOf_63 (by decide) ?_
    obtain ⟨r12, V10, h11, hf⟩ := bi_e hf
    refine xz_Vi F I (ctm_sum l D g ad V7 p3 a4 (3 : Int32) (1 : Int32) (2 : Int32) (3 : Int32) r12 V10 h11 ) (lw_V q1013 q1015 qs43 q50 q1016) hdX3_sum rfl (Nat.le_of_ble_eq_true rfl) (Nat.le_of_ble_eq_true rfl) (w6_recv F I mo_ob rfl) rfl hl.1 [.int (((380 : Int32) + r6) - (r9 / (3 : Int32)))] rfl (Nat.le_of_ble_eq_true rfl) dX3_oddsOf_64 ⟨Nat.le_of_ble_eq_true rfl, Nat.le_of_ble_eq_true rfl⟩ (fun H locs I => ?_)
    refine lv_iconst (v := (3 : Int32)) hx hb dX3_oddsOf_67 (by decide) ?_
    refine lv_idiv hx hb dX3_oddsOf_68 (by decide) ?_
    refine lv_iadd hx hb dX3_oddsOf_69 ?_
    refine lv_aload_n hx hb dX3_oddsOf_70 rfl (lv_at hl 1 rfl) ?_
    refine lv_iconst (v := (1 : Int32)) hx hb dX3_oddsOf_71 (by decide) ?_
    refine lv_iload_n hx hb dX3_oddsOf_72 rfl (lv_at hl 2 rfl) ?_
    refine lv_isub hx hb dX3_oddsOf_73 ?_
    refine lv_iload hx hb dX3_oddsOf_74 (lv_at hl 0 rfl) ?_
    refine lv_iconst (v := (2 : Int32)) hx hb dX3_oddsOf_76 (by decide) ?_
    refine lv_iconst (v := (1 : Int32)) hx hb dX3_oddsOf_77 (by decide) ?_
    refine lv_iconst (v := (2 : Int32)) hx hb dX3_oddsOf_78 (by decide) ?_
    refine lv_iconst (v := (3 : Int32)) hx hb dX3_oddsOf_79 (by decide) ?_
    obtain ⟨r15, V13, h14, hf⟩ := bi_e hf
    refine xz_Vi F I (ctm_sum l D g ad V10 ((1 : Int32) - p3) s0 (2 : Int32) (1 : Int32) (2 : Int32) (3 : Int32) r15 V13 h14 ) (lw_V q1013 q1015 qs43 q50 q1016) hdX3_sum rfl (Nat.le_of_ble_eq_true rfl) (Nat.le_of_ble_eq_true rfl) (w6_recv F I mo_ob rfl) rfl hl.1 [.int ((((380 : Int32) + r6) - (r9 / (3 : Int32))) + (r12 / (3 : Int32)))] rfl (Nat.le_of_ble_eq_true rfl) dX3_oddsOf_80 ⟨Nat.le_of_ble_eq_true rfl, Nat.le_of_ble_eq_true rfl⟩ (fun H locs I => ?_)
    refine lv_iconst (v := (3 : Int32)) hx hb dX3_oddsOf_83 (by decide) ?_
    refine lv_idiv hx hb dX3_oddsOf_84 (by decide) ?_
    refine lv_isub hx hb dX3_oddsOf_85 ?_
    obtain ⟨v16, ev16, hf⟩ := lt_e hf
    refine w6_nmi ev16 ?_
    refine lv_istore (lv' := [(6, .int v16), (5, .int s0), (0, .ref (ad 0)), (3, .int p3), (4, .int a4)]) hx hb dX3_oddsOf_86 hl (by decide) rfl (fun ls hl => ?_)
    refine lv_bipush (v := (50 : Int32)) hx hb dX3_oddsOf_88 (by decide) ?_
    refine lv_sipush (v := (950 : Int32)) hx hb dX3_oddsOf_90 (by decide) ?_
    refine lv_iload hx hb dX3_oddsOf_93 (lv_at hl 0 rfl) ?_
    refine va_mmin hx hb (by rw [F.1.2.2.1]; exact hl.1.symm) hown (hts _ q977) (hts _ q398) (hts _ q52) (hts _ q399) (Nat.le_of_ble_eq_true rfl) (Nat.le_of_ble_eq_true rfl) (Nat.le_of_ble_eq_true rfl) (Nat.le_of_ble_eq_true rfl) dX3_oddsOf_95 ?_
    obtain ⟨v17, ev17, hf⟩ := lt_e hf
    refine w6_nmi ev17 ?_
    refine va_mmax hx hb (by rw [F.1.2.2.1]; exact hl.1.symm) hown (hts _ q1017) (hts _ q510) (hts _ q52) (hts _ q511) (Nat.le_of_ble_eq_true rfl) (Nat.le_of_ble_eq_true rfl) (Nat.le_of_ble_eq_true rfl) (Nat.le_of_ble_eq_true rfl) dX3_oddsOf_98 ?_
    obtain ⟨v18, ev18, hf⟩ := lt_e hf
    refine w6_nmi ev18 ?_
    exact hret _ _ _ _ _ dX3_oddsOf_101 (w6_mv (so_e hf).2 I) (so_e hf).1 rfl
  have hJ9 : ∀ (V : Mm) (s0 : Int32) (H : Heap) (locs : List Loc) (ls : Array Slot), m_oddsOf_j9 p1 p2 p3 V s0 = some (r, V') → w6_I D (mw g ad V ++ []) A s H locs → lv_has ls 7 [(0, .ref (ad 0)), (1, .int p1), (2, .int p2), (3, .int p3)] → W p l e rmX3_oddsOf s m ([.ref (ad 0), .int p1, .int p2, .int p3] : List Value).toArray below meth c H locs 0 0 Q (F0 m 9 ls [.int s0]) := by
    intro V s0 H locs ls hf I hl
    unfold m_oddsOf_j9 at hf
    refine lv_istore (lv' := [(4, .int s0), (0, .ref (ad 0)), (1, .int p1), (2, .int p2), (3, .int p3)]) hx hb dX3_oddsOf_9 hl (by decide) rfl (fun ls hl => ?_)
    refine lv_iload_n hx hb dX3_oddsOf_11 rfl (lv_at hl 4 rfl) ?_
    refine lv_if_ne (tgt := 19) hx hb dX3_oddsOf_12 (by decide) (fun c => ?_) (fun c => ?_)
    · have hf := if_n c hf
      refine lv_iload_n hx hb dX3_oddsOf_19 rfl (lv_at hl 2 rfl) ?_
      exact hJ20 V s0 p1 _ _ ls hf I (lv_sub hl [1, 4, 0] rfl)
    · have hf := if_p c hf
      refine lv_iload_n hx hb dX3_oddsOf_15 rfl (lv_at hl 3 rfl) ?_
      refine lv_goto (tgt := 20) hx hb dX3_oddsOf_16 (by decide) ?_
      exact hJ20 V s0 p2 _ _ ls hf I (lv_sub hl [1, 4, 0] rfl)
  unfold m_oddsOf at hf
  refine lv_iload_n hx hb dX3_oddsOf_0 rfl (lv_at hl 3 rfl) ?_
  refine lv_if_ne (tgt := 8) hx hb dX3_oddsOf_1 (by decide) (fun c => ?_) (fun c => ?_)
  · have hf := if_n c hf
    refine lv_iload_n hx hb dX3_oddsOf_8 rfl (lv_at hl 2 rfl) ?_
    exact hJ9 V p2 _ _ ls hf I (lv_sub hl [0, 1, 2, 3] rfl)
  · have hf := if_p c hf
    refine lv_iload_n hx hb dX3_oddsOf_4 rfl (lv_at hl 1 rfl) ?_
    refine lv_goto (tgt := 9) hx hb dX3_oddsOf_5 (by decide) ?_
    exact hJ9 V p1 _ _ ls hf I (lv_sub hl [0, 1, 2, 3] rfl)
def m_odds (V : Mm) (p1 : Int32) (p2 : Int32) (p3 : Int32) : Option (Int32 × Mm) :=
  lt_ (mset V 0 13 (0 : Int32)) fun V1 => bi_ (m_isOn V1) fun r4 V2 => if r4 = (0 : Int32) then (some ((-1 : Int32), V2)) else (if (pm_in p1 (0 : Int32) (5 : Int32)) = (0 : Int32) then (some ((-1 : Int32), V2)) else (if (pm_in p2 (0 : Int32) (5 : Int32)) = (0 : Int32) then (some ((-1 : Int32), V2)) else (if (pm_isTeam p3) = (0 : Int32) then (some ((-1 : Int32), V2)) else ((m_countNow V2).bind fun V5 => bi_ (m_oddsOf V5 p1 p2 p3) fun r9 V7 => some (r9, V7)))))
theorem hdX3_odds : w6_hd yX3_odds 3 := by decide +kernel
abbrev rmX3_odds : Room := { frames := 3, cells := 0, slots := 0, locals := 75 }
set_option maxHeartbeats 4000000 in
set_option maxRecDepth 100000 in
theorem ctm_odds (l : Launch) (D : va_G) (g : Nat → ClassId) (ad : Nat → Nat) (V : Mm) (p1 : Int32) (p2 : Int32) (p3 : Int32) (r : Int32) (V' : Mm) (hf : m_odds V p1 p2 p3 = some (r, V'))  : CTi l D g yX3_odds cX3_odds 4 .int rmX3_odds [.ref (ad 0), .int p1, .int p2, .int p3] (mw g ad V) (mw g ad V') r := by
  intro sz
  refine w6_starti RX3 (by decide) (Nat.le_of_ble_eq_true rfl) rfl ?_
  intro p e s m below meth c A ls Q hx hb hown hts F I hl hret
  have hl : lv_has ls 4 [(0, .ref (ad 0)), (1, .int p1), (2, .int p2), (3, .int p3)] := hl
  unfold m_odds at hf
  refine lv_aload_n hx hb dX3_odds_0 rfl (lv_at hl 0 rfl) ?_
  refine lv_iconst (v := (0 : Int32)) hx hb dX3_odds_1 (by decide) ?_
  obtain ⟨V1, eV1, hf⟩ := lt_e hf
  refine w6_put msh_lc F I mo_ob rfl in_X3 tyX3 tyX3_ok nmX3 13 (by decide) (mo_nf 13 (by decide)) q777 rfl rfl (tyX3_ok 13 (by decide)) rfl rfl dX3_odds_2 eV1 (fun H locs I => ?_)
  refine lv_aload_n hx hb dX3_odds_5 rfl (lv_at hl 0 rfl) ?_
  obtain ⟨r4, V2, h3, hf⟩ := bi_e hf
  refine xz_Vi F I (ctm_isOn l D g ad V1 r4 V2 h3 ) (lw_V q845 q847 qs23 q50 q848) hdX3_isOn rfl (Nat.le_of_ble_eq_true rfl) (Nat.le_of_ble_eq_true rfl) (w6_recv F I mo_ob rfl) rfl hl.1 [] rfl (Nat.le_of_ble_eq_true rfl) dX3_odds_6 ⟨Nat.le_of_ble_eq_true rfl, Nat.le_of_ble_eq_true rfl⟩ (fun H locs I => ?_)
  refine lv_if_eq (tgt := 37) hx hb dX3_odds_9 (by decide) (fun c => ?_) (fun c => ?_)
  · have hf := if_p c hf
    refine lv_iconst (v := (-1 : Int32)) hx hb dX3_odds_37 (by decide) ?_
    exact hret _ _ _ _ _ dX3_odds_38 (w6_mv (so_e hf).2 I) (so_e hf).1 rfl
  · have hf := if_n c hf
    refine lv_iload_n hx hb dX3_odds_12 rfl (lv_at hl 1 rfl) ?_
    refine lv_iconst (v := (0 : Int32)) hx hb dX3_odds_13 (by decide) ?_
    refine lv_iconst (v := (5 : Int32)) hx hb dX3_odds_14 (by decide) ?_
    refine xz_Pi F I (ctpm_in l D g p1 (0 : Int32) (5 : Int32) _ rfl) (lw_S q834 q835 q50 q836) hdX3_in (Nat.le_of_ble_eq_true rfl) (Nat.le_of_ble_eq_true rfl) rfl hl.1 [] rfl (Nat.le_of_ble_eq_true rfl) dX3_odds_15 ⟨Nat.le_of_ble_eq_true rfl, Nat.le_of_ble_eq_true rfl⟩ (fun H locs I => ?_)
    refine lv_if_eq (tgt := 37) hx hb dX3_odds_18 (by decide) (fun c => ?_) (fun c => ?_)
    · have hf := if_p c hf
      refine lv_iconst (v := (-1 : Int32)) hx hb dX3_odds_37 (by decide) ?_
      exact hret _ _ _ _ _ dX3_odds_38 (w6_mv (so_e hf).2 I) (so_e hf).1 rfl
    · have hf := if_n c hf
      refine lv_iload_n hx hb dX3_odds_21 rfl (lv_at hl 2 rfl) ?_
      refine lv_iconst (v := (0 : Int32)) hx hb dX3_odds_22 (by decide) ?_
      refine lv_iconst (v := (5 : Int32)) hx hb dX3_odds_23 (by decide) ?_
      refine xz_Pi F I (ctpm_in l D g p2 (0 : Int32) (5 : Int32) _ rfl) (lw_S q834 q835 q50 q836) hdX3_in (Nat.le_of_ble_eq_true rfl) (Nat.le_of_ble_eq_true rfl) rfl hl.1 [] rfl (Nat.le_of_ble_eq_true rfl) dX3_odds_24 ⟨Nat.le_of_ble_eq_true rfl, Nat.le_of_ble_eq_true rfl⟩ (fun H locs I => ?_)
      refine lv_if_eq (tgt := 37) hx hb dX3_odds_27 (by decide) (fun c => ?_) (fun c => ?_)
      · have hf := if_p c hf
        refine lv_iconst (v := (-1 : Int32)) hx hb dX3_odds_37 (by decide) ?_
        exact hret _ _ _ _ _ dX3_odds_38 (w6_mv (so_e hf).2 I) (so_e hf).1 rfl
      · have hf := if_n c hf
        refine lv_iload_n hx hb dX3_odds_30 rfl (lv_at hl 3 rfl) ?_
        refine xz_Pi F I (ctpm_isTeam l D g p3 _ rfl) (lw_S q828 q829 q50 q830) hdX3_isTeam (Nat.le_of_ble_eq_true rfl) (Nat.le_of_ble_eq_true rfl) rfl hl.1 [] rfl (Nat.le_of_ble_eq_true rfl) dX3_odds_31 ⟨Nat.le_of_ble_eq_true rfl, Nat.le_of_ble_eq_true rfl⟩ (fun H locs I => ?_)
        refine lv_if_ne (tgt := 39) hx hb dX3_odds_34 (by decide) (fun c => ?_) (fun c => ?_)
        · have hf := if_n c hf
          refine lv_aload_n hx hb dX3_odds_39 rfl (lv_at hl 0 rfl) ?_
          obtain ⟨V5, h6, hf⟩ := bn_e hf
          refine xz_Vv F I (ctm_countNow l D g ad V2 V5 h6 ) (lw_V q1001 q1003 qs40 q50 q1004) hdX3_countNow rfl (Nat.le_of_ble_eq_true rfl) (Nat.le_of_ble_eq_true rfl) (w6_recv F I mo_ob rfl) rfl hl.1 [] rfl (Nat.le_of_ble_eq_true rfl) dX3_odds_40 ⟨Nat.le_of_ble_eq_true rfl, Nat.le_of_ble_eq_true rfl⟩ (fun H locs I => ?_)
          refine lv_aload_n hx hb dX3_odds_43 rfl (lv_at hl 0 rfl) ?_
          refine lv_iload_n hx hb dX3_odds_44 rfl (lv_at hl 1 rfl) ?_
          refine lv_iload_n hx hb dX3_odds_45 rfl (lv_at hl 2 rfl) ?_
          refine lv_iload_n hx hb dX3_odds_46 rfl (lv_at hl 3 rfl) ?_
          obtain ⟨r9, V7, h8, hf⟩ := bi_e hf
          refine xz_Vi F I (ctm_oddsOf l D g ad V5 p1 p2 p3 r9 V7 h8 ) (lw_V q1005 q1007 qs41 q50 q1008) hdX3_oddsOf rfl (Nat.le_of_ble_eq_true rfl) (Nat.le_of_ble_eq_true rfl) (w6_recv F I mo_ob rfl) rfl hl.1 [] rfl (Nat.le_of_ble_eq_true rfl) dX3_odds_47 ⟨Nat.le_of_ble_eq_true rfl, Nat.le_of_ble_eq_true rfl⟩ (fun H locs I => ?_)
          exact hret _ _ _ _ _ dX3_odds_50 (w6_mv (so_e hf).2 I) (so_e hf).1 rfl
        · have hf := if_p c hf
          refine lv_iconst (v := (-1 : Int32)) hx hb dX3_odds_37 (by decide) ?_
          exact hret _ _ _ _ _ dX3_odds_38 (w6_mv (so_e hf).2 I) (so_e hf).1 rfl
def m_fill_j368 (rec79 : Mm → Int32 → Int32 → Option Mm) (p1 : Int32) (V : Mm)  (a2 : Int32) (a3 : Int32) : Option Mm :=
  lt_ (a3 + (-1 : Int32)) fun v5 => rec79 V a2 v5
def m_fill_j362 (rec79 : Mm → Int32 → Int32 → Option Mm) (rec92 : Mm → Int32 → Int32 → Int32 → Option Mm) (p1 : Int32) (V : Mm)  (a2 : Int32) (a3 : Int32) (a4 : Int32) : Option Mm :=
  lt_ (a4 + (1 : Int32)) fun v13 => rec92 V a2 a3 v13
def m_fill_j356 (rec79 : Mm → Int32 → Int32 → Option Mm) (rec92 : Mm → Int32 → Int32 → Int32 → Option Mm) (rec150 : Mm → Int32 → Int32 → Int32 → Int32 → Int64 → Int32 → Option Mm) (p1 : Int32) (V : Mm)  (a2 : Int32) (a3 : Int32) (a4 : Int32) (a5 : Int32) (a6 : Int64) (a8 : Int32) : Option Mm :=
  lt_ (a8 + (1 : Int32)) fun v14 => rec150 V a2 a3 a4 a5 a6 v14
def m_fill_j349 (rec79 : Mm → Int32 → Int32 → Option Mm) (rec92 : Mm → Int32 → Int32 → Int32 → Option Mm) (rec150 : Mm → Int32 → Int32 → Int32 → Int32 → Int64 → Int32 → Option Mm) (rec160 : Mm → Int32 → Int32 → Int32 → Int32 → Int64 → Int32 → Int32 → Option Mm) (p1 : Int32) (V : Mm)  (a2 : Int32) (a3 : Int32) (a4 : Int32) (a5 : Int32) (a6 : Int64) (a8 : Int32) (a9 : Int32) (s0 : Int64) (s1 : Int32) : Option Mm :=
  gd_ (ix_ s1 69192) (lt_ (lset V s1.toNatClampNeg s0) fun V24 => lt_ (a9 + (1 : Int32)) fun v25 => rec160 V24 a2 a3 a4 a5 a6 a8 v25)
def m_fill_j256 (rec79 : Mm → Int32 → Int32 → Option Mm) (rec92 : Mm → Int32 → Int32 → Int32 → Option Mm) (rec150 : Mm → Int32 → Int32 → Int32 → Int32 → Int64 → Int32 → Option Mm) (rec160 : Mm → Int32 → Int32 → Int32 → Int32 → Int64 → Int32 → Int32 → Option Mm) (p1 : Int32) (V : Mm)  (a2 : Int32) (a3 : Int32) (a4 : Int32) (a5 : Int32) (a6 : Int64) (a8 : Int32) (a9 : Int32) (s0 : Int64) (s1 : Int32) : Option Mm :=
  gd_ (ix_ s1 69192) (lt_ (lset V s1.toNatClampNeg s0) fun V19 => if (lg_cmp a6 (-1 : Int64)) = (0 : Int32) then (gd_ (ix_ ((((6 : Int32) + a8) * (6 : Int32)) + a9) 72) (gd_ (ix_ (pm_cell a4 (a5 + (1 : Int32)) (1 : Int32) a8 a9) 69192) (gd_ (ix_ (pm_cell (a4 + (1 : Int32)) a5 (0 : Int32) ((a8 + (1 : Int32)) - (a8 + (1 : Int32)) / (6 : Int32) * (6 : Int32)) a9) 69192) (m_fill_j349 rec79 rec92 rec150 rec160 p1 V19 a2 a3 a4 a5 a6 a8 a9 (pm_mean (V19.1 13 (((((6 : Int32) + a8) * (6 : Int32)) + a9).toNatClampNeg)) (V19.2 ((pm_cell a4 (a5 + (1 : Int32)) (1 : Int32) a8 a9).toNatClampNeg)) (V19.2 ((pm_cell (a4 + (1 : Int32)) a5 (0 : Int32) ((a8 + (1 : Int32)) - (a8 + (1 : Int32)) / (6 : Int32) * (6 : Int32)) a9).toNatClampNeg))) (pm_cell a4 a5 (1 : Int32) a8 a9))))) else (m_fill_j349 rec79 rec92 rec150 rec160 p1 V19 a2 a3 a4 a5 a6 a8 a9 a6 (pm_cell a4 a5 (1 : Int32) a8 a9)))
def m_fill_l160 (rec79 : Mm → Int32 → Int32 → Option Mm) (rec92 : Mm → Int32 → Int32 → Int32 → Option Mm) (rec150 : Mm → Int32 → Int32 → Int32 → Int32 → Int64 → Int32 → Option Mm) (p1 : Int32) : Nat → Mm → Int32 → Int32 → Int32 → Int32 → Int64 → Int32 → Int32 → Option Mm
  | 0, _, _, _, _, _, _, _, _ => none
  | n160 + 1, V, a2, a3, a4, a5, a6, a8, a9 =>
  if (6 : Int32) ≤ a9 then (m_fill_j356 rec79 rec92 rec150 p1 V a2 a3 a4 a5 a6 a8) else (if (lg_cmp a6 (-1 : Int64)) = (0 : Int32) then (gd_ (ix_ ((a8 * (6 : Int32)) + a9) 72) (gd_ (ix_ (pm_cell (a4 + (1 : Int32)) a5 (0 : Int32) a8 a9) 69192) (gd_ (ix_ (pm_cell a4 (a5 + (1 : Int32)) (1 : Int32) a8 ((a9 + (1 : Int32)) - (a9 + (1 : Int32)) / (6 : Int32) * (6 : Int32))) 69192) (m_fill_j256 rec79 rec92 rec150 (m_fill_l160 rec79 rec92 rec150 p1 n160) p1 V a2 a3 a4 a5 a6 a8 a9 (pm_mean (V.1 13 (((a8 * (6 : Int32)) + a9).toNatClampNeg)) (V.2 ((pm_cell (a4 + (1 : Int32)) a5 (0 : Int32) a8 a9).toNatClampNeg)) (V.2 ((pm_cell a4 (a5 + (1 : Int32)) (1 : Int32) a8 ((a9 + (1 : Int32)) - (a9 + (1 : Int32)) / (6 : Int32) * (6 : Int32))).toNatClampNeg))) (pm_cell a4 a5 (0 : Int32) a8 a9))))) else (m_fill_j256 rec79 rec92 rec150 (m_fill_l160 rec79 rec92 rec150 p1 n160) p1 V a2 a3 a4 a5 a6 a8 a9 a6 (pm_cell a4 a5 (0 : Int32) a8 a9)))
def m_fill_l150 (rec79 : Mm → Int32 → Int32 → Option Mm) (rec92 : Mm → Int32 → Int32 → Int32 → Option Mm) (p1 : Int32) : Nat → Mm → Int32 → Int32 → Int32 → Int32 → Int64 → Int32 → Option Mm
  | 0, _, _, _, _, _, _, _ => none
  | n150 + 1, V, a2, a3, a4, a5, a6, a8 =>
  if (6 : Int32) ≤ a8 then (m_fill_j362 rec79 rec92 p1 V a2 a3 a4) else (m_fill_l160 rec79 rec92 (m_fill_l150 rec79 rec92 p1 n150) p1 200 V a2 a3 a4 a5 a6 a8 (0 : Int32))
def m_fill_j145 (rec79 : Mm → Int32 → Int32 → Option Mm) (rec92 : Mm → Int32 → Int32 → Int32 → Option Mm) (p1 : Int32) (V : Mm)  (a2 : Int32) (a3 : Int32) (a4 : Int32) (a5 : Int32) (s0 : Int64) : Option Mm :=
  m_fill_l150 rec79 rec92 p1 200 V a2 a3 a4 a5 s0 (0 : Int32)
def m_fill_l92 (rec79 : Mm → Int32 → Int32 → Option Mm) (p1 : Int32) : Nat → Mm → Int32 → Int32 → Int32 → Option Mm
  | 0, _, _, _, _ => none
  | n92 + 1, V, a2, a3, a4 =>
  lt_ ((if a3 < a2 then a3 else a2)) fun v4 => if v4 < a4 then (m_fill_j368 rec79 p1 V a2 a3) else (lt_ ((a3 - a4)) fun v6 => bi_ (m_wins V a4 v6 p1) fun r9 V7 => if r9 = (0 : Int32) then (bi_ (m_wins V7 v6 a4 p1) fun r12 V10 => if r12 = (0 : Int32) then (m_fill_j145 rec79 (m_fill_l92 rec79 p1 n92) p1 V10 a2 a3 a4 v6 (-1 : Int64)) else (m_fill_j145 rec79 (m_fill_l92 rec79 p1 n92) p1 V10 a2 a3 a4 v6 (0 : Int64))) else (m_fill_j145 rec79 (m_fill_l92 rec79 p1 n92) p1 V7 a2 a3 a4 v6 (1000000000 : Int64)))
def m_fill_l79 (p1 : Int32) : Nat → Mm → Int32 → Int32 → Option Mm
  | 0, _, _, _ => none
  | n79 + 1, V, a2, a3 =>
  if a3 < (0 : Int32) then (some V) else (lt_ ((if (0 : Int32) < (a3 - a2) then (a3 - a2) else (0 : Int32))) fun v3 => m_fill_l92 (m_fill_l79 p1 n79) p1 200 V a2 a3 v3)
def m_fill_j68 (p1 : Int32) (V : Mm)   : Option Mm :=
  lt_ ((V.1 3 1)) fun v1 => lt_ (((2 : Int32) * v1)) fun v2 => m_fill_l79 p1 200 V v1 v2
def m_fill_j62 (rec2 : Mm → Int32 → Option Mm) (p1 : Int32) (V : Mm)  (a2 : Int32) : Option Mm :=
  lt_ (a2 + (1 : Int32)) fun v26 => rec2 V v26
def m_fill_j56 (rec2 : Mm → Int32 → Option Mm) (rec10 : Mm → Int32 → Int32 → Option Mm) (p1 : Int32) (V : Mm)  (a2 : Int32) (a3 : Int32) : Option Mm :=
  lt_ (a3 + (1 : Int32)) fun v27 => rec10 V a2 v27
def m_fill_l19 (rec2 : Mm → Int32 → Option Mm) (rec10 : Mm → Int32 → Int32 → Option Mm) (p1 : Int32) : Nat → Mm → Int32 → Int32 → Int32 → Option Mm
  | 0, _, _, _, _ => none
  | n19 + 1, V, a2, a3, a4 =>
  if (2 : Int32) ≤ a4 then (m_fill_j56 rec2 rec10 p1 V a2 a3) else (bi_ (m_oddsOf V a2 a3 a4) fun r30 V28 => gd_ (ix_ ((((a4 * (6 : Int32)) + a2) * (6 : Int32)) + a3) 72) (lt_ (mset V28 13 (((((a4 * (6 : Int32)) + a2) * (6 : Int32)) + a3).toNatClampNeg) r30) fun V32 => lt_ (a4 + (1 : Int32)) fun v33 => m_fill_l19 rec2 rec10 p1 n19 V32 a2 a3 v33))
def m_fill_l10 (rec2 : Mm → Int32 → Option Mm) (p1 : Int32) : Nat → Mm → Int32 → Int32 → Option Mm
  | 0, _, _, _ => none
  | n10 + 1, V, a2, a3 =>
  if (6 : Int32) ≤ a3 then (m_fill_j62 rec2 p1 V a2) else (m_fill_l19 rec2 (m_fill_l10 rec2 p1 n10) p1 200 V a2 a3 (0 : Int32))
def m_fill_l2 (p1 : Int32) : Nat → Mm → Int32 → Option Mm
  | 0, _, _ => none
  | n2 + 1, V, a2 =>
  if (6 : Int32) ≤ a2 then (m_fill_j68 p1 V) else (m_fill_l10 (m_fill_l2 p1 n2) p1 200 V a2 (0 : Int32))
def m_fill (V : Mm) (p1 : Int32) : Option Mm :=
  m_fill_l2 p1 200 V (0 : Int32)
theorem hdX3_fill : w6_hd yX3_fill 1 := by decide +kernel
abbrev rmX3_fill : Room := { frames := 3, cells := 0, slots := 0, locals := 75 }
set_option maxHeartbeats 4000000 in
set_option maxRecDepth 100000 in
theorem ctm_fill (l : Launch) (D : va_G) (g : Nat → ClassId) (ad : Nat → Nat) (V : Mm) (p1 : Int32) (V' : Mm) (hf : m_fill V p1 = some V')  : CTv l D g yX3_fill cX3_fill 10 rmX3_fill [.ref (ad 0), .int p1] (mw g ad V) (mw g ad V') := by
  intro sz
  refine w6_startv RX3 (by decide) (Nat.le_of_ble_eq_true rfl) rfl ?_
  intro p e s m below meth c A ls Q hx hb hown hts F I hl hret
  have hl : lv_has ls 10 [(0, .ref (ad 0)), (1, .int p1)] := hl
  have hL79 : ∀ (n79 : Nat) (V : Mm) (a2 : Int32) (a3 : Int32) (H : Heap) (locs : List Loc) (ls : Array Slot), m_fill_l79 p1 n79 V a2 a3 = some V' → w6_I D (mw g ad V ++ []) A s H locs → lv_has ls 10 [(0, .ref (ad 0)), (1, .int p1), (2, .int a2), (3, .int a3)] → W p l e rmX3_fill s m ([.ref (ad 0), .int p1] : List Value).toArray below meth c H locs 0 0 Q (F0 m 79 ls []) := by
    intro n79
    induction n79 with
    | zero =>
      intro V a2 a3 H locs ls hf
      rw [m_fill_l79] at hf
      cases hf
    | succ n79 ih79 =>
      have hJ368 : ∀ (V : Mm) (a2 : Int32) (a3 : Int32) (H : Heap) (locs : List Loc) (ls : Array Slot), m_fill_j368 (m_fill_l79 p1 n79) p1 V a2 a3 = some V' → w6_I D (mw g ad V ++ []) A s H locs → lv_has ls 10 [(0, .ref (ad 0)), (1, .int p1), (2, .int a2), (3, .int a3)] → W p l e rmX3_fill s m ([.ref (ad 0), .int p1] : List Value).toArray below meth c H locs 0 0 Q (F0 m 368 ls []) := by
        intro V a2 a3 H locs ls hf I hl
        unfold m_fill_j368 at hf
        obtain ⟨v5, ev5, hf⟩ := lt_e hf
        refine lv_iinc (v := v5) (lv' := [(3, .int v5), (0, .ref (ad 0)), (1, .int p1), (2, .int a2)]) hx hb dX3_fill_368 hl (k := 3) rfl (by rw [ev5]; rfl) (by decide) rfl (fun ls hl => ?_)
        refine lv_goto (tgt := 79) hx hb dX3_fill_371 (by decide) ?_
        exact ih79 V a2 v5 _ _ ls hf I (lv_sub hl [1, 2, 3, 0] rfl)
      have hL92 : ∀ (n92 : Nat) (V : Mm) (a2 : Int32) (a3 : Int32) (a4 : Int32) (H : Heap) (locs : List Loc) (ls : Array Slot), m_fill_l92 (m_fill_l79 p1 n79) p1 n92 V a2 a3 a4 = some V' → w6_I D (mw g ad V ++ []) A s H locs → lv_has ls 10 [(0, .ref (ad 0)), (1, .int p1), (2, .int a2), (3, .int a3), (4, .int a4)] → W p l e rmX3_fill s m ([.ref (ad 0), .int p1] : List Value).toArray below meth c H locs 0 0 Q (F0 m 92 ls []) := by
        intro n92
        induction n92 with
        | zero =>
          intro V a2 a3 a4 H locs ls hf
          rw [m_fill_l92] at hf
          cases hf
        | succ n92 ih92 =>
          have hJ362 : ∀ (V : Mm) (a2 : Int32) (a3 : Int32) (a4 : Int32) (H : Heap) (locs : List Loc) (ls : Array Slot), m_fill_j362 (m_fill_l79 p1 n79) (m_fill_l92 (m_fill_l79 p1 n79) p1 n92) p1 V a2 a3 a4 = some V' → w6_I D (mw g ad V ++ []) A s H locs → lv_has ls 10 [(0, .ref (ad 0)), (1, .int p1), (2, .int a2), (3, .int a3), (4, .int a4)] → W p l e rmX3_fill s m ([.ref (ad 0), .int p1] : List Value).toArray below meth c H locs 0 0 Q (F0 m 362 ls []) := by
            intro V a2 a3 a4 H locs ls hf I hl
            unfold m_fill_j362 at hf
            obtain ⟨v13, ev13, hf⟩ := lt_e hf
            refine lv_iinc (v := v13) (lv' := [(4, .int v13), (0, .ref (ad 0)), (1, .int p1), (2, .int a2), (3, .int a3)]) hx hb dX3_fill_362 hl (k := 4) rfl (by rw [ev13]; rfl) (by decide) rfl (fun ls hl => ?_)
            refine lv_goto (tgt := 92) hx hb dX3_fill_365 (by decide) ?_
            exact ih92 V a2 a3 v13 _ _ ls hf I (lv_sub hl [1, 2, 3, 4, 0] rfl)
          have hL150 : ∀ (n150 : Nat) (V : Mm) (a2 : Int32) (a3 : Int32) (a4 : Int32) (a5 : Int32) (a6 : Int64) (a8 : Int32) (H : Heap) (locs : List Loc) (ls : Array Slot), m_fill_l150 (m_fill_l79 p1 n79) (m_fill_l92 (m_fill_l79 p1 n79) p1 n92) p1 n150 V a2 a3 a4 a5 a6 a8 = some V' → w6_I D (mw g ad V ++ []) A s H locs → lv_has ls 10 [(0, .ref (ad 0)), (1, .int p1), (2, .int a2), (3, .int a3), (4, .int a4), (5, .int a5), (6, .long a6), (8, .int a8)] → W p l e rmX3_fill s m ([.ref (ad 0), .int p1] : List Value).toArray below meth c H locs 0 0 Q (F0 m 150 ls []) := by
            intro n150
            induction n150 with
            | zero =>
              intro V a2 a3 a4 a5 a6 a8 H locs ls hf
              rw [m_fill_l150] at hf
              cases hf
            | succ n150 ih150 =>
              have hJ356 : ∀ (V : Mm) (a2 : Int32) (a3 : Int32) (a4 : Int32) (a5 : Int32) (a6 : Int64) (a8 : Int32) (H : Heap) (locs : List Loc) (ls : Array Slot), m_fill_j356 (m_fill_l79 p1 n79) (m_fill_l92 (m_fill_l79 p1 n79) p1 n92) (m_fill_l150 (m_fill_l79 p1 n79) (m_fill_l92 (m_fill_l79 p1 n79) p1 n92) p1 n150) p1 V a2 a3 a4 a5 a6 a8 = some V' → w6_I D (mw g ad V ++ []) A s H locs → lv_has ls 10 [(0, .ref (ad 0)), (1, .int p1), (2, .int a2), (3, .int a3), (4, .int a4), (5, .int a5), (6, .long a6), (8, .int a8)] → W p l e rmX3_fill s m ([.ref (ad 0), .int p1] : List Value).toArray below meth c H locs 0 0 Q (F0 m 356 ls []) := by
                intro V a2 a3 a4 a5 a6 a8 H locs ls hf I hl
                unfold m_fill_j356 at hf
                obtain ⟨v14, ev14, hf⟩ := lt_e hf
                refine lv_iinc (v := v14) (lv' := [(8, .int v14), (0, .ref (ad 0)), (1, .int p1), (2, .int a2), (3, .int a3), (4, .int a4), (5, .int a5), (6, .long a6)]) hx hb dX3_fill_356 hl (k := 7) rfl (by rw [ev14]; rfl) (by decide) rfl (fun ls hl => ?_)
                refine lv_goto (tgt := 150) hx hb dX3_fill_359 (by decide) ?_
                exact ih150 V a2 a3 a4 a5 a6 v14 _ _ ls hf I (lv_sub hl [1, 2, 3, 4, 5, 6, 7, 0] rfl)
              have hL160 : ∀ (n160 : Nat) (V : Mm) (a2 : Int32) (a3 : Int32) (a4 : Int32) (a5 : Int32) (a6 : Int64) (a8 : Int32) (a9 : Int32) (H : Heap) (locs : List Loc) (ls : Array Slot), m_fill_l160 (m_fill_l79 p1 n79) (m_fill_l92 (m_fill_l79 p1 n79) p1 n92) (m_fill_l150 (m_fill_l79 p1 n79) (m_fill_l92 (m_fill_l79 p1 n79) p1 n92) p1 n150) p1 n160 V a2 a3 a4 a5 a6 a8 a9 = some V' → w6_I D (mw g ad V ++ []) A s H locs → lv_has ls 10 [(0, .ref (ad 0)), (1, .int p1), (2, .int a2), (3, .int a3), (4, .int a4), (5, .int a5), (6, .long a6), (8, .int a8), (9, .int a9)] → W p l e rmX3_fill s m ([.ref (ad 0), .int p1] : List Value).toArray below meth c H locs 0 0 Q (F0 m 160 ls []) := by
                intro n160
                induction n160 with
                | zero =>
                  intro V a2 a3 a4 a5 a6 a8 a9 H locs ls hf
                  rw [m_fill_l160] at hf
                  cases hf
                | succ n160 ih160 =>
                  have hJ349 : ∀ (V : Mm) (a2 : Int32) (a3 : Int32) (a4 : Int32) (a5 : Int32) (a6 : Int64) (a8 : Int32) (a9 : Int32) (s0 : Int64) (s1 : Int32) (H : Heap) (locs : List Loc) (ls : Array Slot), m_fill_j349 (m_fill_l79 p1 n79) (m_fill_l92 (m_fill_l79 p1 n79) p1 n92) (m_fill_l150 (m_fill_l79 p1 n79) (m_fill_l92 (m_fill_l79 p1 n79) p1 n92) p1 n150) (m_fill_l160 (m_fill_l79 p1 n79) (m_fill_l92 (m_fill_l79 p1 n79) p1 n92) (m_fill_l150 (m_fill_l79 p1 n79) (m_fill_l92 (m_fill_l79 p1 n79) p1 n92) p1 n150) p1 n160) p1 V a2 a3 a4 a5 a6 a8 a9 s0 s1 = some V' → w6_I D (mw g ad V ++ []) A s H locs → lv_has ls 10 [(0, .ref (ad 0)), (1, .int p1), (2, .int a2), (3, .int a3), (4, .int a4), (5, .int a5), (6, .long a6), (8, .int a8), (9, .int a9)] → W p l e rmX3_fill s m ([.ref (ad 0), .int p1] : List Value).toArray below meth c H locs 0 0 Q (F0 m 349 ls [.long s0, .int s1, .ref (ad 14)]) := by
                    intro V a2 a3 a4 a5 a6 a8 a9 s0 s1 H locs ls hf I hl
                    unfold m_fill_j349 at hf
                    obtain ⟨g23, hf⟩ := gd_e hf
                    obtain ⟨V24, eV24, hf⟩ := lt_e hf
                    refine w6_last (j := s1.toNatClampNeg) F I g23 rfl dX3_fill_349 eV24 (fun H locs I => ?_)
                    obtain ⟨v25, ev25, hf⟩ := lt_e hf
                    refine lv_iinc (v := v25) (lv' := [(9, .int v25), (0, .ref (ad 0)), (1, .int p1), (2, .int a2), (3, .int a3), (4, .int a4), (5, .int a5), (6, .long a6), (8, .int a8)]) hx hb dX3_fill_350 hl (k := 8) rfl (by rw [ev25]; rfl) (by decide) rfl (fun ls hl => ?_)
                    refine lv_goto (tgt := 160) hx hb dX3_fill_353 (by decide) ?_
                    exact ih160 V24 a2 a3 a4 a5 a6 a8 v25 _ _ ls hf I (lv_sub hl [1, 2, 3, 4, 5, 6, 7, 8, 0] rfl)
                  have hJ256 : ∀ (V : Mm) (a2 : Int32) (a3 : Int32) (a4 : Int32) (a5 : Int32) (a6 : Int64) (a8 : Int32) (a9 : Int32) (s0 : Int64) (s1 : Int32) (H : Heap) (locs : List Loc) (ls : Array Slot), m_fill_j256 (m_fill_l79 p1 n79) (m_fill_l92 (m_fill_l79 p1 n79) p1 n92) (m_fill_l150 (m_fill_l79 p1 n79) (m_fill_l92 (m_fill_l79 p1 n79) p1 n92) p1 n150) (m_fill_l160 (m_fill_l79 p1 n79) (m_fill_l92 (m_fill_l79 p1 n79) p1 n92) (m_fill_l150 (m_fill_l79 p1 n79) (m_fill_l92 (m_fill_l79 p1 n79) p1 n92) p1 n150) p1 n160) p1 V a2 a3 a4 a5 a6 a8 a9 s0 s1 = some V' → w6_I D (mw g ad V ++ []) A s H locs → lv_has ls 10 [(0, .ref (ad 0)), (1, .int p1), (2, .int a2), (3, .int a3), (4, .int a4), (5, .int a5), (6, .long a6), (8, .int a8), (9, .int a9)] → W p l e rmX3_fill s m ([.ref (ad 0), .int p1] : List Value).toArray below meth c H locs 0 0 Q (F0 m 256 ls [.long s0, .int s1, .ref (ad 14)]) := by
                    intro V a2 a3 a4 a5 a6 a8 a9 s0 s1 H locs ls hf I hl
                    unfold m_fill_j256 at hf
                    obtain ⟨g18, hf⟩ := gd_e hf
                    obtain ⟨V19, eV19, hf⟩ := lt_e hf
                    refine w6_last (j := s1.toNatClampNeg) F I g18 rfl dX3_fill_256 eV19 (fun H locs I => ?_)
                    refine lv_aload_n hx hb dX3_fill_257 rfl (lv_at hl 0 rfl) ?_
                    refine w6_get F I mo_ob rfl in_X3 17 (by decide) q781 rfl rfl dX3_fill_258 ?_
                    refine lv_iload hx hb dX3_fill_261 (lv_at hl 4 rfl) ?_
                    refine lv_iload hx hb dX3_fill_263 (lv_at hl 5 rfl) ?_
                    refine lv_iconst (v := (1 : Int32)) hx hb dX3_fill_265 (by decide) ?_
                    refine lv_iload hx hb dX3_fill_266 (lv_at hl 7 rfl) ?_
                    refine lv_iload hx hb dX3_fill_268 (lv_at hl 8 rfl) ?_
                    refine xz_Pi F I (ctpm_cell l D g a4 a5 (1 : Int32) a8 a9 _ rfl) (lw_S q1028 q1029 q50 q1030) hdX3_cell (Nat.le_of_ble_eq_true rfl) (Nat.le_of_ble_eq_true rfl) rfl hl.1 [.ref (ad 14)] rfl (Nat.le_of_ble_eq_true rfl) dX3_fill_270 ⟨Nat.le_of_ble_eq_true rfl, Nat.le_of_ble_eq_true rfl⟩ (fun H locs I => ?_)
                    refine lv_lload hx hb dX3_fill_273 (lv_at hl 6 rfl) ?_
                    refine lv_ldc2 hx hb hown (hts _ q1027) dX3_fill_275 ?_
                    refine W.lcmp hx hb dX3_fill_278 ?_
                    refine lv_if_eq (tgt := 287) hx hb dX3_fill_279 (by decide) (fun c => ?_) (fun c => ?_)
                    · have hf := if_p c hf
                      refine lv_aload_n hx hb dX3_fill_287 rfl (lv_at hl 0 rfl) ?_
                      refine w6_get F I mo_ob rfl in_X3 16 (by decide) q780 rfl rfl dX3_fill_288 ?_
                      refine lv_bipush (v := (6 : Int32)) hx hb dX3_fill_291 (by decide) ?_
                      refine lv_iload hx hb dX3_fill_293 (lv_at hl 7 rfl) ?_
                      refine lv_iadd hx hb dX3_fill_295 ?_
                      refine lv_bipush (v := (6 : Int32)) hx hb dX3_fill_296 (by decide) ?_
                      refine lv_imul hx hb dX3_fill_298 ?_
                      refine lv_iload hx hb dX3_fill_299 (lv_at hl 8 rfl) ?_
                      refine lv_iadd hx hb dX3_fill_301 ?_
                      obtain ⟨g20, hf⟩ := gd_e hf
                      refine w6_iald (j := ((((6 : Int32) + a8) * (6 : Int32)) + a9).toNatClampNeg) F I (m_ar 13 72 (by decide) rfl) g20 rfl dX3_fill_302 ?_
                      refine lv_aload_n hx hb dX3_fill_303 rfl (lv_at hl 0 rfl) ?_
                      refine w6_get F I mo_ob rfl in_X3 17 (by decide) q781 rfl rfl dX3_fill_304 ?_
                      refine lv_iload hx hb dX3_fill_307 (lv_at hl 4 rfl) ?_
                      refine lv_iload hx hb dX3_fill_309 (lv_at hl 5 rfl) ?_
                      refine lv_iconst (v := (1 : Int32)) hx hb dX3_fill_311 (by decide) ?_
                      refine lv_iadd hx hb dX3_fill_312 ?_
                      refine lv_iconst (v := (1 : Int32)) hx hb dX3_fill_313 (by decide) ?_
                      refine lv_iload hx hb dX3_fill_314 (lv_at hl 7 rfl) ?_
                      refine lv_iload hx hb dX3_fill_316 (lv_at hl 8 rfl) ?_
                      refine xz_Pi F I (ctpm_cell l D g a4 (a5 + (1 : Int32)) (1 : Int32) a8 a9 _ rfl) (lw_S q1028 q1029 q50 q1030) hdX3_cell (Nat.le_of_ble_eq_true rfl) (Nat.le_of_ble_eq_true rfl) rfl hl.1 [.ref (ad 14), .int (V19.1 13 (((((6 : Int32) + a8) * (6 : Int32)) + a9).toNatClampNeg)), .int (pm_cell a4 a5 (1 : Int32) a8 a9), .ref (ad 14)] rfl (Nat.le_of_ble_eq_true rfl) dX3_fill_318 ⟨Nat.le_of_ble_eq_true rfl, Nat.le_of_ble_eq_true rfl⟩ (fun H locs I => ?_)
                      obtain ⟨g21, hf⟩ := gd_e hf
                      refine w6_lald (j := (pm_cell a4 (a5 + (1 : Int32)) (1 : Int32) a8 a9).toNatClampNeg) F I g21 rfl dX3_fill_321 ?_
                      refine lv_aload_n hx hb dX3_fill_322 rfl (lv_at hl 0 rfl) ?_
                      refine w6_get F I mo_ob rfl in_X3 17 (by decide) q781 rfl rfl dX3_fill_323 ?_
                      refine lv_iload hx hb dX3_fill_326 (lv_at hl 4 rfl) ?_
                      refine lv_iconst (v := (1 : Int32)) hx hb dX3_fill_328 (by decide) ?_
                      refine lv_iadd hx hb dX3_fill_329 ?_
                      refine lv_iload hx hb dX3_fill_330 (lv_at hl 5 rfl) ?_
                      refine lv_iconst (v := (0 : Int32)) hx hb dX3_fill_332 (by decide) ?_
                      refine lv_iload hx hb dX3_fill_333 (lv_at hl 7 rfl) ?_
                      refine lv_iconst (v := (1 : Int32)) hx hb dX3_fill_335 (by decide) ?_
                      refine lv_iadd hx hb dX3_fill_336 ?_
                      refine lv_bipush (v := (6 : Int32)) hx hb dX3_fill_337 (by decide) ?_
                      refine lv_irem hx hb dX3_fill_339 (by decide) ?_
                      refine lv_iload hx hb dX3_fill_340 (lv_at hl 8 rfl) ?_
                      refine xz_Pi F I (ctpm_cell l D g (a4 + (1 : Int32)) a5 (0 : Int32) ((a8 + (1 : Int32)) - (a8 + (1 : Int32)) / (6 : Int32) * (6 : Int32)) a9 _ rfl) (lw_S q1028 q1029 q50 q1030) hdX3_cell (Nat.le_of_ble_eq_true rfl) (Nat.le_of_ble_eq_true rfl) rfl hl.1 [.ref (ad 14), .long (V19.2 ((pm_cell a4 (a5 + (1 : Int32)) (1 : Int32) a8 a9).toNatClampNeg)), .int (V19.1 13 (((((6 : Int32) + a8) * (6 : Int32)) + a9).toNatClampNeg)), .int (pm_cell a4 a5 (1 : Int32) a8 a9), .ref (ad 14)] rfl (Nat.le_of_ble_eq_true rfl) dX3_fill_342 ⟨Nat.le_of_ble_eq_true rfl, Nat.le_of_ble_eq_true rfl⟩ (fun H locs I => ?_)
                      obtain ⟨g22, hf⟩ := gd_e hf
                      refine w6_lald (j := (pm_cell (a4 + (1 : Int32)) a5 (0 : Int32) ((a8 + (1 : Int32)) - (a8 + (1 : Int32)) / (6 : Int32) * (6 : Int32)) a9).toNatClampNeg) F I g22 rfl dX3_fill_345 ?_
                      refine xz_Pl F I (ctpm_mean l D g (V19.1 13 (((((6 : Int32) + a8) * (6 : Int32)) + a9).toNatClampNeg)) (V19.2 ((pm_cell a4 (a5 + (1 : Int32)) (1 : Int32) a8 a9).toNatClampNeg)) (V19.2 ((pm_cell (a4 + (1 : Int32)) a5 (0 : Int32) ((a8 + (1 : Int32)) - (a8 + (1 : Int32)) / (6 : Int32) * (6 : Int32)) a9).toNatClampNeg)) _ rfl) (lw_S q1031 q1032 q50 q1033) hdX3_mean (Nat.le_of_ble_eq_true rfl) (Nat.le_of_ble_eq_true rfl) rfl hl.1 [.int (pm_cell a4 a5 (1 : Int32) a8 a9), .ref (ad 14)] rfl (Nat.le_of_ble_eq_true rfl) dX3_fill_346 ⟨Nat.le_of_ble_eq_true rfl, Nat.le_of_ble_eq_true rfl⟩ (fun H locs I => ?_)
                      exact hJ349 V19 a2 a3 a4 a5 a6 a8 a9 (pm_mean (V19.1 13 (((((6 : Int32) + a8) * (6 : Int32)) + a9).toNatClampNeg)) (V19.2 ((pm_cell a4 (a5 + (1 : Int32)) (1 : Int32) a8 a9).toNatClampNeg)) (V19.2 ((pm_cell (a4 + (1 : Int32)) a5 (0 : Int32) ((a8 + (1 : Int32)) - (a8 + (1 : Int32)) / (6 : Int32) * (6 : Int32)) a9).toNatClampNeg))) (pm_cell a4 a5 (1 : Int32) a8 a9) _ _ ls hf I (lv_sub hl [0, 1, 2, 3, 4, 5, 6, 7, 8] rfl)
                    · have hf := if_n c hf
                      refine lv_lload hx hb dX3_fill_282 (lv_at hl 6 rfl) ?_
                      refine lv_goto (tgt := 349) hx hb dX3_fill_284 (by decide) ?_
                      exact hJ349 V19 a2 a3 a4 a5 a6 a8 a9 a6 (pm_cell a4 a5 (1 : Int32) a8 a9) _ _ ls hf I (lv_sub hl [0, 1, 2, 3, 4, 5, 6, 7, 8] rfl)
                  intro V a2 a3 a4 a5 a6 a8 a9 H locs ls hf I hl
                  rw [m_fill_l160] at hf
                  refine lv_iload hx hb dX3_fill_160 (lv_at hl 8 rfl) ?_
                  refine lv_bipush (v := (6 : Int32)) hx hb dX3_fill_162 (by decide) ?_
                  refine lv_icmp_ge (tgt := 356) hx hb dX3_fill_164 (by decide) (fun c => ?_) (fun c => ?_)
                  · have hf := if_p c hf
                    exact hJ356 V a2 a3 a4 a5 a6 a8 _ _ ls hf I (lv_sub hl [0, 1, 2, 3, 4, 5, 6, 7] rfl)
                  · have hf := if_n c hf
                    refine lv_aload_n hx hb dX3_fill_167 rfl (lv_at hl 0 rfl) ?_
                    refine w6_get F I mo_ob rfl in_X3 17 (by decide) q781 rfl rfl dX3_fill_168 ?_
                    refine lv_iload hx hb dX3_fill_171 (lv_at hl 4 rfl) ?_
                    refine lv_iload hx hb dX3_fill_173 (lv_at hl 5 rfl) ?_
                    refine lv_iconst (v := (0 : Int32)) hx hb dX3_fill_175 (by decide) ?_
                    refine lv_iload hx hb dX3_fill_176 (lv_at hl 7 rfl) ?_
                    refine lv_iload hx hb dX3_fill_178 (lv_at hl 8 rfl) ?_
                    refine xz_Pi F I (ctpm_cell l D g a4 a5 (0 : Int32) a8 a9 _ rfl) (lw_S q1028 q1029 q50 q1030) hdX3_cell (Nat.le_of_ble_eq_true rfl) (Nat.le_of_ble_eq_true rfl) rfl hl.1 [.ref (ad 14)] rfl (Nat.le_of_ble_eq_true rfl) dX3_fill_180 ⟨Nat.le_of_ble_eq_true rfl, Nat.le_of_ble_eq_true rfl⟩ (fun H locs I => ?_)
                    refine lv_lload hx hb dX3_fill_183 (lv_at hl 6 rfl) ?_
                    refine lv_ldc2 hx hb hown (hts _ q1027) dX3_fill_185 ?_
                    refine W.lcmp hx hb dX3_fill_188 ?_
                    refine lv_if_eq (tgt := 197) hx hb dX3_fill_189 (by decide) (fun c => ?_) (fun c => ?_)
                    · have hf := if_p c hf
                      refine lv_aload_n hx hb dX3_fill_197 rfl (lv_at hl 0 rfl) ?_
                      refine w6_get F I mo_ob rfl in_X3 16 (by decide) q780 rfl rfl dX3_fill_198 ?_
                      refine lv_iload hx hb dX3_fill_201 (lv_at hl 7 rfl) ?_
                      refine lv_bipush (v := (6 : Int32)) hx hb dX3_fill_203 (by decide) ?_
                      refine lv_imul hx hb dX3_fill_205 ?_
                      refine lv_iload hx hb dX3_fill_206 (lv_at hl 8 rfl) ?_
                      refine lv_iadd hx hb dX3_fill_208 ?_
                      obtain ⟨g15, hf⟩ := gd_e hf
                      refine w6_iald (j := ((a8 * (6 : Int32)) + a9).toNatClampNeg) F I (m_ar 13 72 (by decide) rfl) g15 rfl dX3_fill_209 ?_
                      refine lv_aload_n hx hb dX3_fill_210 rfl (lv_at hl 0 rfl) ?_
                      refine w6_get F I mo_ob rfl in_X3 17 (by decide) q781 rfl rfl dX3_fill_211 ?_
                      refine lv_iload hx hb dX3_fill_214 (lv_at hl 4 rfl) ?_
                      refine lv_iconst (v := (1 : Int32)) hx hb dX3_fill_216 (by decide) ?_
                      refine lv_iadd hx hb dX3_fill_217 ?_
                      refine lv_iload hx hb dX3_fill_218 (lv_at hl 5 rfl) ?_
                      refine lv_iconst (v := (0 : Int32)) hx hb dX3_fill_220 (by decide) ?_
                      refine lv_iload hx hb dX3_fill_221 (lv_at hl 7 rfl) ?_
                      refine lv_iload hx hb dX3_fill_223 (lv_at hl 8 rfl) ?_
                      refine xz_Pi F I (ctpm_cell l D g (a4 + (1 : Int32)) a5 (0 : Int32) a8 a9 _ rfl) (lw_S q1028 q1029 q50 q1030) hdX3_cell (Nat.le_of_ble_eq_true rfl) (Nat.le_of_ble_eq_true rfl) rfl hl.1 [.ref (ad 14), .int (V.1 13 (((a8 * (6 : Int32)) + a9).toNatClampNeg)), .int (pm_cell a4 a5 (0 : Int32) a8 a9), .ref (ad 14)] rfl (Nat.le_of_ble_eq_true rfl) dX3_fill_225 ⟨Nat.le_of_ble_eq_true rfl, Nat.le_of_ble_eq_true rfl⟩ (fun H locs I => ?_)
                      obtain ⟨g16, hf⟩ := gd_e hf
                      refine w6_lald (j := (pm_cell (a4 + (1 : Int32)) a5 (0 : Int32) a8 a9).toNatClampNeg) F I g16 rfl dX3_fill_228 ?_
                      refine lv_aload_n hx hb dX3_fill_229 rfl (lv_at hl 0 rfl) ?_
                      refine w6_get F I mo_ob rfl in_X3 17 (by decide) q781 rfl rfl dX3_fill_230 ?_
                      refine lv_iload hx hb dX3_fill_233 (lv_at hl 4 rfl) ?_
                      refine lv_iload hx hb dX3_fill_235 (lv_at hl 5 rfl) ?_
                      refine lv_iconst (v := (1 : Int32)) hx hb dX3_fill_237 (by decide) ?_
                      refine lv_iadd hx hb dX3_fill_238 ?_
                      refine lv_iconst (v := (1 : Int32)) hx hb dX3_fill_239 (by decide) ?_
                      refine lv_iload hx hb dX3_fill_240 (lv_at hl 7 rfl) ?_
                      refine lv_iload hx hb dX3_fill_242 (lv_at hl 8 rfl) ?_
                      refine lv_iconst (v := (1 : Int32)) hx hb dX3_fill_244 (by decide) ?_
                      refine lv_iadd hx hb dX3_fill_245 ?_
                      refine lv_bipush (v := (6 : Int32)) hx hb dX3_fill_246 (by decide) ?_
                      refine lv_irem hx hb dX3_fill_248 (by decide) ?_
                      refine xz_Pi F I (ctpm_cell l D g a4 (a5 + (1 : Int32)) (1 : Int32) a8 ((a9 + (1 : Int32)) - (a9 + (1 : Int32)) / (6 : Int32) * (6 : Int32)) _ rfl) (lw_S q1028 q1029 q50 q1030) hdX3_cell (Nat.le_of_ble_eq_true rfl) (Nat.le_of_ble_eq_true rfl) rfl hl.1 [.ref (ad 14), .long (V.2 ((pm_cell (a4 + (1 : Int32)) a5 (0 : Int32) a8 a9).toNatClampNeg)), .int (V.1 13 (((a8 * (6 : Int32)) + a9).toNatClampNeg)), .int (pm_cell a4 a5 (0 : Int32) a8 a9), .ref (ad 14)] rfl (Nat.le_of_ble_eq_true rfl) dX3_fill_249 ⟨Nat.le_of_ble_eq_true rfl, Nat.le_of_ble_eq_true rfl⟩ (fun H locs I => ?_)
                      obtain ⟨g17, hf⟩ := gd_e hf
                      refine w6_lald (j := (pm_cell a4 (a5 + (1 : Int32)) (1 : Int32) a8 ((a9 + (1 : Int32)) - (a9 + (1 : Int32)) / (6 : Int32) * (6 : Int32))).toNatClampNeg) F I g17 rfl dX3_fill_252 ?_
                      refine xz_Pl F I (ctpm_mean l D g (V.1 13 (((a8 * (6 : Int32)) + a9).toNatClampNeg)) (V.2 ((pm_cell (a4 + (1 : Int32)) a5 (0 : Int32) a8 a9).toNatClampNeg)) (V.2 ((pm_cell a4 (a5 + (1 : Int32)) (1 : Int32) a8 ((a9 + (1 : Int32)) - (a9 + (1 : Int32)) / (6 : Int32) * (6 : Int32))).toNatClampNeg)) _ rfl) (lw_S q1031 q1032 q50 q1033) hdX3_mean (Nat.le_of_ble_eq_true rfl) (Nat.le_of_ble_eq_true rfl) rfl hl.1 [.int (pm_cell a4 a5 (0 : Int32) a8 a9), .ref (ad 14)] rfl (Nat.le_of_ble_eq_true rfl) dX3_fill_253 ⟨Nat.le_of_ble_eq_true rfl, Nat.le_of_ble_eq_true rfl⟩ (fun H locs I => ?_)
                      exact hJ256 V a2 a3 a4 a5 a6 a8 a9 (pm_mean (V.1 13 (((a8 * (6 : Int32)) + a9).toNatClampNeg)) (V.2 ((pm_cell (a4 + (1 : Int32)) a5 (0 : Int32) a8 a9).toNatClampNeg)) (V.2 ((pm_cell a4 (a5 + (1 : Int32)) (1 : Int32) a8 ((a9 + (1 : Int32)) - (a9 + (1 : Int32)) / (6 : Int32) * (6 : Int32))).toNatClampNeg))) (pm_cell a4 a5 (0 : Int32) a8 a9) _ _ ls hf I (lv_sub hl [0, 1, 2, 3, 4, 5, 6, 7, 8] rfl)
                    · have hf := if_n c hf
                      refine lv_lload hx hb dX3_fill_192 (lv_at hl 6 rfl) ?_
                      refine lv_goto (tgt := 256) hx hb dX3_fill_194 (by decide) ?_
                      exact hJ256 V a2 a3 a4 a5 a6 a8 a9 a6 (pm_cell a4 a5 (0 : Int32) a8 a9) _ _ ls hf I (lv_sub hl [0, 1, 2, 3, 4, 5, 6, 7, 8] rfl)
              intro V a2 a3 a4 a5 a6 a8 H locs ls hf I hl
              rw [m_fill_l150] at hf
              refine lv_iload hx hb dX3_fill_150 (lv_at hl 7 rfl) ?_
              refine lv_bipush (v := (6 : Int32)) hx hb dX3_fill_152 (by decide) ?_
              refine lv_icmp_ge (tgt := 362) hx hb dX3_fill_154 (by decide) (fun c => ?_) (fun c => ?_)
              · have hf := if_p c hf
                exact hJ362 V a2 a3 a4 _ _ ls hf I (lv_sub hl [0, 1, 2, 3, 4] rfl)
              · have hf := if_n c hf
                refine lv_iconst (v := (0 : Int32)) hx hb dX3_fill_157 (by decide) ?_
                refine lv_istore (lv' := [(9, .int (0 : Int32)), (0, .ref (ad 0)), (1, .int p1), (2, .int a2), (3, .int a3), (4, .int a4), (5, .int a5), (6, .long a6), (8, .int a8)]) hx hb dX3_fill_158 hl (by decide) rfl (fun ls hl => ?_)
                exact hL160 200 V a2 a3 a4 a5 a6 a8 (0 : Int32) _ _ ls hf I (lv_sub hl [1, 2, 3, 4, 5, 6, 7, 8, 0] rfl)
          have hJ145 : ∀ (V : Mm) (a2 : Int32) (a3 : Int32) (a4 : Int32) (a5 : Int32) (s0 : Int64) (H : Heap) (locs : List Loc) (ls : Array Slot), m_fill_j145 (m_fill_l79 p1 n79) (m_fill_l92 (m_fill_l79 p1 n79) p1 n92) p1 V a2 a3 a4 a5 s0 = some V' → w6_I D (mw g ad V ++ []) A s H locs → lv_has ls 10 [(0, .ref (ad 0)), (1, .int p1), (2, .int a2), (3, .int a3), (4, .int a4), (5, .int a5)] → W p l e rmX3_fill s m ([.ref (ad 0), .int p1] : List Value).toArray below meth c H locs 0 0 Q (F0 m 145 ls [.long s0]) := by
            intro V a2 a3 a4 a5 s0 H locs ls hf I hl
            unfold m_fill_j145 at hf
            refine lv_lstore (lv' := [(6, .long s0), (0, .ref (ad 0)), (1, .int p1), (2, .int a2), (3, .int a3), (4, .int a4), (5, .int a5)]) hx hb dX3_fill_145 hl (by decide) rfl (fun ls hl => ?_)
            refine lv_iconst (v := (0 : Int32)) hx hb dX3_fill_147 (by decide) ?_
            refine lv_istore (lv' := [(8, .int (0 : Int32)), (6, .long s0), (0, .ref (ad 0)), (1, .int p1), (2, .int a2), (3, .int a3), (4, .int a4), (5, .int a5)]) hx hb dX3_fill_148 hl (by decide) rfl (fun ls hl => ?_)
            exact hL150 200 V a2 a3 a4 a5 s0 (0 : Int32) _ _ ls hf I (lv_sub hl [2, 3, 4, 5, 6, 7, 1, 0] rfl)
          intro V a2 a3 a4 H locs ls hf I hl
          rw [m_fill_l92] at hf
          refine lv_iload hx hb dX3_fill_92 (lv_at hl 4 rfl) ?_
          refine lv_iload_n hx hb dX3_fill_94 rfl (lv_at hl 2 rfl) ?_
          refine lv_iload_n hx hb dX3_fill_95 rfl (lv_at hl 3 rfl) ?_
          refine va_mmin hx hb (by rw [F.1.2.2.1]; exact hl.1.symm) hown (hts _ q977) (hts _ q398) (hts _ q52) (hts _ q399) (Nat.le_of_ble_eq_true rfl) (Nat.le_of_ble_eq_true rfl) (Nat.le_of_ble_eq_true rfl) (Nat.le_of_ble_eq_true rfl) dX3_fill_96 ?_
          obtain ⟨v4, ev4, hf⟩ := lt_e hf
          refine w6_nmi ev4 ?_
          refine lv_icmp_gt (tgt := 368) hx hb dX3_fill_99 (by decide) (fun c => ?_) (fun c => ?_)
          · have hf := if_p c hf
            exact hJ368 V a2 a3 _ _ ls hf I (lv_sub hl [0, 1, 2, 3] rfl)
          · have hf := if_n c hf
            refine lv_iload_n hx hb dX3_fill_102 rfl (lv_at hl 3 rfl) ?_
            refine lv_iload hx hb dX3_fill_103 (lv_at hl 4 rfl) ?_
            refine lv_isub hx hb dX3_fill_105 ?_
            obtain ⟨v6, ev6, hf⟩ := lt_e hf
            refine w6_nmi ev6 ?_
            refine lv_istore (lv' := [(5, .int v6), (0, .ref (ad 0)), (1, .int p1), (2, .int a2), (3, .int a3), (4, .int a4)]) hx hb dX3_fill_106 hl (by decide) rfl (fun ls hl => ?_)
            refine lv_aload_n hx hb dX3_fill_108 rfl (lv_at hl 1 rfl) ?_
            refine lv_iload hx hb dX3_fill_109 (lv_at hl 5 rfl) ?_
            refine lv_iload hx hb dX3_fill_111 (lv_at hl 0 rfl) ?_
            refine lv_iload_n hx hb dX3_fill_113 rfl (lv_at hl 2 rfl) ?_
            obtain ⟨r9, V7, h8, hf⟩ := bi_e hf
            refine xz_Vi F I (ctm_wins l D g ad V a4 v6 p1 r9 V7 h8 ) (lw_V q893 q895 qs30 q50 q896) hdX3_wins rfl (Nat.le_of_ble_eq_true rfl) (Nat.le_of_ble_eq_true rfl) (w6_recv F I mo_ob rfl) rfl hl.1 [] rfl (Nat.le_of_ble_eq_true rfl) dX3_fill_114 ⟨Nat.le_of_ble_eq_true rfl, Nat.le_of_ble_eq_true rfl⟩ (fun H locs I => ?_)
            refine lv_if_eq (tgt := 126) hx hb dX3_fill_117 (by decide) (fun c => ?_) (fun c => ?_)
            · have hf := if_p c hf
              refine lv_aload_n hx hb dX3_fill_126 rfl (lv_at hl 1 rfl) ?_
              refine lv_iload hx hb dX3_fill_127 (lv_at hl 0 rfl) ?_
              refine lv_iload hx hb dX3_fill_129 (lv_at hl 5 rfl) ?_
              refine lv_iload_n hx hb dX3_fill_131 rfl (lv_at hl 2 rfl) ?_
              obtain ⟨r12, V10, h11, hf⟩ := bi_e hf
              refine xz_Vi F I (ctm_wins l D g ad V7 v6 a4 p1 r12 V10 h11 ) (lw_V q893 q895 qs30 q50 q896) hdX3_wins rfl (Nat.le_of_ble_eq_true rfl) (Nat.le_of_ble_eq_true rfl) (w6_recv F I mo_ob rfl) rfl hl.1 [] rfl (Nat.le_of_ble_eq_true rfl) dX3_fill_132 ⟨Nat.le_of_ble_eq_true rfl, Nat.le_of_ble_eq_true rfl⟩ (fun H locs I => ?_)
              refine lv_if_eq (tgt := 142) hx hb dX3_fill_135 (by decide) (fun c => ?_) (fun c => ?_)
              · have hf := if_p c hf
                refine lv_ldc2 hx hb hown (hts _ q1027) dX3_fill_142 ?_
                exact hJ145 V10 a2 a3 a4 v6 (-1 : Int64) _ _ ls hf I (lv_sub hl [1, 2, 3, 4, 5, 0] rfl)
              · have hf := if_n c hf
                refine lv_lconst (v := (0 : Int64)) hx hb dX3_fill_138 (by decide) ?_
                refine lv_goto (tgt := 145) hx hb dX3_fill_139 (by decide) ?_
                exact hJ145 V10 a2 a3 a4 v6 (0 : Int64) _ _ ls hf I (lv_sub hl [1, 2, 3, 4, 5, 0] rfl)
            · have hf := if_n c hf
              refine lv_ldc2 hx hb hown (hts _ q1026) dX3_fill_120 ?_
              refine lv_goto (tgt := 145) hx hb dX3_fill_123 (by decide) ?_
              exact hJ145 V7 a2 a3 a4 v6 (1000000000 : Int64) _ _ ls hf I (lv_sub hl [1, 2, 3, 4, 5, 0] rfl)
      intro V a2 a3 H locs ls hf I hl
      rw [m_fill_l79] at hf
      refine lv_iload_n hx hb dX3_fill_79 rfl (lv_at hl 3 rfl) ?_
      refine lv_if_lt (tgt := 374) hx hb dX3_fill_80 (by decide) (fun c => ?_) (fun c => ?_)
      · have hf := if_p c hf
        exact hret _ _ _ _ dX3_fill_374 (w6_mv (Option.some.inj hf) I)
      · have hf := if_n c hf
        refine lv_iconst (v := (0 : Int32)) hx hb dX3_fill_83 (by decide) ?_
        refine lv_iload_n hx hb dX3_fill_84 rfl (lv_at hl 3 rfl) ?_
        refine lv_iload_n hx hb dX3_fill_85 rfl (lv_at hl 2 rfl) ?_
        refine lv_isub hx hb dX3_fill_86 ?_
        refine va_mmax hx hb (by rw [F.1.2.2.1]; exact hl.1.symm) hown (hts _ q1017) (hts _ q510) (hts _ q52) (hts _ q511) (Nat.le_of_ble_eq_true rfl) (Nat.le_of_ble_eq_true rfl) (Nat.le_of_ble_eq_true rfl) (Nat.le_of_ble_eq_true rfl) dX3_fill_87 ?_
        obtain ⟨v3, ev3, hf⟩ := lt_e hf
        refine w6_nmi ev3 ?_
        refine lv_istore (lv' := [(4, .int v3), (0, .ref (ad 0)), (1, .int p1), (2, .int a2), (3, .int a3)]) hx hb dX3_fill_90 hl (by decide) rfl (fun ls hl => ?_)
        exact hL92 200 V a2 a3 v3 _ _ ls hf I (lv_sub hl [1, 2, 3, 4, 0] rfl)
  have hJ68 : ∀ (V : Mm)  (H : Heap) (locs : List Loc) (ls : Array Slot), m_fill_j68 p1 V = some V' → w6_I D (mw g ad V ++ []) A s H locs → lv_has ls 10 [(0, .ref (ad 0)), (1, .int p1)] → W p l e rmX3_fill s m ([.ref (ad 0), .int p1] : List Value).toArray below meth c H locs 0 0 Q (F0 m 68 ls []) := by
    intro V H locs ls hf I hl
    unfold m_fill_j68 at hf
    refine lv_aload_n hx hb dX3_fill_68 rfl (lv_at hl 0 rfl) ?_
    refine w6_get F I mo_ob rfl in_X3 2 (by decide) q766 rfl rfl dX3_fill_69 ?_
    refine lv_iconst (v := (1 : Int32)) hx hb dX3_fill_72 (by decide) ?_
    refine w6_iald (j := 1) F I (m_ar 3 6 (by decide) rfl) (show ix_ (1 : Int32) 6 by decide) rfl dX3_fill_73 ?_
    obtain ⟨v1, ev1, hf⟩ := lt_e hf
    refine w6_nmi ev1 ?_
    refine lv_istore_n (lv' := [(2, .int v1), (0, .ref (ad 0)), (1, .int p1)]) hx hb dX3_fill_74 rfl hl (by decide) rfl (fun ls hl => ?_)
    refine lv_iconst (v := (2 : Int32)) hx hb dX3_fill_75 (by decide) ?_
    refine lv_iload_n hx hb dX3_fill_76 rfl (lv_at hl 0 rfl) ?_
    refine lv_imul hx hb dX3_fill_77 ?_
    obtain ⟨v2, ev2, hf⟩ := lt_e hf
    refine w6_nmi ev2 ?_
    refine lv_istore_n (lv' := [(3, .int v2), (2, .int v1), (0, .ref (ad 0)), (1, .int p1)]) hx hb dX3_fill_78 rfl hl (by decide) rfl (fun ls hl => ?_)
    exact hL79 200 V v1 v2 _ _ ls hf I (lv_sub hl [2, 3, 1, 0] rfl)
  have hL2 : ∀ (n2 : Nat) (V : Mm) (a2 : Int32) (H : Heap) (locs : List Loc) (ls : Array Slot), m_fill_l2 p1 n2 V a2 = some V' → w6_I D (mw g ad V ++ []) A s H locs → lv_has ls 10 [(0, .ref (ad 0)), (1, .int p1), (2, .int a2)] → W p l e rmX3_fill s m ([.ref (ad 0), .int p1] : List Value).toArray below meth c H locs 0 0 Q (F0 m 2 ls []) := by
    intro n2
    induction n2 with
    | zero =>
      intro V a2 H locs ls hf
      rw [m_fill_l2] at hf
      cases hf
    | succ n2 ih2 =>
      have hJ62 : ∀ (V : Mm) (a2 : Int32) (H : Heap) (locs : List Loc) (ls : Array Slot), m_fill_j62 (m_fill_l2 p1 n2) p1 V a2 = some V' → w6_I D (mw g ad V ++ []) A s H locs → lv_has ls 10 [(0, .ref (ad 0)), (1, .int p1), (2, .int a2)] → W p l e rmX3_fill s m ([.ref (ad 0), .int p1] : List Value).toArray below meth c H locs 0 0 Q (F0 m 62 ls []) := by
        intro V a2 H locs ls hf I hl
        unfold m_fill_j62 at hf
        obtain ⟨v26, ev26, hf⟩ := lt_e hf
        refine lv_iinc (v := v26) (lv' := [(2, .int v26), (0, .ref (ad 0)), (1, .int p1)]) hx hb dX3_fill_62 hl (k := 2) rfl (by rw [ev26]; rfl) (by decide) rfl (fun ls hl => ?_)
        refine lv_goto (tgt := 2) hx hb dX3_fill_65 (by decide) ?_
        exact ih2 V v26 _ _ ls hf I (lv_sub hl [1, 2, 0] rfl)
      have hL10 : ∀ (n10 : Nat) (V : Mm) (a2 : Int32) (a3 : Int32) (H : Heap) (locs : List Loc) (ls : Array Slot), m_fill_l10 (m_fill_l2 p1 n2) p1 n10 V a2 a3 = some V' → w6_I D (mw g ad V ++ []) A s H locs → lv_has ls 10 [(0, .ref (ad 0)), (1, .int p1), (2, .int a2), (3, .int a3)] → W p l e rmX3_fill s m ([.ref (ad 0), .int p1] : List Value).toArray below meth c H locs 0 0 Q (F0 m 10 ls []) := by
        intro n10
        induction n10 with
        | zero =>
          intro V a2 a3 H locs ls hf
          rw [m_fill_l10] at hf
          cases hf
        | succ n10 ih10 =>
          have hJ56 : ∀ (V : Mm) (a2 : Int32) (a3 : Int32) (H : Heap) (locs : List Loc) (ls : Array Slot), m_fill_j56 (m_fill_l2 p1 n2) (m_fill_l10 (m_fill_l2 p1 n2) p1 n10) p1 V a2 a3 = some V' → w6_I D (mw g ad V ++ []) A s H locs → lv_has ls 10 [(0, .ref (ad 0)), (1, .int p1), (2, .int a2), (3, .int a3)] → W p l e rmX3_fill s m ([.ref (ad 0), .int p1] : List Value).toArray below meth c H locs 0 0 Q (F0 m 56 ls []) := by
            intro V a2 a3 H locs ls hf I hl
            unfold m_fill_j56 at hf
            obtain ⟨v27, ev27, hf⟩ := lt_e hf
            refine lv_iinc (v := v27) (lv' := [(3, .int v27), (0, .ref (ad 0)), (1, .int p1), (2, .int a2)]) hx hb dX3_fill_56 hl (k := 3) rfl (by rw [ev27]; rfl) (by decide) rfl (fun ls hl => ?_)
            refine lv_goto (tgt := 10) hx hb dX3_fill_59 (by decide) ?_
            exact ih10 V a2 v27 _ _ ls hf I (lv_sub hl [1, 2, 3, 0] rfl)
          have hL19 : ∀ (n19 : Nat) (V : Mm) (a2 : Int32) (a3 : Int32) (a4 : Int32) (H : Heap) (locs : List Loc) (ls : Array Slot), m_fill_l19 (m_fill_l2 p1 n2) (m_fill_l10 (m_fill_l2 p1 n2) p1 n10) p1 n19 V a2 a3 a4 = some V' → w6_I D (mw g ad V ++ []) A s H locs → lv_has ls 10 [(0, .ref (ad 0)), (1, .int p1), (2, .int a2), (3, .int a3), (4, .int a4)] → W p l e rmX3_fill s m ([.ref (ad 0), .int p1] : List Value).toArray below meth c H locs 0 0 Q (F0 m 19 ls []) := by
            intro n19
            induction n19 with
            | zero =>
              intro V a2 a3 a4 H locs ls hf
              rw [m_fill_l19] at hf
              cases hf
            | succ n19 ih19 =>
              intro V a2 a3 a4 H locs ls hf I hl
              rw [m_fill_l19] at hf
              refine lv_iload hx hb dX3_fill_19 (lv_at hl 4 rfl) ?_
              refine lv_iconst (v := (2 : Int32)) hx hb dX3_fill_21 (by decide) ?_
              refine lv_icmp_ge (tgt := 56) hx hb dX3_fill_22 (by decide) (fun c => ?_) (fun c => ?_)
              · have hf := if_p c hf
                exact hJ56 V a2 a3 _ _ ls hf I (lv_sub hl [0, 1, 2, 3] rfl)
              · have hf := if_n c hf
                refine lv_aload_n hx hb dX3_fill_25 rfl (lv_at hl 0 rfl) ?_
                refine w6_get F I mo_ob rfl in_X3 16 (by decide) q780 rfl rfl dX3_fill_26 ?_
                refine lv_iload hx hb dX3_fill_29 (lv_at hl 4 rfl) ?_
                refine lv_bipush (v := (6 : Int32)) hx hb dX3_fill_31 (by decide) ?_
                refine lv_imul hx hb dX3_fill_33 ?_
                refine lv_iload_n hx hb dX3_fill_34 rfl (lv_at hl 2 rfl) ?_
                refine lv_iadd hx hb dX3_fill_35 ?_
                refine lv_bipush (v := (6 : Int32)) hx hb dX3_fill_36 (by decide) ?_
                refine lv_imul hx hb dX3_fill_38 ?_
                refine lv_iload_n hx hb dX3_fill_39 rfl (lv_at hl 3 rfl) ?_
                refine lv_iadd hx hb dX3_fill_40 ?_
                refine lv_aload_n hx hb dX3_fill_41 rfl (lv_at hl 0 rfl) ?_
                refine lv_iload_n hx hb dX3_fill_42 rfl (lv_at hl 2 rfl) ?_
                refine lv_iload_n hx hb dX3_fill_43 rfl (lv_at hl 3 rfl) ?_
                refine lv_iload hx hb dX3_fill_44 (lv_at hl 4 rfl) ?_
                obtain ⟨r30, V28, h29, hf⟩ := bi_e hf
                refine xz_Vi F I (ctm_oddsOf l D g ad V a2 a3 a4 r30 V28 h29 ) (lw_V q1005 q1007 qs41 q50 q1008) hdX3_oddsOf rfl (Nat.le_of_ble_eq_true rfl) (Nat.le_of_ble_eq_true rfl) (w6_recv F I mo_ob rfl) rfl hl.1 [.int ((((a4 * (6 : Int32)) + a2) * (6 : Int32)) + a3), .ref (ad 13)] rfl (Nat.le_of_ble_eq_true rfl) dX3_fill_46 ⟨Nat.le_of_ble_eq_true rfl, Nat.le_of_ble_eq_true rfl⟩ (fun H locs I => ?_)
                obtain ⟨g31, hf⟩ := gd_e hf
                obtain ⟨V32, eV32, hf⟩ := lt_e hf
                refine w6_iast (j := ((((a4 * (6 : Int32)) + a2) * (6 : Int32)) + a3).toNatClampNeg) msh_lc F I (m_ar 13 72 (by decide) rfl) g31 rfl dX3_fill_49 eV32 (fun H locs I => ?_)
                obtain ⟨v33, ev33, hf⟩ := lt_e hf
                refine lv_iinc (v := v33) (lv' := [(4, .int v33), (0, .ref (ad 0)), (1, .int p1), (2, .int a2), (3, .int a3)]) hx hb dX3_fill_50 hl (k := 4) rfl (by rw [ev33]; rfl) (by decide) rfl (fun ls hl => ?_)
                refine lv_goto (tgt := 19) hx hb dX3_fill_53 (by decide) ?_
                exact ih19 V32 a2 a3 v33 _ _ ls hf I (lv_sub hl [1, 2, 3, 4, 0] rfl)
          intro V a2 a3 H locs ls hf I hl
          rw [m_fill_l10] at hf
          refine lv_iload_n hx hb dX3_fill_10 rfl (lv_at hl 3 rfl) ?_
          refine lv_bipush (v := (6 : Int32)) hx hb dX3_fill_11 (by decide) ?_
          refine lv_icmp_ge (tgt := 62) hx hb dX3_fill_13 (by decide) (fun c => ?_) (fun c => ?_)
          · have hf := if_p c hf
            exact hJ62 V a2 _ _ ls hf I (lv_sub hl [0, 1, 2] rfl)
          · have hf := if_n c hf
            refine lv_iconst (v := (0 : Int32)) hx hb dX3_fill_16 (by decide) ?_
            refine lv_istore (lv' := [(4, .int (0 : Int32)), (0, .ref (ad 0)), (1, .int p1), (2, .int a2), (3, .int a3)]) hx hb dX3_fill_17 hl (by decide) rfl (fun ls hl => ?_)
            exact hL19 200 V a2 a3 (0 : Int32) _ _ ls hf I (lv_sub hl [1, 2, 3, 4, 0] rfl)
      intro V a2 H locs ls hf I hl
      rw [m_fill_l2] at hf
      refine lv_iload_n hx hb dX3_fill_2 rfl (lv_at hl 2 rfl) ?_
      refine lv_bipush (v := (6 : Int32)) hx hb dX3_fill_3 (by decide) ?_
      refine lv_icmp_ge (tgt := 68) hx hb dX3_fill_5 (by decide) (fun c => ?_) (fun c => ?_)
      · have hf := if_p c hf
        exact hJ68 V _ _ ls hf I (lv_sub hl [0, 1] rfl)
      · have hf := if_n c hf
        refine lv_iconst (v := (0 : Int32)) hx hb dX3_fill_8 (by decide) ?_
        refine lv_istore_n (lv' := [(3, .int (0 : Int32)), (0, .ref (ad 0)), (1, .int p1), (2, .int a2)]) hx hb dX3_fill_9 rfl hl (by decide) rfl (fun ls hl => ?_)
        exact hL10 200 V a2 (0 : Int32) _ _ ls hf I (lv_sub hl [1, 2, 3, 0] rfl)
  unfold m_fill at hf
  refine lv_iconst (v := (0 : Int32)) hx hb dX3_fill_0 (by decide) ?_
  refine lv_istore_n (lv' := [(2, .int (0 : Int32)), (0, .ref (ad 0)), (1, .int p1)]) hx hb dX3_fill_1 rfl hl (by decide) rfl (fun ls hl => ?_)
  exact hL2 200 V (0 : Int32) _ _ ls hf I (lv_sub hl [1, 2, 0] rfl)
def m_now (V : Mm) : Option (Int32 × Mm) :=
  bi_ (m_get V (0 : Int32) (0 : Int32)) fun r3 V1 => bi_ (m_get V1 (1 : Int32) (0 : Int32)) fun r6 V4 => gd_ (ix_ (pm_cell r3 r6 (V4.1 6 2) (0 : Int32) (0 : Int32)) 69192) (some (((V4.2 ((pm_cell r3 r6 (V4.1 6 2) (0 : Int32) (0 : Int32)).toNatClampNeg)).toInt32), V4))
theorem hdX3_now : w6_hd yX3_now 0 := by decide +kernel
abbrev rmX3_now : Room := { frames := 1, cells := 0, slots := 0, locals := 24 }
set_option maxHeartbeats 4000000 in
set_option maxRecDepth 100000 in
theorem ctm_now (l : Launch) (D : va_G) (g : Nat → ClassId) (ad : Nat → Nat) (V : Mm) (r : Int32) (V' : Mm) (hf : m_now V = some (r, V'))  : CTi l D g yX3_now cX3_now 1 .int rmX3_now [.ref (ad 0)] (mw g ad V) (mw g ad V') r := by
  intro sz
  refine w6_starti RX3 (by decide) (Nat.le_of_ble_eq_true rfl) rfl ?_
  intro p e s m below meth c A ls Q hx hb hown hts F I hl hret
  have hl : lv_has ls 1 [(0, .ref (ad 0))] := hl
  unfold m_now at hf
  refine lv_aload_n hx hb dX3_now_0 rfl (lv_at hl 0 rfl) ?_
  refine w6_get F I mo_ob rfl in_X3 17 (by decide) q781 rfl rfl dX3_now_1 ?_
  refine lv_aload_n hx hb dX3_now_4 rfl (lv_at hl 0 rfl) ?_
  refine lv_iconst (v := (0 : Int32)) hx hb dX3_now_5 (by decide) ?_
  refine lv_iconst (v := (0 : Int32)) hx hb dX3_now_6 (by decide) ?_
  obtain ⟨r3, V1, h2, hf⟩ := bi_e hf
  refine xz_Vi F I (ctm_get l D g ad V (0 : Int32) (0 : Int32) r3 V1 h2 ) (lw_V q869 q871 qs25 q50 q872) hdX3_get rfl (Nat.le_of_ble_eq_true rfl) (Nat.le_of_ble_eq_true rfl) (w6_recv F I mo_ob rfl) rfl hl.1 [.ref (ad 14)] rfl (Nat.le_of_ble_eq_true rfl) dX3_now_7 ⟨Nat.le_of_ble_eq_true rfl, Nat.le_of_ble_eq_true rfl⟩ (fun H locs I => ?_)
  refine lv_aload_n hx hb dX3_now_10 rfl (lv_at hl 0 rfl) ?_
  refine lv_iconst (v := (1 : Int32)) hx hb dX3_now_11 (by decide) ?_
  refine lv_iconst (v := (0 : Int32)) hx hb dX3_now_12 (by decide) ?_
  obtain ⟨r6, V4, h5, hf⟩ := bi_e hf
  refine xz_Vi F I (ctm_get l D g ad V1 (1 : Int32) (0 : Int32) r6 V4 h5 ) (lw_V q869 q871 qs25 q50 q872) hdX3_get rfl (Nat.le_of_ble_eq_true rfl) (Nat.le_of_ble_eq_true rfl) (w6_recv F I mo_ob rfl) rfl hl.1 [.int r3, .ref (ad 14)] rfl (Nat.le_of_ble_eq_true rfl) dX3_now_13 ⟨Nat.le_of_ble_eq_true rfl, Nat.le_of_ble_eq_true rfl⟩ (fun H locs I => ?_)
  refine lv_aload_n hx hb dX3_now_16 rfl (lv_at hl 0 rfl) ?_
  refine w6_get F I mo_ob rfl in_X3 5 (by decide) q769 rfl rfl dX3_now_17 ?_
  refine lv_iconst (v := (2 : Int32)) hx hb dX3_now_20 (by decide) ?_
  refine w6_iald (j := 2) F I (m_ar 6 106 (by decide) rfl) (show ix_ (2 : Int32) 106 by decide) rfl dX3_now_21 ?_
  refine lv_iconst (v := (0 : Int32)) hx hb dX3_now_22 (by decide) ?_
  refine lv_iconst (v := (0 : Int32)) hx hb dX3_now_23 (by decide) ?_
  refine xz_Pi F I (ctpm_cell l D g r3 r6 (V4.1 6 2) (0 : Int32) (0 : Int32) _ rfl) (lw_S q1028 q1029 q50 q1030) hdX3_cell (Nat.le_of_ble_eq_true rfl) (Nat.le_of_ble_eq_true rfl) rfl hl.1 [.ref (ad 14)] rfl (Nat.le_of_ble_eq_true rfl) dX3_now_24 ⟨Nat.le_of_ble_eq_true rfl, Nat.le_of_ble_eq_true rfl⟩ (fun H locs I => ?_)
  obtain ⟨g7, hf⟩ := gd_e hf
  refine w6_lald (j := (pm_cell r3 r6 (V4.1 6 2) (0 : Int32) (0 : Int32)).toNatClampNeg) F I g7 rfl dX3_now_27 ?_
  refine lv_l2i (v := ((V4.2 ((pm_cell r3 r6 (V4.1 6 2) (0 : Int32) (0 : Int32)).toNatClampNeg)).toInt32)) hx hb dX3_now_28 rfl ?_
  exact hret _ _ _ _ _ dX3_now_29 (w6_mv (so_e hf).2 I) (so_e hf).1 rfl
def m_chance (V : Mm) : Option (Int32 × Mm) :=
  lt_ (mset V 0 13 (0 : Int32)) fun V1 => bi_ (m_isOn V1) fun r4 V2 => if r4 = (0 : Int32) then (some ((-1 : Int32), V2)) else ((m_countNow V2).bind fun V5 => bi_ (m_goal V5) fun r9 V7 => (m_fill V7 r9).bind fun V10 => bi_ (m_now V10) fun r14 V12 => some (r14, V12))
theorem hdX3_chance : w6_hd yX3_chance 0 := by decide +kernel
abbrev rmX3_chance : Room := { frames := 4, cells := 0, slots := 0, locals := 104 }
set_option maxHeartbeats 4000000 in
set_option maxRecDepth 100000 in
theorem ctm_chance (l : Launch) (D : va_G) (g : Nat → ClassId) (ad : Nat → Nat) (V : Mm) (r : Int32) (V' : Mm) (hf : m_chance V = some (r, V'))  : CTi l D g yX3_chance cX3_chance 1 .int rmX3_chance [.ref (ad 0)] (mw g ad V) (mw g ad V') r := by
  intro sz
  refine w6_starti RX3 (by decide) (Nat.le_of_ble_eq_true rfl) rfl ?_
  intro p e s m below meth c A ls Q hx hb hown hts F I hl hret
  have hl : lv_has ls 1 [(0, .ref (ad 0))] := hl
  unfold m_chance at hf
  refine lv_aload_n hx hb dX3_chance_0 rfl (lv_at hl 0 rfl) ?_
  refine lv_iconst (v := (0 : Int32)) hx hb dX3_chance_1 (by decide) ?_
  obtain ⟨V1, eV1, hf⟩ := lt_e hf
  refine w6_put msh_lc F I mo_ob rfl in_X3 tyX3 tyX3_ok nmX3 13 (by decide) (mo_nf 13 (by decide)) q777 rfl rfl (tyX3_ok 13 (by decide)) rfl rfl dX3_chance_2 eV1 (fun H locs I => ?_)
  refine lv_aload_n hx hb dX3_chance_5 rfl (lv_at hl 0 rfl) ?_
  obtain ⟨r4, V2, h3, hf⟩ := bi_e hf
  refine xz_Vi F I (ctm_isOn l D g ad V1 r4 V2 h3 ) (lw_V q845 q847 qs23 q50 q848) hdX3_isOn rfl (Nat.le_of_ble_eq_true rfl) (Nat.le_of_ble_eq_true rfl) (w6_recv F I mo_ob rfl) rfl hl.1 [] rfl (Nat.le_of_ble_eq_true rfl) dX3_chance_6 ⟨Nat.le_of_ble_eq_true rfl, Nat.le_of_ble_eq_true rfl⟩ (fun H locs I => ?_)
  refine lv_if_ne (tgt := 14) hx hb dX3_chance_9 (by decide) (fun c => ?_) (fun c => ?_)
  · have hf := if_n c hf
    refine lv_aload_n hx hb dX3_chance_14 rfl (lv_at hl 0 rfl) ?_
    obtain ⟨V5, h6, hf⟩ := bn_e hf
    refine xz_Vv F I (ctm_countNow l D g ad V2 V5 h6 ) (lw_V q1001 q1003 qs40 q50 q1004) hdX3_countNow rfl (Nat.le_of_ble_eq_true rfl) (Nat.le_of_ble_eq_true rfl) (w6_recv F I mo_ob rfl) rfl hl.1 [] rfl (Nat.le_of_ble_eq_true rfl) dX3_chance_15 ⟨Nat.le_of_ble_eq_true rfl, Nat.le_of_ble_eq_true rfl⟩ (fun H locs I => ?_)
    refine lv_aload_n hx hb dX3_chance_18 rfl (lv_at hl 0 rfl) ?_
    refine lv_aload_n hx hb dX3_chance_19 rfl (lv_at hl 0 rfl) ?_
    obtain ⟨r9, V7, h8, hf⟩ := bi_e hf
    refine xz_Vi F I (ctm_goal l D g ad V5 r9 V7 h8 ) (lw_V q881 q883 qs27 q50 q884) hdX3_goal rfl (Nat.le_of_ble_eq_true rfl) (Nat.le_of_ble_eq_true rfl) (w6_recv F I mo_ob rfl) rfl hl.1 [.ref (ad 0)] rfl (Nat.le_of_ble_eq_true rfl) dX3_chance_20 ⟨Nat.le_of_ble_eq_true rfl, Nat.le_of_ble_eq_true rfl⟩ (fun H locs I => ?_)
    obtain ⟨V10, h11, hf⟩ := bn_e hf
    refine xz_Vv F I (ctm_fill l D g ad V7 r9 V10 h11 ) (lw_V q1022 q1024 qs44 q50 q1025) hdX3_fill rfl (Nat.le_of_ble_eq_true rfl) (Nat.le_of_ble_eq_true rfl) (w6_recv F I mo_ob rfl) rfl hl.1 [] rfl (Nat.le_of_ble_eq_true rfl) dX3_chance_23 ⟨Nat.le_of_ble_eq_true rfl, Nat.le_of_ble_eq_true rfl⟩ (fun H locs I => ?_)
    refine lv_aload_n hx hb dX3_chance_26 rfl (lv_at hl 0 rfl) ?_
    obtain ⟨r14, V12, h13, hf⟩ := bi_e hf
    refine xz_Vi F I (ctm_now l D g ad V10 r14 V12 h13 ) (lw_V q1035 q1037 qs45 q50 q1038) hdX3_now rfl (Nat.le_of_ble_eq_true rfl) (Nat.le_of_ble_eq_true rfl) (w6_recv F I mo_ob rfl) rfl hl.1 [] rfl (Nat.le_of_ble_eq_true rfl) dX3_chance_27 ⟨Nat.le_of_ble_eq_true rfl, Nat.le_of_ble_eq_true rfl⟩ (fun H locs I => ?_)
    exact hret _ _ _ _ _ dX3_chance_30 (w6_mv (so_e hf).2 I) (so_e hf).1 rfl
  · have hf := if_p c hf
    refine lv_iconst (v := (-1 : Int32)) hx hb dX3_chance_12 (by decide) ?_
    exact hret _ _ _ _ _ dX3_chance_13 (w6_mv (so_e hf).2 I) (so_e hf).1 rfl
def m_weight_j99 (V : Mm)  (a4 : Int64) (s0 : Int32) (s1 : Int32) (s2 : Int32) (s3 : Int32) (s4 : Int32) : Option (Int32 × Mm) :=
  gd_ (ix_ (pm_cell s4 s3 s2 s1 s0) 69192) (lt_ ((V.2 ((pm_cell s4 s3 s2 s1 s0).toNatClampNeg))) fun v21 => some (((a4 - v21).toInt32), V))
def m_weight_j73 (V : Mm)  (a1 : Int32) (a2 : Int32) (a3 : Int32) (s0 : Int32) (s1 : Int32) (s2 : Int32) (s3 : Int32) : Option (Int32 × Mm) :=
  gd_ (ix_ (pm_cell s3 s2 s1 s0 (0 : Int32)) 69192) (lt_ ((V.2 ((pm_cell s3 s2 s1 s0 (0 : Int32)).toNatClampNeg))) fun v19 => if a3 = (0 : Int32) then (m_weight_j99 V v19 (0 : Int32) (0 : Int32) (1 : Int32) (a2 + (1 : Int32)) a1) else (m_weight_j99 V v19 (1 : Int32) (0 : Int32) (1 : Int32) (a2 + (1 : Int32)) a1))
def m_weight_j54 (V : Mm)  (a1 : Int32) (a2 : Int32) (s0 : Int32) : Option (Int32 × Mm) :=
  if s0 = (0 : Int32) then (m_weight_j73 V a1 a2 s0 (1 : Int32) (0 : Int32) a2 (a1 + (1 : Int32))) else (m_weight_j73 V a1 a2 s0 (0 : Int32) (0 : Int32) a2 (a1 + (1 : Int32)))
def m_weight (V : Mm) : Option (Int32 × Mm) :=
  lt_ (mset V 0 13 (0 : Int32)) fun V1 => bi_ (m_isOn V1) fun r4 V2 => if r4 = (0 : Int32) then (some ((-1 : Int32), V2)) else ((m_countNow V2).bind fun V5 => bi_ (m_goal V5) fun r9 V7 => (m_fill V7 r9).bind fun V10 => bi_ (m_get V10 (0 : Int32) (0 : Int32)) fun r14 V12 => bi_ (m_get V12 (1 : Int32) (0 : Int32)) fun r17 V15 => if (V15.1 6 2) = (0 : Int32) then (m_weight_j54 V15 r14 r17 (1 : Int32)) else (m_weight_j54 V15 r14 r17 (0 : Int32)))
theorem hdX3_weight : w6_hd yX3_weight 0 := by decide +kernel
abbrev rmX3_weight : Room := { frames := 4, cells := 0, slots := 0, locals := 104 }
set_option maxHeartbeats 4000000 in
set_option maxRecDepth 100000 in
theorem ctm_weight (l : Launch) (D : va_G) (g : Nat → ClassId) (ad : Nat → Nat) (V : Mm) (r : Int32) (V' : Mm) (hf : m_weight V = some (r, V'))  : CTi l D g yX3_weight cX3_weight 8 .int rmX3_weight [.ref (ad 0)] (mw g ad V) (mw g ad V') r := by
  intro sz
  refine w6_starti RX3 (by decide) (Nat.le_of_ble_eq_true rfl) rfl ?_
  intro p e s m below meth c A ls Q hx hb hown hts F I hl hret
  have hl : lv_has ls 8 [(0, .ref (ad 0))] := hl
  have hJ99 : ∀ (V : Mm) (a4 : Int64) (s0 : Int32) (s1 : Int32) (s2 : Int32) (s3 : Int32) (s4 : Int32) (H : Heap) (locs : List Loc) (ls : Array Slot), m_weight_j99 V a4 s0 s1 s2 s3 s4 = some (r, V') → w6_I D (mw g ad V ++ []) A s H locs → lv_has ls 8 [(4, .long a4)] → W p l e rmX3_weight s m ([.ref (ad 0)] : List Value).toArray below meth c H locs 0 0 Q (F0 m 99 ls [.int s0, .int s1, .int s2, .int s3, .int s4, .ref (ad 14)]) := by
    intro V a4 s0 s1 s2 s3 s4 H locs ls hf I hl
    unfold m_weight_j99 at hf
    refine xz_Pi F I (ctpm_cell l D g s4 s3 s2 s1 s0 _ rfl) (lw_S q1028 q1029 q50 q1030) hdX3_cell (Nat.le_of_ble_eq_true rfl) (Nat.le_of_ble_eq_true rfl) rfl hl.1 [.ref (ad 14)] rfl (Nat.le_of_ble_eq_true rfl) dX3_weight_99 ⟨Nat.le_of_ble_eq_true rfl, Nat.le_of_ble_eq_true rfl⟩ (fun H locs I => ?_)
    obtain ⟨g20, hf⟩ := gd_e hf
    refine w6_lald (j := (pm_cell s4 s3 s2 s1 s0).toNatClampNeg) F I g20 rfl dX3_weight_102 ?_
    obtain ⟨v21, ev21, hf⟩ := lt_e hf
    refine w6_nml ev21 ?_
    refine lv_lstore (lv' := [(6, .long v21), (4, .long a4)]) hx hb dX3_weight_103 hl (by decide) rfl (fun ls hl => ?_)
    refine lv_lload hx hb dX3_weight_105 (lv_at hl 1 rfl) ?_
    refine lv_lload hx hb dX3_weight_107 (lv_at hl 0 rfl) ?_
    refine lv_lsub hx hb dX3_weight_109 ?_
    refine lv_l2i (v := ((a4 - v21).toInt32)) hx hb dX3_weight_110 rfl ?_
    exact hret _ _ _ _ _ dX3_weight_111 (w6_mv (so_e hf).2 I) (so_e hf).1 rfl
  have hJ73 : ∀ (V : Mm) (a1 : Int32) (a2 : Int32) (a3 : Int32) (s0 : Int32) (s1 : Int32) (s2 : Int32) (s3 : Int32) (H : Heap) (locs : List Loc) (ls : Array Slot), m_weight_j73 V a1 a2 a3 s0 s1 s2 s3 = some (r, V') → w6_I D (mw g ad V ++ []) A s H locs → lv_has ls 8 [(0, .ref (ad 0)), (1, .int a1), (2, .int a2), (3, .int a3)] → W p l e rmX3_weight s m ([.ref (ad 0)] : List Value).toArray below meth c H locs 0 0 Q (F0 m 73 ls [.int s0, .int s1, .int s2, .int s3, .ref (ad 14)]) := by
    intro V a1 a2 a3 s0 s1 s2 s3 H locs ls hf I hl
    unfold m_weight_j73 at hf
    refine lv_iconst (v := (0 : Int32)) hx hb dX3_weight_73 (by decide) ?_
    refine xz_Pi F I (ctpm_cell l D g s3 s2 s1 s0 (0 : Int32) _ rfl) (lw_S q1028 q1029 q50 q1030) hdX3_cell (Nat.le_of_ble_eq_true rfl) (Nat.le_of_ble_eq_true rfl) rfl hl.1 [.ref (ad 14)] rfl (Nat.le_of_ble_eq_true rfl) dX3_weight_74 ⟨Nat.le_of_ble_eq_true rfl, Nat.le_of_ble_eq_true rfl⟩ (fun H locs I => ?_)
    obtain ⟨g18, hf⟩ := gd_e hf
    refine w6_lald (j := (pm_cell s3 s2 s1 s0 (0 : Int32)).toNatClampNeg) F I g18 rfl dX3_weight_77 ?_
    obtain ⟨v19, ev19, hf⟩ := lt_e hf
    refine w6_nml ev19 ?_
    refine lv_lstore (lv' := [(4, .long v19), (0, .ref (ad 0)), (1, .int a1), (2, .int a2), (3, .int a3)]) hx hb dX3_weight_78 hl (by decide) rfl (fun ls hl => ?_)
    refine lv_aload_n hx hb dX3_weight_80 rfl (lv_at hl 1 rfl) ?_
    refine w6_get F I mo_ob rfl in_X3 17 (by decide) q781 rfl rfl dX3_weight_81 ?_
    refine lv_iload_n hx hb dX3_weight_84 rfl (lv_at hl 2 rfl) ?_
    refine lv_iload_n hx hb dX3_weight_85 rfl (lv_at hl 3 rfl) ?_
    refine lv_iconst (v := (1 : Int32)) hx hb dX3_weight_86 (by decide) ?_
    refine lv_iadd hx hb dX3_weight_87 ?_
    refine lv_iconst (v := (1 : Int32)) hx hb dX3_weight_88 (by decide) ?_
    refine lv_iconst (v := (0 : Int32)) hx hb dX3_weight_89 (by decide) ?_
    refine lv_iload_n hx hb dX3_weight_90 rfl (lv_at hl 4 rfl) ?_
    refine lv_if_eq (tgt := 98) hx hb dX3_weight_91 (by decide) (fun c => ?_) (fun c => ?_)
    · have hf := if_p c hf
      refine lv_iconst (v := (0 : Int32)) hx hb dX3_weight_98 (by decide) ?_
      exact hJ99 V v19 (0 : Int32) (0 : Int32) (1 : Int32) (a2 + (1 : Int32)) a1 _ _ ls hf I (lv_sub hl [0] rfl)
    · have hf := if_n c hf
      refine lv_iconst (v := (1 : Int32)) hx hb dX3_weight_94 (by decide) ?_
      refine lv_goto (tgt := 99) hx hb dX3_weight_95 (by decide) ?_
      exact hJ99 V v19 (1 : Int32) (0 : Int32) (1 : Int32) (a2 + (1 : Int32)) a1 _ _ ls hf I (lv_sub hl [0] rfl)
  have hJ54 : ∀ (V : Mm) (a1 : Int32) (a2 : Int32) (s0 : Int32) (H : Heap) (locs : List Loc) (ls : Array Slot), m_weight_j54 V a1 a2 s0 = some (r, V') → w6_I D (mw g ad V ++ []) A s H locs → lv_has ls 8 [(0, .ref (ad 0)), (1, .int a1), (2, .int a2)] → W p l e rmX3_weight s m ([.ref (ad 0)] : List Value).toArray below meth c H locs 0 0 Q (F0 m 54 ls [.int s0]) := by
    intro V a1 a2 s0 H locs ls hf I hl
    unfold m_weight_j54 at hf
    refine lv_istore_n (lv' := [(3, .int s0), (0, .ref (ad 0)), (1, .int a1), (2, .int a2)]) hx hb dX3_weight_54 rfl hl (by decide) rfl (fun ls hl => ?_)
    refine lv_aload_n hx hb dX3_weight_55 rfl (lv_at hl 1 rfl) ?_
    refine w6_get F I mo_ob rfl in_X3 17 (by decide) q781 rfl rfl dX3_weight_56 ?_
    refine lv_iload_n hx hb dX3_weight_59 rfl (lv_at hl 2 rfl) ?_
    refine lv_iconst (v := (1 : Int32)) hx hb dX3_weight_60 (by decide) ?_
    refine lv_iadd hx hb dX3_weight_61 ?_
    refine lv_iload_n hx hb dX3_weight_62 rfl (lv_at hl 3 rfl) ?_
    refine lv_iconst (v := (0 : Int32)) hx hb dX3_weight_63 (by decide) ?_
    refine lv_iload_n hx hb dX3_weight_64 rfl (lv_at hl 0 rfl) ?_
    refine lv_if_eq (tgt := 72) hx hb dX3_weight_65 (by decide) (fun c => ?_) (fun c => ?_)
    · have hf := if_p c hf
      refine lv_iconst (v := (1 : Int32)) hx hb dX3_weight_72 (by decide) ?_
      exact hJ73 V a1 a2 s0 (1 : Int32) (0 : Int32) a2 (a1 + (1 : Int32)) _ _ ls hf I (lv_sub hl [1, 2, 3, 0] rfl)
    · have hf := if_n c hf
      refine lv_iconst (v := (0 : Int32)) hx hb dX3_weight_68 (by decide) ?_
      refine lv_goto (tgt := 73) hx hb dX3_weight_69 (by decide) ?_
      exact hJ73 V a1 a2 s0 (0 : Int32) (0 : Int32) a2 (a1 + (1 : Int32)) _ _ ls hf I (lv_sub hl [1, 2, 3, 0] rfl)
  unfold m_weight at hf
  refine lv_aload_n hx hb dX3_weight_0 rfl (lv_at hl 0 rfl) ?_
  refine lv_iconst (v := (0 : Int32)) hx hb dX3_weight_1 (by decide) ?_
  obtain ⟨V1, eV1, hf⟩ := lt_e hf
  refine w6_put msh_lc F I mo_ob rfl in_X3 tyX3 tyX3_ok nmX3 13 (by decide) (mo_nf 13 (by decide)) q777 rfl rfl (tyX3_ok 13 (by decide)) rfl rfl dX3_weight_2 eV1 (fun H locs I => ?_)
  refine lv_aload_n hx hb dX3_weight_5 rfl (lv_at hl 0 rfl) ?_
  obtain ⟨r4, V2, h3, hf⟩ := bi_e hf
  refine xz_Vi F I (ctm_isOn l D g ad V1 r4 V2 h3 ) (lw_V q845 q847 qs23 q50 q848) hdX3_isOn rfl (Nat.le_of_ble_eq_true rfl) (Nat.le_of_ble_eq_true rfl) (w6_recv F I mo_ob rfl) rfl hl.1 [] rfl (Nat.le_of_ble_eq_true rfl) dX3_weight_6 ⟨Nat.le_of_ble_eq_true rfl, Nat.le_of_ble_eq_true rfl⟩ (fun H locs I => ?_)
  refine lv_if_ne (tgt := 14) hx hb dX3_weight_9 (by decide) (fun c => ?_) (fun c => ?_)
  · have hf := if_n c hf
    refine lv_aload_n hx hb dX3_weight_14 rfl (lv_at hl 0 rfl) ?_
    obtain ⟨V5, h6, hf⟩ := bn_e hf
    refine xz_Vv F I (ctm_countNow l D g ad V2 V5 h6 ) (lw_V q1001 q1003 qs40 q50 q1004) hdX3_countNow rfl (Nat.le_of_ble_eq_true rfl) (Nat.le_of_ble_eq_true rfl) (w6_recv F I mo_ob rfl) rfl hl.1 [] rfl (Nat.le_of_ble_eq_true rfl) dX3_weight_15 ⟨Nat.le_of_ble_eq_true rfl, Nat.le_of_ble_eq_true rfl⟩ (fun H locs I => ?_)
    refine lv_aload_n hx hb dX3_weight_18 rfl (lv_at hl 0 rfl) ?_
    refine lv_aload_n hx hb dX3_weight_19 rfl (lv_at hl 0 rfl) ?_
    obtain ⟨r9, V7, h8, hf⟩ := bi_e hf
    refine xz_Vi F I (ctm_goal l D g ad V5 r9 V7 h8 ) (lw_V q881 q883 qs27 q50 q884) hdX3_goal rfl (Nat.le_of_ble_eq_true rfl) (Nat.le_of_ble_eq_true rfl) (w6_recv F I mo_ob rfl) rfl hl.1 [.ref (ad 0)] rfl (Nat.le_of_ble_eq_true rfl) dX3_weight_20 ⟨Nat.le_of_ble_eq_true rfl, Nat.le_of_ble_eq_true rfl⟩ (fun H locs I => ?_)
    obtain ⟨V10, h11, hf⟩ := bn_e hf
    refine xz_Vv F I (ctm_fill l D g ad V7 r9 V10 h11 ) (lw_V q1022 q1024 qs44 q50 q1025) hdX3_fill rfl (Nat.le_of_ble_eq_true rfl) (Nat.le_of_ble_eq_true rfl) (w6_recv F I mo_ob rfl) rfl hl.1 [] rfl (Nat.le_of_ble_eq_true rfl) dX3_weight_23 ⟨Nat.le_of_ble_eq_true rfl, Nat.le_of_ble_eq_true rfl⟩ (fun H locs I => ?_)
    refine lv_aload_n hx hb dX3_weight_26 rfl (lv_at hl 0 rfl) ?_
    refine lv_iconst (v := (0 : Int32)) hx hb dX3_weight_27 (by decide) ?_
    refine lv_iconst (v := (0 : Int32)) hx hb dX3_weight_28 (by decide) ?_
    obtain ⟨r14, V12, h13, hf⟩ := bi_e hf
    refine xz_Vi F I (ctm_get l D g ad V10 (0 : Int32) (0 : Int32) r14 V12 h13 ) (lw_V q869 q871 qs25 q50 q872) hdX3_get rfl (Nat.le_of_ble_eq_true rfl) (Nat.le_of_ble_eq_true rfl) (w6_recv F I mo_ob rfl) rfl hl.1 [] rfl (Nat.le_of_ble_eq_true rfl) dX3_weight_29 ⟨Nat.le_of_ble_eq_true rfl, Nat.le_of_ble_eq_true rfl⟩ (fun H locs I => ?_)
    refine lv_istore_n (lv' := [(1, .int r14), (0, .ref (ad 0))]) hx hb dX3_weight_32 rfl hl (by decide) rfl (fun ls hl => ?_)
    refine lv_aload_n hx hb dX3_weight_33 rfl (lv_at hl 1 rfl) ?_
    refine lv_iconst (v := (1 : Int32)) hx hb dX3_weight_34 (by decide) ?_
    refine lv_iconst (v := (0 : Int32)) hx hb dX3_weight_35 (by decide) ?_
    obtain ⟨r17, V15, h16, hf⟩ := bi_e hf
    refine xz_Vi F I (ctm_get l D g ad V12 (1 : Int32) (0 : Int32) r17 V15 h16 ) (lw_V q869 q871 qs25 q50 q872) hdX3_get rfl (Nat.le_of_ble_eq_true rfl) (Nat.le_of_ble_eq_true rfl) (w6_recv F I mo_ob rfl) rfl hl.1 [] rfl (Nat.le_of_ble_eq_true rfl) dX3_weight_36 ⟨Nat.le_of_ble_eq_true rfl, Nat.le_of_ble_eq_true rfl⟩ (fun H locs I => ?_)
    refine lv_istore_n (lv' := [(2, .int r17), (1, .int r14), (0, .ref (ad 0))]) hx hb dX3_weight_39 rfl hl (by decide) rfl (fun ls hl => ?_)
    refine lv_aload_n hx hb dX3_weight_40 rfl (lv_at hl 2 rfl) ?_
    refine w6_get F I mo_ob rfl in_X3 5 (by decide) q769 rfl rfl dX3_weight_41 ?_
    refine lv_iconst (v := (2 : Int32)) hx hb dX3_weight_44 (by decide) ?_
    refine w6_iald (j := 2) F I (m_ar 6 106 (by decide) rfl) (show ix_ (2 : Int32) 106 by decide) rfl dX3_weight_45 ?_
    refine lv_if_ne (tgt := 53) hx hb dX3_weight_46 (by decide) (fun c => ?_) (fun c => ?_)
    · have hf := if_n c hf
      refine lv_iconst (v := (0 : Int32)) hx hb dX3_weight_53 (by decide) ?_
      exact hJ54 V15 r14 r17 (0 : Int32) _ _ ls hf I (lv_sub hl [2, 1, 0] rfl)
    · have hf := if_p c hf
      refine lv_iconst (v := (1 : Int32)) hx hb dX3_weight_49 (by decide) ?_
      refine lv_goto (tgt := 54) hx hb dX3_weight_50 (by decide) ?_
      exact hJ54 V15 r14 r17 (1 : Int32) _ _ ls hf I (lv_sub hl [2, 1, 0] rfl)
  · have hf := if_p c hf
    refine lv_iconst (v := (-1 : Int32)) hx hb dX3_weight_12 (by decide) ?_
    exact hret _ _ _ _ _ dX3_weight_13 (w6_mv (so_e hf).2 I) (so_e hf).1 rfl
def m_turn_2_j202 (p1 : Int32) (p2 : Int32) (V : Mm)  (a3 : Int32) (a4 : Int64) : Option (Int32 × Mm) :=
  lt_ (mset V 0 11 (a4.toInt32)) fun V5 => lt_ (mset V5 0 12 (1 : Int32)) fun V6 => some (a3, V6)
def m_turn_2_j196 (rec54 : Mm → Int32 → Int64 → Int32 → Option (Int32 × Mm)) (p1 : Int32) (p2 : Int32) (V : Mm)  (a3 : Int32) (a4 : Int64) (a6 : Int32) : Option (Int32 × Mm) :=
  lt_ (a6 + (1 : Int32)) fun v14 => rec54 V a3 a4 v14
def m_turn_2_j189 (rec54 : Mm → Int32 → Int64 → Int32 → Option (Int32 × Mm)) (p1 : Int32) (p2 : Int32) (V : Mm)  (a6 : Int32) (a7 : Int64) : Option (Int32 × Mm) :=
  m_turn_2_j196 rec54 p1 p2 V a6 a7 a6
def m_turn_2_j135 (rec54 : Mm → Int32 → Int64 → Int32 → Option (Int32 × Mm)) (p1 : Int32) (p2 : Int32) (V : Mm)  (a3 : Int32) (a4 : Int64) (a6 : Int32) : Option (Int32 × Mm) :=
  bi_ (m_goal V) fun r9 V7 => (m_fill V7 r9).bind fun V10 => gd_ (ix_ (pm_cell (0 : Int32) (0 : Int32) p2 (0 : Int32) (0 : Int32)) 69192) (lt_ ((V10.2 ((pm_cell (0 : Int32) (0 : Int32) p2 (0 : Int32) (0 : Int32)).toNatClampNeg))) fun v13 => if a3 = (-1 : Int32) then (m_turn_2_j189 rec54 p1 p2 V10 a6 v13) else (if p1 = (0 : Int32) then (if (0 : Int32) < (lg_cmp v13 a4) then (m_turn_2_j189 rec54 p1 p2 V10 a6 v13) else (m_turn_2_j196 rec54 p1 p2 V10 a3 a4 a6)) else (if (lg_cmp v13 a4) < (0 : Int32) then (m_turn_2_j189 rec54 p1 p2 V10 a6 v13) else (m_turn_2_j196 rec54 p1 p2 V10 a3 a4 a6))))
def m_turn_2_j129 (rec54 : Mm → Int32 → Int64 → Int32 → Option (Int32 × Mm)) (rec64 : Mm → Int32 → Int64 → Int32 → Int32 → Option (Int32 × Mm)) (p1 : Int32) (p2 : Int32) (V : Mm)  (a3 : Int32) (a4 : Int64) (a6 : Int32) (a7 : Int32) : Option (Int32 × Mm) :=
  lt_ (a7 + (1 : Int32)) fun v15 => rec64 V a3 a4 a6 v15
def m_turn_2_j120 (rec54 : Mm → Int32 → Int64 → Int32 → Option (Int32 × Mm)) (rec64 : Mm → Int32 → Int64 → Int32 → Int32 → Option (Int32 × Mm)) (rec73 : Mm → Int32 → Int64 → Int32 → Int32 → Int32 → Option (Int32 × Mm)) (p1 : Int32) (p2 : Int32) (V : Mm)  (a3 : Int32) (a4 : Int64) (a6 : Int32) (a7 : Int32) (a8 : Int32) (s0 : Int32) (s1 : Int32) (s3 : Int32) : Option (Int32 × Mm) :=
  gd_ (ix_ (s1 + s0) 12) (gd_ (ix_ s3 12) (lt_ (mset V 12 s3.toNatClampNeg (V.1 4 ((s1 + s0).toNatClampNeg))) fun V18 => lt_ (a8 + (1 : Int32)) fun v19 => rec73 V18 a3 a4 a6 a7 v19))
def m_turn_2_l73 (rec54 : Mm → Int32 → Int64 → Int32 → Option (Int32 × Mm)) (rec64 : Mm → Int32 → Int64 → Int32 → Int32 → Option (Int32 × Mm)) (p1 : Int32) (p2 : Int32) : Nat → Mm → Int32 → Int64 → Int32 → Int32 → Int32 → Option (Int32 × Mm)
  | 0, _, _, _, _, _, _ => none
  | n73 + 1, V, a3, a4, a6, a7, a8 =>
  if (6 : Int32) ≤ a8 then (m_turn_2_j129 rec54 rec64 p1 p2 V a3 a4 a6 a7) else (if a7 = p1 then (m_turn_2_j120 rec54 rec64 (m_turn_2_l73 rec54 rec64 p1 p2 n73) p1 p2 V a3 a4 a6 a7 a8 ((a8 + a6) - (a8 + a6) / (6 : Int32) * (6 : Int32)) ((6 : Int32) * a7) (((6 : Int32) * a7) + a8)) else (m_turn_2_j120 rec54 rec64 (m_turn_2_l73 rec54 rec64 p1 p2 n73) p1 p2 V a3 a4 a6 a7 a8 a8 ((6 : Int32) * a7) (((6 : Int32) * a7) + a8)))
def m_turn_2_l64 (rec54 : Mm → Int32 → Int64 → Int32 → Option (Int32 × Mm)) (p1 : Int32) (p2 : Int32) : Nat → Mm → Int32 → Int64 → Int32 → Int32 → Option (Int32 × Mm)
  | 0, _, _, _, _, _ => none
  | n64 + 1, V, a3, a4, a6, a7 =>
  if (2 : Int32) ≤ a7 then (m_turn_2_j135 rec54 p1 p2 V a3 a4 a6) else (m_turn_2_l73 rec54 (m_turn_2_l64 rec54 p1 p2 n64) p1 p2 200 V a3 a4 a6 a7 (0 : Int32))
def m_turn_2_l54 (p1 : Int32) (p2 : Int32) : Nat → Mm → Int32 → Int64 → Int32 → Option (Int32 × Mm)
  | 0, _, _, _, _ => none
  | n54 + 1, V, a3, a4, a6 =>
  if (6 : Int32) ≤ a6 then (m_turn_2_j202 p1 p2 V a3 a4) else (m_turn_2_l64 (m_turn_2_l54 p1 p2 n54) p1 p2 200 V a3 a4 a6 (0 : Int32))
def m_turn_2 (V : Mm) (p1 : Int32) (p2 : Int32) : Option (Int32 × Mm) :=
  lt_ (mset V 0 13 (0 : Int32)) fun V1 => if (pm_isTeam p1) = (0 : Int32) then (some ((-1 : Int32), V1)) else (if (pm_isTeam p2) = (0 : Int32) then (some ((-1 : Int32), V1)) else (bi_ (m_isOn V1) fun r4 V2 => if r4 = (0 : Int32) then (if (V2.1 5 0) = (0 : Int32) then (some ((-1 : Int32), V2)) else (if (V2.1 5 1) = (0 : Int32) then (some ((-1 : Int32), V2)) else (m_turn_2_l54 p1 p2 200 V2 (-1 : Int32) (0 : Int64) (0 : Int32)))) else (some ((-1 : Int32), V2))))
theorem hdX3_turn_2 : w6_hd yX3_turn_2 2 := by decide +kernel
abbrev rmX3_turn_2 : Room := { frames := 4, cells := 0, slots := 0, locals := 104 }
set_option maxHeartbeats 4000000 in
set_option maxRecDepth 100000 in
theorem ctm_turn_2 (l : Launch) (D : va_G) (g : Nat → ClassId) (ad : Nat → Nat) (V : Mm) (p1 : Int32) (p2 : Int32) (r : Int32) (V' : Mm) (hf : m_turn_2 V p1 p2 = some (r, V'))  : CTi l D g yX3_turn_2 cX3_turn_2 9 .int rmX3_turn_2 [.ref (ad 0), .int p1, .int p2] (mw g ad V) (mw g ad V') r := by
  intro sz
  refine w6_starti RX3 (by decide) (Nat.le_of_ble_eq_true rfl) rfl ?_
  intro p e s m below meth c A ls Q hx hb hown hts F I hl hret
  have hl : lv_has ls 9 [(0, .ref (ad 0)), (1, .int p1), (2, .int p2)] := hl
  have hJ202 : ∀ (V : Mm) (a3 : Int32) (a4 : Int64) (H : Heap) (locs : List Loc) (ls : Array Slot), m_turn_2_j202 p1 p2 V a3 a4 = some (r, V') → w6_I D (mw g ad V ++ []) A s H locs → lv_has ls 9 [(0, .ref (ad 0)), (3, .int a3), (4, .long a4)] → W p l e rmX3_turn_2 s m ([.ref (ad 0), .int p1, .int p2] : List Value).toArray below meth c H locs 0 0 Q (F0 m 202 ls []) := by
    intro V a3 a4 H locs ls hf I hl
    unfold m_turn_2_j202 at hf
    refine lv_aload_n hx hb dX3_turn_2_202 rfl (lv_at hl 0 rfl) ?_
    refine lv_lload hx hb dX3_turn_2_203 (lv_at hl 2 rfl) ?_
    refine lv_l2i (v := (a4.toInt32)) hx hb dX3_turn_2_205 rfl ?_
    obtain ⟨V5, eV5, hf⟩ := lt_e hf
    refine w6_put msh_lc F I mo_ob rfl in_X3 tyX3 tyX3_ok nmX3 11 (by decide) (mo_nf 11 (by decide)) q775 rfl rfl (tyX3_ok 11 (by decide)) rfl rfl dX3_turn_2_206 eV5 (fun H locs I => ?_)
    refine lv_aload_n hx hb dX3_turn_2_209 rfl (lv_at hl 0 rfl) ?_
    refine lv_iconst (v := (1 : Int32)) hx hb dX3_turn_2_210 (by decide) ?_
    obtain ⟨V6, eV6, hf⟩ := lt_e hf
    refine w6_put msh_lc F I mo_ob rfl in_X3 tyX3 tyX3_ok nmX3 12 (by decide) (mo_nf 12 (by decide)) q776 rfl rfl (tyX3_ok 12 (by decide)) rfl rfl dX3_turn_2_211 eV6 (fun H locs I => ?_)
    refine lv_iload_n hx hb dX3_turn_2_214 rfl (lv_at hl 1 rfl) ?_
    exact hret _ _ _ _ _ dX3_turn_2_215 (w6_mv (so_e hf).2 I) (so_e hf).1 rfl
  have hL54 : ∀ (n54 : Nat) (V : Mm) (a3 : Int32) (a4 : Int64) (a6 : Int32) (H : Heap) (locs : List Loc) (ls : Array Slot), m_turn_2_l54 p1 p2 n54 V a3 a4 a6 = some (r, V') → w6_I D (mw g ad V ++ []) A s H locs → lv_has ls 9 [(0, .ref (ad 0)), (1, .int p1), (2, .int p2), (3, .int a3), (4, .long a4), (6, .int a6)] → W p l e rmX3_turn_2 s m ([.ref (ad 0), .int p1, .int p2] : List Value).toArray below meth c H locs 0 0 Q (F0 m 54 ls []) := by
    intro n54
    induction n54 with
    | zero =>
      intro V a3 a4 a6 H locs ls hf
      rw [m_turn_2_l54] at hf
      cases hf
    | succ n54 ih54 =>
      have hJ196 : ∀ (V : Mm) (a3 : Int32) (a4 : Int64) (a6 : Int32) (H : Heap) (locs : List Loc) (ls : Array Slot), m_turn_2_j196 (m_turn_2_l54 p1 p2 n54) p1 p2 V a3 a4 a6 = some (r, V') → w6_I D (mw g ad V ++ []) A s H locs → lv_has ls 9 [(0, .ref (ad 0)), (1, .int p1), (2, .int p2), (3, .int a3), (4, .long a4), (6, .int a6)] → W p l e rmX3_turn_2 s m ([.ref (ad 0), .int p1, .int p2] : List Value).toArray below meth c H locs 0 0 Q (F0 m 196 ls []) := by
        intro V a3 a4 a6 H locs ls hf I hl
        unfold m_turn_2_j196 at hf
        obtain ⟨v14, ev14, hf⟩ := lt_e hf
        refine lv_iinc (v := v14) (lv' := [(6, .int v14), (0, .ref (ad 0)), (1, .int p1), (2, .int p2), (3, .int a3), (4, .long a4)]) hx hb dX3_turn_2_196 hl (k := 5) rfl (by rw [ev14]; rfl) (by decide) rfl (fun ls hl => ?_)
        refine lv_goto (tgt := 54) hx hb dX3_turn_2_199 (by decide) ?_
        exact ih54 V a3 a4 v14 _ _ ls hf I (lv_sub hl [1, 2, 3, 4, 5, 0] rfl)
      have hJ189 : ∀ (V : Mm) (a6 : Int32) (a7 : Int64) (H : Heap) (locs : List Loc) (ls : Array Slot), m_turn_2_j189 (m_turn_2_l54 p1 p2 n54) p1 p2 V a6 a7 = some (r, V') → w6_I D (mw g ad V ++ []) A s H locs → lv_has ls 9 [(0, .ref (ad 0)), (1, .int p1), (2, .int p2), (6, .int a6), (7, .long a7)] → W p l e rmX3_turn_2 s m ([.ref (ad 0), .int p1, .int p2] : List Value).toArray below meth c H locs 0 0 Q (F0 m 189 ls []) := by
        intro V a6 a7 H locs ls hf I hl
        unfold m_turn_2_j189 at hf
        refine lv_iload hx hb dX3_turn_2_189 (lv_at hl 3 rfl) ?_
        refine lv_istore_n (lv' := [(3, .int a6), (0, .ref (ad 0)), (1, .int p1), (2, .int p2), (6, .int a6), (7, .long a7)]) hx hb dX3_turn_2_191 rfl hl (by decide) rfl (fun ls hl => ?_)
        refine lv_lload hx hb dX3_turn_2_192 (lv_at hl 5 rfl) ?_
        refine lv_lstore (lv' := [(4, .long a7), (3, .int a6), (0, .ref (ad 0)), (1, .int p1), (2, .int p2), (6, .int a6), (7, .long a7)]) hx hb dX3_turn_2_194 hl (by decide) rfl (fun ls hl => ?_)
        exact hJ196 V a6 a7 a6 _ _ ls hf I (lv_sub hl [2, 3, 4, 1, 0, 5] rfl)
      have hJ135 : ∀ (V : Mm) (a3 : Int32) (a4 : Int64) (a6 : Int32) (H : Heap) (locs : List Loc) (ls : Array Slot), m_turn_2_j135 (m_turn_2_l54 p1 p2 n54) p1 p2 V a3 a4 a6 = some (r, V') → w6_I D (mw g ad V ++ []) A s H locs → lv_has ls 9 [(0, .ref (ad 0)), (1, .int p1), (2, .int p2), (3, .int a3), (4, .long a4), (6, .int a6)] → W p l e rmX3_turn_2 s m ([.ref (ad 0), .int p1, .int p2] : List Value).toArray below meth c H locs 0 0 Q (F0 m 135 ls []) := by
        intro V a3 a4 a6 H locs ls hf I hl
        unfold m_turn_2_j135 at hf
        refine lv_aload_n hx hb dX3_turn_2_135 rfl (lv_at hl 0 rfl) ?_
        refine lv_aload_n hx hb dX3_turn_2_136 rfl (lv_at hl 0 rfl) ?_
        obtain ⟨r9, V7, h8, hf⟩ := bi_e hf
        refine xz_Vi F I (ctm_goal l D g ad V r9 V7 h8 ) (lw_V q881 q883 qs27 q50 q884) hdX3_goal rfl (Nat.le_of_ble_eq_true rfl) (Nat.le_of_ble_eq_true rfl) (w6_recv F I mo_ob rfl) rfl hl.1 [.ref (ad 0)] rfl (Nat.le_of_ble_eq_true rfl) dX3_turn_2_137 ⟨Nat.le_of_ble_eq_true rfl, Nat.le_of_ble_eq_true rfl⟩ (fun H locs I => ?_)
        obtain ⟨V10, h11, hf⟩ := bn_e hf
        refine xz_Vv F I (ctm_fill l D g ad V7 r9 V10 h11 ) (lw_V q1022 q1024 qs44 q50 q1025) hdX3_fill rfl (Nat.le_of_ble_eq_true rfl) (Nat.le_of_ble_eq_true rfl) (w6_recv F I mo_ob rfl) rfl hl.1 [] rfl (Nat.le_of_ble_eq_true rfl) dX3_turn_2_140 ⟨Nat.le_of_ble_eq_true rfl, Nat.le_of_ble_eq_true rfl⟩ (fun H locs I => ?_)
        refine lv_aload_n hx hb dX3_turn_2_143 rfl (lv_at hl 0 rfl) ?_
        refine w6_get F I mo_ob rfl in_X3 17 (by decide) q781 rfl rfl dX3_turn_2_144 ?_
        refine lv_iconst (v := (0 : Int32)) hx hb dX3_turn_2_147 (by decide) ?_
        refine lv_iconst (v := (0 : Int32)) hx hb dX3_turn_2_148 (by decide) ?_
        refine lv_iload_n hx hb dX3_turn_2_149 rfl (lv_at hl 2 rfl) ?_
        refine lv_iconst (v := (0 : Int32)) hx hb dX3_turn_2_150 (by decide) ?_
        refine lv_iconst (v := (0 : Int32)) hx hb dX3_turn_2_151 (by decide) ?_
        refine xz_Pi F I (ctpm_cell l D g (0 : Int32) (0 : Int32) p2 (0 : Int32) (0 : Int32) _ rfl) (lw_S q1028 q1029 q50 q1030) hdX3_cell (Nat.le_of_ble_eq_true rfl) (Nat.le_of_ble_eq_true rfl) rfl hl.1 [.ref (ad 14)] rfl (Nat.le_of_ble_eq_true rfl) dX3_turn_2_152 ⟨Nat.le_of_ble_eq_true rfl, Nat.le_of_ble_eq_true rfl⟩ (fun H locs I => ?_)
        obtain ⟨g12, hf⟩ := gd_e hf
        refine w6_lald (j := (pm_cell (0 : Int32) (0 : Int32) p2 (0 : Int32) (0 : Int32)).toNatClampNeg) F I g12 rfl dX3_turn_2_155 ?_
        obtain ⟨v13, ev13, hf⟩ := lt_e hf
        refine w6_nml ev13 ?_
        refine lv_lstore (lv' := [(7, .long v13), (0, .ref (ad 0)), (1, .int p1), (2, .int p2), (3, .int a3), (4, .long a4), (6, .int a6)]) hx hb dX3_turn_2_156 hl (by decide) rfl (fun ls hl => ?_)
        refine lv_iload_n hx hb dX3_turn_2_158 rfl (lv_at hl 4 rfl) ?_
        refine lv_iconst (v := (-1 : Int32)) hx hb dX3_turn_2_159 (by decide) ?_
        refine lv_icmp_eq (tgt := 189) hx hb dX3_turn_2_160 (by decide) (fun c => ?_) (fun c => ?_)
        · have hf := if_p c hf
          exact hJ189 V10 a6 v13 _ _ ls hf I (lv_sub hl [1, 2, 3, 6, 0] rfl)
        · have hf := if_n c hf
          refine lv_iload_n hx hb dX3_turn_2_163 rfl (lv_at hl 2 rfl) ?_
          refine lv_if_ne (tgt := 178) hx hb dX3_turn_2_164 (by decide) (fun c => ?_) (fun c => ?_)
          · have hf := if_n c hf
            refine lv_lload hx hb dX3_turn_2_178 (lv_at hl 0 rfl) ?_
            refine lv_lload hx hb dX3_turn_2_180 (lv_at hl 5 rfl) ?_
            refine W.lcmp hx hb dX3_turn_2_182 ?_
            refine lv_if_lt (tgt := 189) hx hb dX3_turn_2_183 (by decide) (fun c => ?_) (fun c => ?_)
            · have hf := if_p c hf
              exact hJ189 V10 a6 v13 _ _ ls hf I (lv_sub hl [1, 2, 3, 6, 0] rfl)
            · have hf := if_n c hf
              refine lv_goto (tgt := 196) hx hb dX3_turn_2_186 (by decide) ?_
              exact hJ196 V10 a3 a4 a6 _ _ ls hf I (lv_sub hl [1, 2, 3, 4, 5, 6] rfl)
          · have hf := if_p c hf
            refine lv_lload hx hb dX3_turn_2_167 (lv_at hl 0 rfl) ?_
            refine lv_lload hx hb dX3_turn_2_169 (lv_at hl 5 rfl) ?_
            refine W.lcmp hx hb dX3_turn_2_171 ?_
            refine lv_if_gt (tgt := 189) hx hb dX3_turn_2_172 (by decide) (fun c => ?_) (fun c => ?_)
            · have hf := if_p c hf
              exact hJ189 V10 a6 v13 _ _ ls hf I (lv_sub hl [1, 2, 3, 6, 0] rfl)
            · have hf := if_n c hf
              refine lv_goto (tgt := 196) hx hb dX3_turn_2_175 (by decide) ?_
              exact hJ196 V10 a3 a4 a6 _ _ ls hf I (lv_sub hl [1, 2, 3, 4, 5, 6] rfl)
      have hL64 : ∀ (n64 : Nat) (V : Mm) (a3 : Int32) (a4 : Int64) (a6 : Int32) (a7 : Int32) (H : Heap) (locs : List Loc) (ls : Array Slot), m_turn_2_l64 (m_turn_2_l54 p1 p2 n54) p1 p2 n64 V a3 a4 a6 a7 = some (r, V') → w6_I D (mw g ad V ++ []) A s H locs → lv_has ls 9 [(0, .ref (ad 0)), (1, .int p1), (2, .int p2), (3, .int a3), (4, .long a4), (6, .int a6), (7, .int a7)] → W p l e rmX3_turn_2 s m ([.ref (ad 0), .int p1, .int p2] : List Value).toArray below meth c H locs 0 0 Q (F0 m 64 ls []) := by
        intro n64
        induction n64 with
        | zero =>
          intro V a3 a4 a6 a7 H locs ls hf
          rw [m_turn_2_l64] at hf
          cases hf
        | succ n64 ih64 =>
          have hJ129 : ∀ (V : Mm) (a3 : Int32) (a4 : Int64) (a6 : Int32) (a7 : Int32) (H : Heap) (locs : List Loc) (ls : Array Slot), m_turn_2_j129 (m_turn_2_l54 p1 p2 n54) (m_turn_2_l64 (m_turn_2_l54 p1 p2 n54) p1 p2 n64) p1 p2 V a3 a4 a6 a7 = some (r, V') → w6_I D (mw g ad V ++ []) A s H locs → lv_has ls 9 [(0, .ref (ad 0)), (1, .int p1), (2, .int p2), (3, .int a3), (4, .long a4), (6, .int a6), (7, .int a7)] → W p l e rmX3_turn_2 s m ([.ref (ad 0), .int p1, .int p2] : List Value).toArray below meth c H locs 0 0 Q (F0 m 129 ls []) := by
            intro V a3 a4 a6 a7 H locs ls hf I hl
            unfold m_turn_2_j129 at hf
            obtain ⟨v15, ev15, hf⟩ := lt_e hf
            refine lv_iinc (v := v15) (lv' := [(7, .int v15), (0, .ref (ad 0)), (1, .int p1), (2, .int p2), (3, .int a3), (4, .long a4), (6, .int a6)]) hx hb dX3_turn_2_129 hl (k := 6) rfl (by rw [ev15]; rfl) (by decide) rfl (fun ls hl => ?_)
            refine lv_goto (tgt := 64) hx hb dX3_turn_2_132 (by decide) ?_
            exact ih64 V a3 a4 a6 v15 _ _ ls hf I (lv_sub hl [1, 2, 3, 4, 5, 6, 0] rfl)
          have hL73 : ∀ (n73 : Nat) (V : Mm) (a3 : Int32) (a4 : Int64) (a6 : Int32) (a7 : Int32) (a8 : Int32) (H : Heap) (locs : List Loc) (ls : Array Slot), m_turn_2_l73 (m_turn_2_l54 p1 p2 n54) (m_turn_2_l64 (m_turn_2_l54 p1 p2 n54) p1 p2 n64) p1 p2 n73 V a3 a4 a6 a7 a8 = some (r, V') → w6_I D (mw g ad V ++ []) A s H locs → lv_has ls 9 [(0, .ref (ad 0)), (1, .int p1), (2, .int p2), (3, .int a3), (4, .long a4), (6, .int a6), (7, .int a7), (8, .int a8)] → W p l e rmX3_turn_2 s m ([.ref (ad 0), .int p1, .int p2] : List Value).toArray below meth c H locs 0 0 Q (F0 m 73 ls []) := by
            intro n73
            induction n73 with
            | zero =>
              intro V a3 a4 a6 a7 a8 H locs ls hf
              rw [m_turn_2_l73] at hf
              cases hf
            | succ n73 ih73 =>
              have hJ120 : ∀ (V : Mm) (a3 : Int32) (a4 : Int64) (a6 : Int32) (a7 : Int32) (a8 : Int32) (s0 : Int32) (s1 : Int32) (s3 : Int32) (H : Heap) (locs : List Loc) (ls : Array Slot), m_turn_2_j120 (m_turn_2_l54 p1 p2 n54) (m_turn_2_l64 (m_turn_2_l54 p1 p2 n54) p1 p2 n64) (m_turn_2_l73 (m_turn_2_l54 p1 p2 n54) (m_turn_2_l64 (m_turn_2_l54 p1 p2 n54) p1 p2 n64) p1 p2 n73) p1 p2 V a3 a4 a6 a7 a8 s0 s1 s3 = some (r, V') → w6_I D (mw g ad V ++ []) A s H locs → lv_has ls 9 [(0, .ref (ad 0)), (1, .int p1), (2, .int p2), (3, .int a3), (4, .long a4), (6, .int a6), (7, .int a7), (8, .int a8)] → W p l e rmX3_turn_2 s m ([.ref (ad 0), .int p1, .int p2] : List Value).toArray below meth c H locs 0 0 Q (F0 m 120 ls [.int s0, .int s1, .ref (ad 4), .int s3, .ref (ad 12)]) := by
                intro V a3 a4 a6 a7 a8 s0 s1 s3 H locs ls hf I hl
                unfold m_turn_2_j120 at hf
                refine lv_iadd hx hb dX3_turn_2_120 ?_
                obtain ⟨g16, hf⟩ := gd_e hf
                refine w6_iald (j := (s1 + s0).toNatClampNeg) F I (m_ar 4 12 (by decide) rfl) g16 rfl dX3_turn_2_121 ?_
                obtain ⟨g17, hf⟩ := gd_e hf
                obtain ⟨V18, eV18, hf⟩ := lt_e hf
                refine w6_iast (j := s3.toNatClampNeg) msh_lc F I (m_ar 12 12 (by decide) rfl) g17 rfl dX3_turn_2_122 eV18 (fun H locs I => ?_)
                obtain ⟨v19, ev19, hf⟩ := lt_e hf
                refine lv_iinc (v := v19) (lv' := [(8, .int v19), (0, .ref (ad 0)), (1, .int p1), (2, .int p2), (3, .int a3), (4, .long a4), (6, .int a6), (7, .int a7)]) hx hb dX3_turn_2_123 hl (k := 7) rfl (by rw [ev19]; rfl) (by decide) rfl (fun ls hl => ?_)
                refine lv_goto (tgt := 73) hx hb dX3_turn_2_126 (by decide) ?_
                exact ih73 V18 a3 a4 a6 a7 v19 _ _ ls hf I (lv_sub hl [1, 2, 3, 4, 5, 6, 7, 0] rfl)
              intro V a3 a4 a6 a7 a8 H locs ls hf I hl
              rw [m_turn_2_l73] at hf
              refine lv_iload hx hb dX3_turn_2_73 (lv_at hl 7 rfl) ?_
              refine lv_bipush (v := (6 : Int32)) hx hb dX3_turn_2_75 (by decide) ?_
              refine lv_icmp_ge (tgt := 129) hx hb dX3_turn_2_77 (by decide) (fun c => ?_) (fun c => ?_)
              · have hf := if_p c hf
                exact hJ129 V a3 a4 a6 a7 _ _ ls hf I (lv_sub hl [0, 1, 2, 3, 4, 5, 6] rfl)
              · have hf := if_n c hf
                refine lv_aload_n hx hb dX3_turn_2_80 rfl (lv_at hl 0 rfl) ?_
                refine w6_get F I mo_ob rfl in_X3 15 (by decide) q779 rfl rfl dX3_turn_2_81 ?_
                refine lv_bipush (v := (6 : Int32)) hx hb dX3_turn_2_84 (by decide) ?_
                refine lv_iload hx hb dX3_turn_2_86 (lv_at hl 6 rfl) ?_
                refine lv_imul hx hb dX3_turn_2_88 ?_
                refine lv_iload hx hb dX3_turn_2_89 (lv_at hl 7 rfl) ?_
                refine lv_iadd hx hb dX3_turn_2_91 ?_
                refine lv_aload_n hx hb dX3_turn_2_92 rfl (lv_at hl 0 rfl) ?_
                refine w6_get F I mo_ob rfl in_X3 3 (by decide) q767 rfl rfl dX3_turn_2_93 ?_
                refine lv_bipush (v := (6 : Int32)) hx hb dX3_turn_2_96 (by decide) ?_
                refine lv_iload hx hb dX3_turn_2_98 (lv_at hl 6 rfl) ?_
                refine lv_imul hx hb dX3_turn_2_100 ?_
                refine lv_iload hx hb dX3_turn_2_101 (lv_at hl 6 rfl) ?_
                refine lv_iload_n hx hb dX3_turn_2_103 rfl (lv_at hl 1 rfl) ?_
                refine lv_icmp_ne (tgt := 118) hx hb dX3_turn_2_104 (by decide) (fun c => ?_) (fun c => ?_)
                · have hf := if_n c hf
                  refine lv_iload hx hb dX3_turn_2_118 (lv_at hl 7 rfl) ?_
                  exact hJ120 V a3 a4 a6 a7 a8 a8 ((6 : Int32) * a7) (((6 : Int32) * a7) + a8) _ _ ls hf I (lv_sub hl [0, 1, 2, 3, 4, 5, 6, 7] rfl)
                · have hf := if_p c hf
                  refine lv_iload hx hb dX3_turn_2_107 (lv_at hl 7 rfl) ?_
                  refine lv_iload hx hb dX3_turn_2_109 (lv_at hl 5 rfl) ?_
                  refine lv_iadd hx hb dX3_turn_2_111 ?_
                  refine lv_bipush (v := (6 : Int32)) hx hb dX3_turn_2_112 (by decide) ?_
                  refine lv_irem hx hb dX3_turn_2_114 (by decide) ?_
                  refine lv_goto (tgt := 120) hx hb dX3_turn_2_115 (by decide) ?_
                  exact hJ120 V a3 a4 a6 a7 a8 ((a8 + a6) - (a8 + a6) / (6 : Int32) * (6 : Int32)) ((6 : Int32) * a7) (((6 : Int32) * a7) + a8) _ _ ls hf I (lv_sub hl [0, 1, 2, 3, 4, 5, 6, 7] rfl)
          intro V a3 a4 a6 a7 H locs ls hf I hl
          rw [m_turn_2_l64] at hf
          refine lv_iload hx hb dX3_turn_2_64 (lv_at hl 6 rfl) ?_
          refine lv_iconst (v := (2 : Int32)) hx hb dX3_turn_2_66 (by decide) ?_
          refine lv_icmp_ge (tgt := 135) hx hb dX3_turn_2_67 (by decide) (fun c => ?_) (fun c => ?_)
          · have hf := if_p c hf
            exact hJ135 V a3 a4 a6 _ _ ls hf I (lv_sub hl [0, 1, 2, 3, 4, 5] rfl)
          · have hf := if_n c hf
            refine lv_iconst (v := (0 : Int32)) hx hb dX3_turn_2_70 (by decide) ?_
            refine lv_istore (lv' := [(8, .int (0 : Int32)), (0, .ref (ad 0)), (1, .int p1), (2, .int p2), (3, .int a3), (4, .long a4), (6, .int a6), (7, .int a7)]) hx hb dX3_turn_2_71 hl (by decide) rfl (fun ls hl => ?_)
            exact hL73 200 V a3 a4 a6 a7 (0 : Int32) _ _ ls hf I (lv_sub hl [1, 2, 3, 4, 5, 6, 7, 0] rfl)
      intro V a3 a4 a6 H locs ls hf I hl
      rw [m_turn_2_l54] at hf
      refine lv_iload hx hb dX3_turn_2_54 (lv_at hl 5 rfl) ?_
      refine lv_bipush (v := (6 : Int32)) hx hb dX3_turn_2_56 (by decide) ?_
      refine lv_icmp_ge (tgt := 202) hx hb dX3_turn_2_58 (by decide) (fun c => ?_) (fun c => ?_)
      · have hf := if_p c hf
        exact hJ202 V a3 a4 _ _ ls hf I (lv_sub hl [0, 3, 4] rfl)
      · have hf := if_n c hf
        refine lv_iconst (v := (0 : Int32)) hx hb dX3_turn_2_61 (by decide) ?_
        refine lv_istore (lv' := [(7, .int (0 : Int32)), (0, .ref (ad 0)), (1, .int p1), (2, .int p2), (3, .int a3), (4, .long a4), (6, .int a6)]) hx hb dX3_turn_2_62 hl (by decide) rfl (fun ls hl => ?_)
        exact hL64 200 V a3 a4 a6 (0 : Int32) _ _ ls hf I (lv_sub hl [1, 2, 3, 4, 5, 6, 0] rfl)
  unfold m_turn_2 at hf
  refine lv_aload_n hx hb dX3_turn_2_0 rfl (lv_at hl 0 rfl) ?_
  refine lv_iconst (v := (0 : Int32)) hx hb dX3_turn_2_1 (by decide) ?_
  obtain ⟨V1, eV1, hf⟩ := lt_e hf
  refine w6_put msh_lc F I mo_ob rfl in_X3 tyX3 tyX3_ok nmX3 13 (by decide) (mo_nf 13 (by decide)) q777 rfl rfl (tyX3_ok 13 (by decide)) rfl rfl dX3_turn_2_2 eV1 (fun H locs I => ?_)
  refine lv_iload_n hx hb dX3_turn_2_5 rfl (lv_at hl 1 rfl) ?_
  refine xz_Pi F I (ctpm_isTeam l D g p1 _ rfl) (lw_S q828 q829 q50 q830) hdX3_isTeam (Nat.le_of_ble_eq_true rfl) (Nat.le_of_ble_eq_true rfl) rfl hl.1 [] rfl (Nat.le_of_ble_eq_true rfl) dX3_turn_2_6 ⟨Nat.le_of_ble_eq_true rfl, Nat.le_of_ble_eq_true rfl⟩ (fun H locs I => ?_)
  refine lv_if_eq (tgt := 44) hx hb dX3_turn_2_9 (by decide) (fun c => ?_) (fun c => ?_)
  · have hf := if_p c hf
    refine lv_iconst (v := (-1 : Int32)) hx hb dX3_turn_2_44 (by decide) ?_
    exact hret _ _ _ _ _ dX3_turn_2_45 (w6_mv (so_e hf).2 I) (so_e hf).1 rfl
  · have hf := if_n c hf
    refine lv_iload_n hx hb dX3_turn_2_12 rfl (lv_at hl 2 rfl) ?_
    refine xz_Pi F I (ctpm_isTeam l D g p2 _ rfl) (lw_S q828 q829 q50 q830) hdX3_isTeam (Nat.le_of_ble_eq_true rfl) (Nat.le_of_ble_eq_true rfl) rfl hl.1 [] rfl (Nat.le_of_ble_eq_true rfl) dX3_turn_2_13 ⟨Nat.le_of_ble_eq_true rfl, Nat.le_of_ble_eq_true rfl⟩ (fun H locs I => ?_)
    refine lv_if_eq (tgt := 44) hx hb dX3_turn_2_16 (by decide) (fun c => ?_) (fun c => ?_)
    · have hf := if_p c hf
      refine lv_iconst (v := (-1 : Int32)) hx hb dX3_turn_2_44 (by decide) ?_
      exact hret _ _ _ _ _ dX3_turn_2_45 (w6_mv (so_e hf).2 I) (so_e hf).1 rfl
    · have hf := if_n c hf
      refine lv_aload_n hx hb dX3_turn_2_19 rfl (lv_at hl 0 rfl) ?_
      obtain ⟨r4, V2, h3, hf⟩ := bi_e hf
      refine xz_Vi F I (ctm_isOn l D g ad V1 r4 V2 h3 ) (lw_V q845 q847 qs23 q50 q848) hdX3_isOn rfl (Nat.le_of_ble_eq_true rfl) (Nat.le_of_ble_eq_true rfl) (w6_recv F I mo_ob rfl) rfl hl.1 [] rfl (Nat.le_of_ble_eq_true rfl) dX3_turn_2_20 ⟨Nat.le_of_ble_eq_true rfl, Nat.le_of_ble_eq_true rfl⟩ (fun H locs I => ?_)
      refine lv_if_ne (tgt := 44) hx hb dX3_turn_2_23 (by decide) (fun c => ?_) (fun c => ?_)
      · have hf := if_n c hf
        refine lv_iconst (v := (-1 : Int32)) hx hb dX3_turn_2_44 (by decide) ?_
        exact hret _ _ _ _ _ dX3_turn_2_45 (w6_mv (so_e hf).2 I) (so_e hf).1 rfl
      · have hf := if_p c hf
        refine lv_aload_n hx hb dX3_turn_2_26 rfl (lv_at hl 0 rfl) ?_
        refine w6_get F I mo_ob rfl in_X3 4 (by decide) q768 rfl rfl dX3_turn_2_27 ?_
        refine lv_iconst (v := (0 : Int32)) hx hb dX3_turn_2_30 (by decide) ?_
        refine w6_zald (j := 0) F I m_az (show ix_ (0 : Int32) 2 by decide) rfl dX3_turn_2_31 ?_
        refine lv_if_eq (tgt := 44) hx hb dX3_turn_2_32 (by decide) (fun c => ?_) (fun c => ?_)
        · have hf := if_p c hf
          refine lv_iconst (v := (-1 : Int32)) hx hb dX3_turn_2_44 (by decide) ?_
          exact hret _ _ _ _ _ dX3_turn_2_45 (w6_mv (so_e hf).2 I) (so_e hf).1 rfl
        · have hf := if_n c hf
          refine lv_aload_n hx hb dX3_turn_2_35 rfl (lv_at hl 0 rfl) ?_
          refine w6_get F I mo_ob rfl in_X3 4 (by decide) q768 rfl rfl dX3_turn_2_36 ?_
          refine lv_iconst (v := (1 : Int32)) hx hb dX3_turn_2_39 (by decide) ?_
          refine w6_zald (j := 1) F I m_az (show ix_ (1 : Int32) 2 by decide) rfl dX3_turn_2_40 ?_
          refine lv_if_ne (tgt := 46) hx hb dX3_turn_2_41 (by decide) (fun c => ?_) (fun c => ?_)
          · have hf := if_n c hf
            refine lv_iconst (v := (-1 : Int32)) hx hb dX3_turn_2_46 (by decide) ?_
            refine lv_istore_n (lv' := [(3, .int (-1 : Int32)), (0, .ref (ad 0)), (1, .int p1), (2, .int p2)]) hx hb dX3_turn_2_47 rfl hl (by decide) rfl (fun ls hl => ?_)
            refine lv_lconst (v := (0 : Int64)) hx hb dX3_turn_2_48 (by decide) ?_
            refine lv_lstore (lv' := [(4, .long (0 : Int64)), (3, .int (-1 : Int32)), (0, .ref (ad 0)), (1, .int p1), (2, .int p2)]) hx hb dX3_turn_2_49 hl (by decide) rfl (fun ls hl => ?_)
            refine lv_iconst (v := (0 : Int32)) hx hb dX3_turn_2_51 (by decide) ?_
            refine lv_istore (lv' := [(6, .int (0 : Int32)), (4, .long (0 : Int64)), (3, .int (-1 : Int32)), (0, .ref (ad 0)), (1, .int p1), (2, .int p2)]) hx hb dX3_turn_2_52 hl (by decide) rfl (fun ls hl => ?_)
            exact hL54 200 V2 (-1 : Int32) (0 : Int64) (0 : Int32) _ _ ls hf I (lv_sub hl [3, 4, 5, 2, 1, 0] rfl)
          · have hf := if_p c hf
            refine lv_iconst (v := (-1 : Int32)) hx hb dX3_turn_2_44 (by decide) ?_
            exact hret _ _ _ _ _ dX3_turn_2_45 (w6_mv (so_e hf).2 I) (so_e hf).1 rfl
def m_advice_j159 (p1 : Int32) (V : Mm)  (a2 : Int32) (a3 : Int32) : Option (Int32 × Mm) :=
  if a2 = (-2 : Int32) then (some (a2, V)) else (lt_ (mset V 0 11 a3) fun V15 => lt_ (mset V15 0 12 (1 : Int32)) fun V16 => some (a2, V16))
def m_advice_j153 (rec44 : Mm → Int32 → Int32 → Int32 → Option (Int32 × Mm)) (p1 : Int32) (V : Mm)  (a2 : Int32) (a3 : Int32) (a4 : Int32) : Option (Int32 × Mm) :=
  lt_ (a4 + (1 : Int32)) fun v17 => rec44 V a2 a3 v17
def m_advice_j147 (rec44 : Mm → Int32 → Int32 → Int32 → Option (Int32 × Mm)) (rec54 : Mm → Int32 → Int32 → Int32 → Int32 → Option (Int32 × Mm)) (p1 : Int32) (V : Mm)  (a2 : Int32) (a3 : Int32) (a4 : Int32) (a5 : Int32) : Option (Int32 × Mm) :=
  lt_ (a5 + (1 : Int32)) fun v37 => rec54 V a2 a3 a4 v37
def m_advice_j135 (rec44 : Mm → Int32 → Int32 → Int32 → Option (Int32 × Mm)) (rec54 : Mm → Int32 → Int32 → Int32 → Int32 → Option (Int32 × Mm)) (p1 : Int32) (V : Mm)  (a4 : Int32) (a5 : Int32) (a6 : Int32) : Option (Int32 × Mm) :=
  lt_ ((((12 : Int32) * a4) + a5)) fun v36 => m_advice_j147 rec44 rec54 p1 V v36 a6 a4 a5
def m_advice_l54 (rec44 : Mm → Int32 → Int32 → Int32 → Option (Int32 × Mm)) (p1 : Int32) : Nat → Mm → Int32 → Int32 → Int32 → Int32 → Option (Int32 × Mm)
  | 0, _, _, _, _, _ => none
  | n54 + 1, V, a2, a3, a4, a5 =>
  if (12 : Int32) ≤ a5 then (m_advice_j153 rec44 p1 V a2 a3 a4) else (bi_ (m_mayNot V p1 a4 a5) fun r20 V18 => if r20 = (0 : Int32) then ((m_countNow V18).bind fun V21 => bi_ (m_placeOf V21 p1 a4) fun r25 V23 => gd_ (ix_ (((6 : Int32) * p1) + r25) 12) (lt_ (mset V23 12 ((((6 : Int32) * p1) + r25).toNatClampNeg) a5) fun V27 => bi_ (m_goal V27) fun r30 V28 => (m_fill V28 r30).bind fun V31 => bi_ (m_now V31) fun r35 V33 => if p1 = (0 : Int32) then (if a3 < r35 then (m_advice_j135 rec44 (m_advice_l54 rec44 p1 n54) p1 V33 a4 a5 r35) else (m_advice_j147 rec44 (m_advice_l54 rec44 p1 n54) p1 V33 a2 a3 a4 a5)) else (if r35 < a3 then (m_advice_j135 rec44 (m_advice_l54 rec44 p1 n54) p1 V33 a4 a5 r35) else (m_advice_j147 rec44 (m_advice_l54 rec44 p1 n54) p1 V33 a2 a3 a4 a5)))) else (m_advice_j147 rec44 (m_advice_l54 rec44 p1 n54) p1 V18 a2 a3 a4 a5))
def m_advice_l44 (p1 : Int32) : Nat → Mm → Int32 → Int32 → Int32 → Option (Int32 × Mm)
  | 0, _, _, _, _ => none
  | n44 + 1, V, a2, a3, a4 =>
  if (12 : Int32) ≤ a4 then (m_advice_j159 p1 V a2 a3) else (m_advice_l54 (m_advice_l44 p1 n44) p1 200 V a2 a3 a4 (0 : Int32))
def m_advice (V : Mm) (p1 : Int32) : Option (Int32 × Mm) :=
  lt_ (mset V 0 13 (0 : Int32)) fun V1 => if (pm_isTeam p1) = (0 : Int32) then (some ((-1 : Int32), V1)) else (bi_ (m_isOn V1) fun r4 V2 => if r4 = (0 : Int32) then (some ((-1 : Int32), V2)) else ((m_countNow V2).bind fun V5 => bi_ (m_goal V5) fun r9 V7 => (m_fill V7 r9).bind fun V10 => bi_ (m_now V10) fun r14 V12 => m_advice_l44 p1 200 V12 (-2 : Int32) r14 (0 : Int32)))
theorem hdX3_advice : w6_hd yX3_advice 1 := by decide +kernel
abbrev rmX3_advice : Room := { frames := 4, cells := 0, slots := 0, locals := 104 }
set_option maxHeartbeats 4000000 in
set_option maxRecDepth 100000 in
theorem ctm_advice (l : Launch) (D : va_G) (g : Nat → ClassId) (ad : Nat → Nat) (V : Mm) (p1 : Int32) (r : Int32) (V' : Mm) (hf : m_advice V p1 = some (r, V'))  : CTi l D g yX3_advice cX3_advice 7 .int rmX3_advice [.ref (ad 0), .int p1] (mw g ad V) (mw g ad V') r := by
  intro sz
  refine w6_starti RX3 (by decide) (Nat.le_of_ble_eq_true rfl) rfl ?_
  intro p e s m below meth c A ls Q hx hb hown hts F I hl hret
  have hl : lv_has ls 7 [(0, .ref (ad 0)), (1, .int p1)] := hl
  have hJ159 : ∀ (V : Mm) (a2 : Int32) (a3 : Int32) (H : Heap) (locs : List Loc) (ls : Array Slot), m_advice_j159 p1 V a2 a3 = some (r, V') → w6_I D (mw g ad V ++ []) A s H locs → lv_has ls 7 [(0, .ref (ad 0)), (2, .int a2), (3, .int a3)] → W p l e rmX3_advice s m ([.ref (ad 0), .int p1] : List Value).toArray below meth c H locs 0 0 Q (F0 m 159 ls []) := by
    intro V a2 a3 H locs ls hf I hl
    unfold m_advice_j159 at hf
    refine lv_iload_n hx hb dX3_advice_159 rfl (lv_at hl 1 rfl) ?_
    refine lv_bipush (v := (-2 : Int32)) hx hb dX3_advice_160 (by decide) ?_
    refine lv_icmp_ne (tgt := 167) hx hb dX3_advice_162 (by decide) (fun c => ?_) (fun c => ?_)
    · have hf := if_n c hf
      refine lv_aload_n hx hb dX3_advice_167 rfl (lv_at hl 0 rfl) ?_
      refine lv_iload_n hx hb dX3_advice_168 rfl (lv_at hl 2 rfl) ?_
      obtain ⟨V15, eV15, hf⟩ := lt_e hf
      refine w6_put msh_lc F I mo_ob rfl in_X3 tyX3 tyX3_ok nmX3 11 (by decide) (mo_nf 11 (by decide)) q775 rfl rfl (tyX3_ok 11 (by decide)) rfl rfl dX3_advice_169 eV15 (fun H locs I => ?_)
      refine lv_aload_n hx hb dX3_advice_172 rfl (lv_at hl 0 rfl) ?_
      refine lv_iconst (v := (1 : Int32)) hx hb dX3_advice_173 (by decide) ?_
      obtain ⟨V16, eV16, hf⟩ := lt_e hf
      refine w6_put msh_lc F I mo_ob rfl in_X3 tyX3 tyX3_ok nmX3 12 (by decide) (mo_nf 12 (by decide)) q776 rfl rfl (tyX3_ok 12 (by decide)) rfl rfl dX3_advice_174 eV16 (fun H locs I => ?_)
      refine lv_iload_n hx hb dX3_advice_177 rfl (lv_at hl 1 rfl) ?_
      exact hret _ _ _ _ _ dX3_advice_178 (w6_mv (so_e hf).2 I) (so_e hf).1 rfl
    · have hf := if_p c hf
      refine lv_iload_n hx hb dX3_advice_165 rfl (lv_at hl 1 rfl) ?_
      exact hret _ _ _ _ _ dX3_advice_166 (w6_mv (so_e hf).2 I) (so_e hf).1 rfl
  have hL44 : ∀ (n44 : Nat) (V : Mm) (a2 : Int32) (a3 : Int32) (a4 : Int32) (H : Heap) (locs : List Loc) (ls : Array Slot), m_advice_l44 p1 n44 V a2 a3 a4 = some (r, V') → w6_I D (mw g ad V ++ []) A s H locs → lv_has ls 7 [(0, .ref (ad 0)), (1, .int p1), (2, .int a2), (3, .int a3), (4, .int a4)] → W p l e rmX3_advice s m ([.ref (ad 0), .int p1] : List Value).toArray below meth c H locs 0 0 Q (F0 m 44 ls []) := by
    intro n44
    induction n44 with
    | zero =>
      intro V a2 a3 a4 H locs ls hf
      rw [m_advice_l44] at hf
      cases hf
    | succ n44 ih44 =>
      have hJ153 : ∀ (V : Mm) (a2 : Int32) (a3 : Int32) (a4 : Int32) (H : Heap) (locs : List Loc) (ls : Array Slot), m_advice_j153 (m_advice_l44 p1 n44) p1 V a2 a3 a4 = some (r, V') → w6_I D (mw g ad V ++ []) A s H locs → lv_has ls 7 [(0, .ref (ad 0)), (1, .int p1), (2, .int a2), (3, .int a3), (4, .int a4)] → W p l e rmX3_advice s m ([.ref (ad 0), .int p1] : List Value).toArray below meth c H locs 0 0 Q (F0 m 153 ls []) := by
        intro V a2 a3 a4 H locs ls hf I hl
        unfold m_advice_j153 at hf
        obtain ⟨v17, ev17, hf⟩ := lt_e hf
        refine lv_iinc (v := v17) (lv' := [(4, .int v17), (0, .ref (ad 0)), (1, .int p1), (2, .int a2), (3, .int a3)]) hx hb dX3_advice_153 hl (k := 4) rfl (by rw [ev17]; rfl) (by decide) rfl (fun ls hl => ?_)
        refine lv_goto (tgt := 44) hx hb dX3_advice_156 (by decide) ?_
        exact ih44 V a2 a3 v17 _ _ ls hf I (lv_sub hl [1, 2, 3, 4, 0] rfl)
      have hL54 : ∀ (n54 : Nat) (V : Mm) (a2 : Int32) (a3 : Int32) (a4 : Int32) (a5 : Int32) (H : Heap) (locs : List Loc) (ls : Array Slot), m_advice_l54 (m_advice_l44 p1 n44) p1 n54 V a2 a3 a4 a5 = some (r, V') → w6_I D (mw g ad V ++ []) A s H locs → lv_has ls 7 [(0, .ref (ad 0)), (1, .int p1), (2, .int a2), (3, .int a3), (4, .int a4), (5, .int a5)] → W p l e rmX3_advice s m ([.ref (ad 0), .int p1] : List Value).toArray below meth c H locs 0 0 Q (F0 m 54 ls []) := by
        intro n54
        induction n54 with
        | zero =>
          intro V a2 a3 a4 a5 H locs ls hf
          rw [m_advice_l54] at hf
          cases hf
        | succ n54 ih54 =>
          have hJ147 : ∀ (V : Mm) (a2 : Int32) (a3 : Int32) (a4 : Int32) (a5 : Int32) (H : Heap) (locs : List Loc) (ls : Array Slot), m_advice_j147 (m_advice_l44 p1 n44) (m_advice_l54 (m_advice_l44 p1 n44) p1 n54) p1 V a2 a3 a4 a5 = some (r, V') → w6_I D (mw g ad V ++ []) A s H locs → lv_has ls 7 [(0, .ref (ad 0)), (1, .int p1), (2, .int a2), (3, .int a3), (4, .int a4), (5, .int a5)] → W p l e rmX3_advice s m ([.ref (ad 0), .int p1] : List Value).toArray below meth c H locs 0 0 Q (F0 m 147 ls []) := by
            intro V a2 a3 a4 a5 H locs ls hf I hl
            unfold m_advice_j147 at hf
            obtain ⟨v37, ev37, hf⟩ := lt_e hf
            refine lv_iinc (v := v37) (lv' := [(5, .int v37), (0, .ref (ad 0)), (1, .int p1), (2, .int a2), (3, .int a3), (4, .int a4)]) hx hb dX3_advice_147 hl (k := 5) rfl (by rw [ev37]; rfl) (by decide) rfl (fun ls hl => ?_)
            refine lv_goto (tgt := 54) hx hb dX3_advice_150 (by decide) ?_
            exact ih54 V a2 a3 a4 v37 _ _ ls hf I (lv_sub hl [1, 2, 3, 4, 5, 0] rfl)
          have hJ135 : ∀ (V : Mm) (a4 : Int32) (a5 : Int32) (a6 : Int32) (H : Heap) (locs : List Loc) (ls : Array Slot), m_advice_j135 (m_advice_l44 p1 n44) (m_advice_l54 (m_advice_l44 p1 n44) p1 n54) p1 V a4 a5 a6 = some (r, V') → w6_I D (mw g ad V ++ []) A s H locs → lv_has ls 7 [(0, .ref (ad 0)), (1, .int p1), (4, .int a4), (5, .int a5), (6, .int a6)] → W p l e rmX3_advice s m ([.ref (ad 0), .int p1] : List Value).toArray below meth c H locs 0 0 Q (F0 m 135 ls []) := by
            intro V a4 a5 a6 H locs ls hf I hl
            unfold m_advice_j135 at hf
            refine lv_bipush (v := (12 : Int32)) hx hb dX3_advice_135 (by decide) ?_
            refine lv_iload hx hb dX3_advice_137 (lv_at hl 2 rfl) ?_
            refine lv_imul hx hb dX3_advice_139 ?_
            refine lv_iload hx hb dX3_advice_140 (lv_at hl 3 rfl) ?_
            refine lv_iadd hx hb dX3_advice_142 ?_
            obtain ⟨v36, ev36, hf⟩ := lt_e hf
            refine w6_nmi ev36 ?_
            refine lv_istore_n (lv' := [(2, .int v36), (0, .ref (ad 0)), (1, .int p1), (4, .int a4), (5, .int a5), (6, .int a6)]) hx hb dX3_advice_143 rfl hl (by decide) rfl (fun ls hl => ?_)
            refine lv_iload hx hb dX3_advice_144 (lv_at hl 5 rfl) ?_
            refine lv_istore_n (lv' := [(3, .int a6), (2, .int v36), (0, .ref (ad 0)), (1, .int p1), (4, .int a4), (5, .int a5), (6, .int a6)]) hx hb dX3_advice_146 rfl hl (by decide) rfl (fun ls hl => ?_)
            exact hJ147 V v36 a6 a4 a5 _ _ ls hf I (lv_sub hl [2, 3, 1, 0, 4, 5] rfl)
          intro V a2 a3 a4 a5 H locs ls hf I hl
          rw [m_advice_l54] at hf
          refine lv_iload hx hb dX3_advice_54 (lv_at hl 5 rfl) ?_
          refine lv_bipush (v := (12 : Int32)) hx hb dX3_advice_56 (by decide) ?_
          refine lv_icmp_ge (tgt := 153) hx hb dX3_advice_58 (by decide) (fun c => ?_) (fun c => ?_)
          · have hf := if_p c hf
            exact hJ153 V a2 a3 a4 _ _ ls hf I (lv_sub hl [0, 1, 2, 3, 4] rfl)
          · have hf := if_n c hf
            refine lv_aload_n hx hb dX3_advice_61 rfl (lv_at hl 0 rfl) ?_
            refine lv_iload_n hx hb dX3_advice_62 rfl (lv_at hl 1 rfl) ?_
            refine lv_iload hx hb dX3_advice_63 (lv_at hl 4 rfl) ?_
            refine lv_iload hx hb dX3_advice_65 (lv_at hl 5 rfl) ?_
            obtain ⟨r20, V18, h19, hf⟩ := bi_e hf
            refine xz_Vi F I (ctm_mayNot l D g ad V p1 a4 a5 r20 V18 h19 ) (lw_V q901 q903 qs31 q50 q904) hdX3_mayNot rfl (Nat.le_of_ble_eq_true rfl) (Nat.le_of_ble_eq_true rfl) (w6_recv F I mo_ob rfl) rfl hl.1 [] rfl (Nat.le_of_ble_eq_true rfl) dX3_advice_67 ⟨Nat.le_of_ble_eq_true rfl, Nat.le_of_ble_eq_true rfl⟩ (fun H locs I => ?_)
            refine lv_if_eq (tgt := 76) hx hb dX3_advice_70 (by decide) (fun c => ?_) (fun c => ?_)
            · have hf := if_p c hf
              refine lv_aload_n hx hb dX3_advice_76 rfl (lv_at hl 0 rfl) ?_
              obtain ⟨V21, h22, hf⟩ := bn_e hf
              refine xz_Vv F I (ctm_countNow l D g ad V18 V21 h22 ) (lw_V q1001 q1003 qs40 q50 q1004) hdX3_countNow rfl (Nat.le_of_ble_eq_true rfl) (Nat.le_of_ble_eq_true rfl) (w6_recv F I mo_ob rfl) rfl hl.1 [] rfl (Nat.le_of_ble_eq_true rfl) dX3_advice_77 ⟨Nat.le_of_ble_eq_true rfl, Nat.le_of_ble_eq_true rfl⟩ (fun H locs I => ?_)
              refine lv_aload_n hx hb dX3_advice_80 rfl (lv_at hl 0 rfl) ?_
              refine w6_get F I mo_ob rfl in_X3 15 (by decide) q779 rfl rfl dX3_advice_81 ?_
              refine lv_bipush (v := (6 : Int32)) hx hb dX3_advice_84 (by decide) ?_
              refine lv_iload_n hx hb dX3_advice_86 rfl (lv_at hl 1 rfl) ?_
              refine lv_imul hx hb dX3_advice_87 ?_
              refine lv_aload_n hx hb dX3_advice_88 rfl (lv_at hl 0 rfl) ?_
              refine lv_iload_n hx hb dX3_advice_89 rfl (lv_at hl 1 rfl) ?_
              refine lv_iload hx hb dX3_advice_90 (lv_at hl 4 rfl) ?_
              obtain ⟨r25, V23, h24, hf⟩ := bi_e hf
              refine xz_Vi F I (ctm_placeOf l D g ad V21 p1 a4 r25 V23 h24 ) (lw_V q905 q907 qs32 q50 q908) hdX3_placeOf rfl (Nat.le_of_ble_eq_true rfl) (Nat.le_of_ble_eq_true rfl) (w6_recv F I mo_ob rfl) rfl hl.1 [.int ((6 : Int32) * p1), .ref (ad 12)] rfl (Nat.le_of_ble_eq_true rfl) dX3_advice_92 ⟨Nat.le_of_ble_eq_true rfl, Nat.le_of_ble_eq_true rfl⟩ (fun H locs I => ?_)
              refine lv_iadd hx hb dX3_advice_95 ?_
              refine lv_iload hx hb dX3_advice_96 (lv_at hl 5 rfl) ?_
              obtain ⟨g26, hf⟩ := gd_e hf
              obtain ⟨V27, eV27, hf⟩ := lt_e hf
              refine w6_iast (j := (((6 : Int32) * p1) + r25).toNatClampNeg) msh_lc F I (m_ar 12 12 (by decide) rfl) g26 rfl dX3_advice_98 eV27 (fun H locs I => ?_)
              refine lv_aload_n hx hb dX3_advice_99 rfl (lv_at hl 0 rfl) ?_
              refine lv_aload_n hx hb dX3_advice_100 rfl (lv_at hl 0 rfl) ?_
              obtain ⟨r30, V28, h29, hf⟩ := bi_e hf
              refine xz_Vi F I (ctm_goal l D g ad V27 r30 V28 h29 ) (lw_V q881 q883 qs27 q50 q884) hdX3_goal rfl (Nat.le_of_ble_eq_true rfl) (Nat.le_of_ble_eq_true rfl) (w6_recv F I mo_ob rfl) rfl hl.1 [.ref (ad 0)] rfl (Nat.le_of_ble_eq_true rfl) dX3_advice_101 ⟨Nat.le_of_ble_eq_true rfl, Nat.le_of_ble_eq_true rfl⟩ (fun H locs I => ?_)
              obtain ⟨V31, h32, hf⟩ := bn_e hf
              refine xz_Vv F I (ctm_fill l D g ad V28 r30 V31 h32 ) (lw_V q1022 q1024 qs44 q50 q1025) hdX3_fill rfl (Nat.le_of_ble_eq_true rfl) (Nat.le_of_ble_eq_true rfl) (w6_recv F I mo_ob rfl) rfl hl.1 [] rfl (Nat.le_of_ble_eq_true rfl) dX3_advice_104 ⟨Nat.le_of_ble_eq_true rfl, Nat.le_of_ble_eq_true rfl⟩ (fun H locs I => ?_)
              refine lv_aload_n hx hb dX3_advice_107 rfl (lv_at hl 0 rfl) ?_
              obtain ⟨r35, V33, h34, hf⟩ := bi_e hf
              refine xz_Vi F I (ctm_now l D g ad V31 r35 V33 h34 ) (lw_V q1035 q1037 qs45 q50 q1038) hdX3_now rfl (Nat.le_of_ble_eq_true rfl) (Nat.le_of_ble_eq_true rfl) (w6_recv F I mo_ob rfl) rfl hl.1 [] rfl (Nat.le_of_ble_eq_true rfl) dX3_advice_108 ⟨Nat.le_of_ble_eq_true rfl, Nat.le_of_ble_eq_true rfl⟩ (fun H locs I => ?_)
              refine lv_istore (lv' := [(6, .int r35), (0, .ref (ad 0)), (1, .int p1), (2, .int a2), (3, .int a3), (4, .int a4), (5, .int a5)]) hx hb dX3_advice_111 hl (by decide) rfl (fun ls hl => ?_)
              refine lv_iload_n hx hb dX3_advice_113 rfl (lv_at hl 2 rfl) ?_
              refine lv_if_ne (tgt := 126) hx hb dX3_advice_114 (by decide) (fun c => ?_) (fun c => ?_)
              · have hf := if_n c hf
                refine lv_iload hx hb dX3_advice_126 (lv_at hl 0 rfl) ?_
                refine lv_iload_n hx hb dX3_advice_128 rfl (lv_at hl 4 rfl) ?_
                refine lv_icmp_lt (tgt := 135) hx hb dX3_advice_129 (by decide) (fun c => ?_) (fun c => ?_)
                · have hf := if_p c hf
                  exact hJ135 V33 a4 a5 r35 _ _ ls hf I (lv_sub hl [1, 2, 5, 6, 0] rfl)
                · have hf := if_n c hf
                  refine lv_goto (tgt := 147) hx hb dX3_advice_132 (by decide) ?_
                  exact hJ147 V33 a2 a3 a4 a5 _ _ ls hf I (lv_sub hl [1, 2, 3, 4, 5, 6] rfl)
              · have hf := if_p c hf
                refine lv_iload hx hb dX3_advice_117 (lv_at hl 0 rfl) ?_
                refine lv_iload_n hx hb dX3_advice_119 rfl (lv_at hl 4 rfl) ?_
                refine lv_icmp_gt (tgt := 135) hx hb dX3_advice_120 (by decide) (fun c => ?_) (fun c => ?_)
                · have hf := if_p c hf
                  exact hJ135 V33 a4 a5 r35 _ _ ls hf I (lv_sub hl [1, 2, 5, 6, 0] rfl)
                · have hf := if_n c hf
                  refine lv_goto (tgt := 147) hx hb dX3_advice_123 (by decide) ?_
                  exact hJ147 V33 a2 a3 a4 a5 _ _ ls hf I (lv_sub hl [1, 2, 3, 4, 5, 6] rfl)
            · have hf := if_n c hf
              refine lv_goto (tgt := 147) hx hb dX3_advice_73 (by decide) ?_
              exact hJ147 V18 a2 a3 a4 a5 _ _ ls hf I (lv_sub hl [0, 1, 2, 3, 4, 5] rfl)
      intro V a2 a3 a4 H locs ls hf I hl
      rw [m_advice_l44] at hf
      refine lv_iload hx hb dX3_advice_44 (lv_at hl 4 rfl) ?_
      refine lv_bipush (v := (12 : Int32)) hx hb dX3_advice_46 (by decide) ?_
      refine lv_icmp_ge (tgt := 159) hx hb dX3_advice_48 (by decide) (fun c => ?_) (fun c => ?_)
      · have hf := if_p c hf
        exact hJ159 V a2 a3 _ _ ls hf I (lv_sub hl [0, 2, 3] rfl)
      · have hf := if_n c hf
        refine lv_iconst (v := (0 : Int32)) hx hb dX3_advice_51 (by decide) ?_
        refine lv_istore (lv' := [(5, .int (0 : Int32)), (0, .ref (ad 0)), (1, .int p1), (2, .int a2), (3, .int a3), (4, .int a4)]) hx hb dX3_advice_52 hl (by decide) rfl (fun ls hl => ?_)
        exact hL54 200 V a2 a3 a4 (0 : Int32) _ _ ls hf I (lv_sub hl [1, 2, 3, 4, 5, 0] rfl)
  unfold m_advice at hf
  refine lv_aload_n hx hb dX3_advice_0 rfl (lv_at hl 0 rfl) ?_
  refine lv_iconst (v := (0 : Int32)) hx hb dX3_advice_1 (by decide) ?_
  obtain ⟨V1, eV1, hf⟩ := lt_e hf
  refine w6_put msh_lc F I mo_ob rfl in_X3 tyX3 tyX3_ok nmX3 13 (by decide) (mo_nf 13 (by decide)) q777 rfl rfl (tyX3_ok 13 (by decide)) rfl rfl dX3_advice_2 eV1 (fun H locs I => ?_)
  refine lv_iload_n hx hb dX3_advice_5 rfl (lv_at hl 1 rfl) ?_
  refine xz_Pi F I (ctpm_isTeam l D g p1 _ rfl) (lw_S q828 q829 q50 q830) hdX3_isTeam (Nat.le_of_ble_eq_true rfl) (Nat.le_of_ble_eq_true rfl) rfl hl.1 [] rfl (Nat.le_of_ble_eq_true rfl) dX3_advice_6 ⟨Nat.le_of_ble_eq_true rfl, Nat.le_of_ble_eq_true rfl⟩ (fun H locs I => ?_)
  refine lv_if_eq (tgt := 19) hx hb dX3_advice_9 (by decide) (fun c => ?_) (fun c => ?_)
  · have hf := if_p c hf
    refine lv_iconst (v := (-1 : Int32)) hx hb dX3_advice_19 (by decide) ?_
    exact hret _ _ _ _ _ dX3_advice_20 (w6_mv (so_e hf).2 I) (so_e hf).1 rfl
  · have hf := if_n c hf
    refine lv_aload_n hx hb dX3_advice_12 rfl (lv_at hl 0 rfl) ?_
    obtain ⟨r4, V2, h3, hf⟩ := bi_e hf
    refine xz_Vi F I (ctm_isOn l D g ad V1 r4 V2 h3 ) (lw_V q845 q847 qs23 q50 q848) hdX3_isOn rfl (Nat.le_of_ble_eq_true rfl) (Nat.le_of_ble_eq_true rfl) (w6_recv F I mo_ob rfl) rfl hl.1 [] rfl (Nat.le_of_ble_eq_true rfl) dX3_advice_13 ⟨Nat.le_of_ble_eq_true rfl, Nat.le_of_ble_eq_true rfl⟩ (fun H locs I => ?_)
    refine lv_if_ne (tgt := 21) hx hb dX3_advice_16 (by decide) (fun c => ?_) (fun c => ?_)
    · have hf := if_n c hf
      refine lv_aload_n hx hb dX3_advice_21 rfl (lv_at hl 0 rfl) ?_
      obtain ⟨V5, h6, hf⟩ := bn_e hf
      refine xz_Vv F I (ctm_countNow l D g ad V2 V5 h6 ) (lw_V q1001 q1003 qs40 q50 q1004) hdX3_countNow rfl (Nat.le_of_ble_eq_true rfl) (Nat.le_of_ble_eq_true rfl) (w6_recv F I mo_ob rfl) rfl hl.1 [] rfl (Nat.le_of_ble_eq_true rfl) dX3_advice_22 ⟨Nat.le_of_ble_eq_true rfl, Nat.le_of_ble_eq_true rfl⟩ (fun H locs I => ?_)
      refine lv_aload_n hx hb dX3_advice_25 rfl (lv_at hl 0 rfl) ?_
      refine lv_aload_n hx hb dX3_advice_26 rfl (lv_at hl 0 rfl) ?_
      obtain ⟨r9, V7, h8, hf⟩ := bi_e hf
      refine xz_Vi F I (ctm_goal l D g ad V5 r9 V7 h8 ) (lw_V q881 q883 qs27 q50 q884) hdX3_goal rfl (Nat.le_of_ble_eq_true rfl) (Nat.le_of_ble_eq_true rfl) (w6_recv F I mo_ob rfl) rfl hl.1 [.ref (ad 0)] rfl (Nat.le_of_ble_eq_true rfl) dX3_advice_27 ⟨Nat.le_of_ble_eq_true rfl, Nat.le_of_ble_eq_true rfl⟩ (fun H locs I => ?_)
      obtain ⟨V10, h11, hf⟩ := bn_e hf
      refine xz_Vv F I (ctm_fill l D g ad V7 r9 V10 h11 ) (lw_V q1022 q1024 qs44 q50 q1025) hdX3_fill rfl (Nat.le_of_ble_eq_true rfl) (Nat.le_of_ble_eq_true rfl) (w6_recv F I mo_ob rfl) rfl hl.1 [] rfl (Nat.le_of_ble_eq_true rfl) dX3_advice_30 ⟨Nat.le_of_ble_eq_true rfl, Nat.le_of_ble_eq_true rfl⟩ (fun H locs I => ?_)
      refine lv_bipush (v := (-2 : Int32)) hx hb dX3_advice_33 (by decide) ?_
      refine lv_istore_n (lv' := [(2, .int (-2 : Int32)), (0, .ref (ad 0)), (1, .int p1)]) hx hb dX3_advice_35 rfl hl (by decide) rfl (fun ls hl => ?_)
      refine lv_aload_n hx hb dX3_advice_36 rfl (lv_at hl 1 rfl) ?_
      obtain ⟨r14, V12, h13, hf⟩ := bi_e hf
      refine xz_Vi F I (ctm_now l D g ad V10 r14 V12 h13 ) (lw_V q1035 q1037 qs45 q50 q1038) hdX3_now rfl (Nat.le_of_ble_eq_true rfl) (Nat.le_of_ble_eq_true rfl) (w6_recv F I mo_ob rfl) rfl hl.1 [] rfl (Nat.le_of_ble_eq_true rfl) dX3_advice_37 ⟨Nat.le_of_ble_eq_true rfl, Nat.le_of_ble_eq_true rfl⟩ (fun H locs I => ?_)
      refine lv_istore_n (lv' := [(3, .int r14), (2, .int (-2 : Int32)), (0, .ref (ad 0)), (1, .int p1)]) hx hb dX3_advice_40 rfl hl (by decide) rfl (fun ls hl => ?_)
      refine lv_iconst (v := (0 : Int32)) hx hb dX3_advice_41 (by decide) ?_
      refine lv_istore (lv' := [(4, .int (0 : Int32)), (3, .int r14), (2, .int (-2 : Int32)), (0, .ref (ad 0)), (1, .int p1)]) hx hb dX3_advice_42 hl (by decide) rfl (fun ls hl => ?_)
      exact hL44 200 V12 (-2 : Int32) r14 (0 : Int32) _ _ ls hf I (lv_sub hl [3, 4, 2, 1, 0] rfl)
    · have hf := if_p c hf
      refine lv_iconst (v := (-1 : Int32)) hx hb dX3_advice_19 (by decide) ?_
      exact hret _ _ _ _ _ dX3_advice_20 (w6_mv (so_e hf).2 I) (so_e hf).1 rfl
def m_row (V : Mm) (p1 : Int32) : Option (Int32 × Mm) :=
  lt_ (mset V 0 13 (0 : Int32)) fun V1 => if p1 = (0 : Int32) then (if (V1.1 0 12) = (1 : Int32) then (some ((V1.1 0 11), V1)) else (lt_ (mset V1 0 13 (1 : Int32)) fun V3 => some ((0 : Int32), V3))) else (lt_ (mset V1 0 13 (1 : Int32)) fun V2 => some ((0 : Int32), V2))
theorem hdX3_row : w6_hd yX3_row 1 := by decide +kernel
abbrev rmX3_row : Room := { frames := 0, cells := 0, slots := 0, locals := 0 }
set_option maxHeartbeats 4000000 in
set_option maxRecDepth 100000 in
theorem ctm_row (l : Launch) (D : va_G) (g : Nat → ClassId) (ad : Nat → Nat) (V : Mm) (p1 : Int32) (r : Int32) (V' : Mm) (hf : m_row V p1 = some (r, V'))  : CTi l D g yX3_row cX3_row 2 .int rmX3_row [.ref (ad 0), .int p1] (mw g ad V) (mw g ad V') r := by
  intro sz
  refine w6_starti RX3 (by decide) (Nat.le_of_ble_eq_true rfl) rfl ?_
  intro p e s m below meth c A ls Q hx hb hown hts F I hl hret
  have hl : lv_has ls 2 [(0, .ref (ad 0)), (1, .int p1)] := hl
  unfold m_row at hf
  refine lv_aload_n hx hb dX3_row_0 rfl (lv_at hl 0 rfl) ?_
  refine lv_iconst (v := (0 : Int32)) hx hb dX3_row_1 (by decide) ?_
  obtain ⟨V1, eV1, hf⟩ := lt_e hf
  refine w6_put msh_lc F I mo_ob rfl in_X3 tyX3 tyX3_ok nmX3 13 (by decide) (mo_nf 13 (by decide)) q777 rfl rfl (tyX3_ok 13 (by decide)) rfl rfl dX3_row_2 eV1 (fun H locs I => ?_)
  refine lv_iload_n hx hb dX3_row_5 rfl (lv_at hl 1 rfl) ?_
  refine lv_if_ne (tgt := 22) hx hb dX3_row_6 (by decide) (fun c => ?_) (fun c => ?_)
  · have hf := if_n c hf
    refine lv_aload_n hx hb dX3_row_22 rfl (lv_at hl 0 rfl) ?_
    refine lv_iconst (v := (1 : Int32)) hx hb dX3_row_23 (by decide) ?_
    obtain ⟨V2, eV2, hf⟩ := lt_e hf
    refine w6_put msh_lc F I mo_ob rfl in_X3 tyX3 tyX3_ok nmX3 13 (by decide) (mo_nf 13 (by decide)) q777 rfl rfl (tyX3_ok 13 (by decide)) rfl rfl dX3_row_24 eV2 (fun H locs I => ?_)
    refine lv_iconst (v := (0 : Int32)) hx hb dX3_row_27 (by decide) ?_
    exact hret _ _ _ _ _ dX3_row_28 (w6_mv (so_e hf).2 I) (so_e hf).1 rfl
  · have hf := if_p c hf
    refine lv_aload_n hx hb dX3_row_9 rfl (lv_at hl 0 rfl) ?_
    refine w6_get F I mo_ob rfl in_X3 12 (by decide) q776 rfl rfl dX3_row_10 ?_
    refine lv_iconst (v := (1 : Int32)) hx hb dX3_row_13 (by decide) ?_
    refine lv_icmp_ne (tgt := 22) hx hb dX3_row_14 (by decide) (fun c => ?_) (fun c => ?_)
    · have hf := if_n c hf
      refine lv_aload_n hx hb dX3_row_22 rfl (lv_at hl 0 rfl) ?_
      refine lv_iconst (v := (1 : Int32)) hx hb dX3_row_23 (by decide) ?_
      obtain ⟨V3, eV3, hf⟩ := lt_e hf
      refine w6_put msh_lc F I mo_ob rfl in_X3 tyX3 tyX3_ok nmX3 13 (by decide) (mo_nf 13 (by decide)) q777 rfl rfl (tyX3_ok 13 (by decide)) rfl rfl dX3_row_24 eV3 (fun H locs I => ?_)
      refine lv_iconst (v := (0 : Int32)) hx hb dX3_row_27 (by decide) ?_
      exact hret _ _ _ _ _ dX3_row_28 (w6_mv (so_e hf).2 I) (so_e hf).1 rfl
    · have hf := if_p c hf
      refine lv_aload_n hx hb dX3_row_17 rfl (lv_at hl 0 rfl) ?_
      refine w6_get F I mo_ob rfl in_X3 11 (by decide) q775 rfl rfl dX3_row_18 ?_
      exact hret _ _ _ _ _ dX3_row_21 (w6_mv (so_e hf).2 I) (so_e hf).1 rfl
