/-! SixWhoTurn, first half: printed by gen/mk.py: each method as a function over the memory, and its contract -/
set_option maxRecDepth 100000
def x_skill (V : Mm) (p1 : Int32) (p2 : Int32) (p3 : Int32) (p4 : Int32) : Option (Int32 × Mm) :=
  if (px_isTeam p1) = (0 : Int32) then (some ((-1 : Int32), V)) else (if (px_isPlayer p2) = (0 : Int32) then (some ((-1 : Int32), V)) else (if (px_in (p3.toInt64) (0 : Int64) (3 : Int64)) = (0 : Int32) then (some ((-1 : Int32), V)) else (if (px_in (p4.toInt64) (0 : Int64) (100 : Int64)) = (0 : Int32) then (some ((-1 : Int32), V)) else (gd_ (ix_ p1 2) (gd_ (ix_ p2 12) (gd_ (ix_ p3 4) (lt_ ((V.1 (42 + 12 * p1.toNatClampNeg + p2.toNatClampNeg) p3.toNatClampNeg)) fun v5 => gd_ (ix_ p1 2) (gd_ (ix_ p2 12) (gd_ (ix_ p3 4) (lt_ (mset V (42 + 12 * p1.toNatClampNeg + p2.toNatClampNeg) p3.toNatClampNeg p4) fun V10 => some (v5, V10)))))))))))
theorem hdX1_skill : w6_hd yX1_skill 4 := by decide +kernel
abbrev rmX1_skill : Room := { frames := 2, cells := 0, slots := 0, locals := 45 }
set_option maxHeartbeats 4000000 in
set_option maxRecDepth 100000 in
theorem ctx_skill (l : Launch) (D : va_G) (g : Nat → ClassId) (ad : Nat → Nat) (V : Mm) (p1 : Int32) (p2 : Int32) (p3 : Int32) (p4 : Int32) (r : Int32) (V' : Mm) (hf : x_skill V p1 p2 p3 p4 = some (r, V'))  : CTi l D g yX1_skill cX1_skill 6 .int rmX1_skill [.ref (ad 0), .int p1, .int p2, .int p3, .int p4] (xw g ad V) (xw g ad V') r := by
  intro sz
  refine w6_starti RX1 (by decide) (Nat.le_of_ble_eq_true rfl) rfl ?_
  intro p e s m below meth c A ls Q hx hb hown hts F I hl hret
  have hl : lv_has ls 6 [(0, .ref (ad 0)), (1, .int p1), (2, .int p2), (3, .int p3), (4, .int p4)] := hl
  unfold x_skill at hf
  refine lv_iload_n hx hb dX1_skill_0 rfl (lv_at hl 1 rfl) ?_
  refine xz_Pi F I (ctpx_isTeam l D g p1 _ rfl) (lw_S q237 q238 q47 q239) hdX1_isTeam (Nat.le_of_ble_eq_true rfl) (Nat.le_of_ble_eq_true rfl) rfl hl.1 [] rfl (Nat.le_of_ble_eq_true rfl) dX1_skill_1 ⟨Nat.le_of_ble_eq_true rfl, Nat.le_of_ble_eq_true rfl⟩ (fun H locs I => ?_)
  refine lv_if_eq (tgt := 39) hx hb dX1_skill_4 (by decide) (fun c => ?_) (fun c => ?_)
  · have hf := if_p c hf
    refine lv_iconst (v := (-1 : Int32)) hx hb dX1_skill_39 (by decide) ?_
    exact hret _ _ _ _ _ dX1_skill_40 (w6_mv (so_e hf).2 I) (so_e hf).1 rfl
  · have hf := if_n c hf
    refine lv_iload_n hx hb dX1_skill_7 rfl (lv_at hl 2 rfl) ?_
    refine xz_Pi F I (ctpx_isPlayer l D g p2 _ rfl) (lw_S q240 q241 q47 q242) hdX1_isPlayer (Nat.le_of_ble_eq_true rfl) (Nat.le_of_ble_eq_true rfl) rfl hl.1 [] rfl (Nat.le_of_ble_eq_true rfl) dX1_skill_8 ⟨Nat.le_of_ble_eq_true rfl, Nat.le_of_ble_eq_true rfl⟩ (fun H locs I => ?_)
    refine lv_if_eq (tgt := 39) hx hb dX1_skill_11 (by decide) (fun c => ?_) (fun c => ?_)
    · have hf := if_p c hf
      refine lv_iconst (v := (-1 : Int32)) hx hb dX1_skill_39 (by decide) ?_
      exact hret _ _ _ _ _ dX1_skill_40 (w6_mv (so_e hf).2 I) (so_e hf).1 rfl
    · have hf := if_n c hf
      refine lv_iload_n hx hb dX1_skill_14 rfl (lv_at hl 3 rfl) ?_
      refine lv_i2l (v := (p3.toInt64)) hx hb dX1_skill_15 rfl ?_
      refine lv_lconst (v := (0 : Int64)) hx hb dX1_skill_16 (by decide) ?_
      refine lv_ldc2 hx hb hown (hts _ q247) dX1_skill_17 ?_
      refine xz_Pi F I (ctpx_in l D g (p3.toInt64) (0 : Int64) (3 : Int64) _ rfl) (lw_S q244 q245 q47 q246) hdX1_in (Nat.le_of_ble_eq_true rfl) (Nat.le_of_ble_eq_true rfl) rfl hl.1 [] rfl (Nat.le_of_ble_eq_true rfl) dX1_skill_20 ⟨Nat.le_of_ble_eq_true rfl, Nat.le_of_ble_eq_true rfl⟩ (fun H locs I => ?_)
      refine lv_if_eq (tgt := 39) hx hb dX1_skill_23 (by decide) (fun c => ?_) (fun c => ?_)
      · have hf := if_p c hf
        refine lv_iconst (v := (-1 : Int32)) hx hb dX1_skill_39 (by decide) ?_
        exact hret _ _ _ _ _ dX1_skill_40 (w6_mv (so_e hf).2 I) (so_e hf).1 rfl
      · have hf := if_n c hf
        refine lv_iload hx hb dX1_skill_26 (lv_at hl 4 rfl) ?_
        refine lv_i2l (v := (p4.toInt64)) hx hb dX1_skill_28 rfl ?_
        refine lv_lconst (v := (0 : Int64)) hx hb dX1_skill_29 (by decide) ?_
        refine lv_ldc2 hx hb hown (hts _ q248) dX1_skill_30 ?_
        refine xz_Pi F I (ctpx_in l D g (p4.toInt64) (0 : Int64) (100 : Int64) _ rfl) (lw_S q244 q245 q47 q246) hdX1_in (Nat.le_of_ble_eq_true rfl) (Nat.le_of_ble_eq_true rfl) rfl hl.1 [] rfl (Nat.le_of_ble_eq_true rfl) dX1_skill_33 ⟨Nat.le_of_ble_eq_true rfl, Nat.le_of_ble_eq_true rfl⟩ (fun H locs I => ?_)
        refine lv_if_ne (tgt := 41) hx hb dX1_skill_36 (by decide) (fun c => ?_) (fun c => ?_)
        · have hf := if_n c hf
          refine lv_aload_n hx hb dX1_skill_41 rfl (lv_at hl 0 rfl) ?_
          refine w6_get F I xo_ob rfl in_X1 2 (by decide) q159 rfl rfl dX1_skill_42 ?_
          refine lv_iload_n hx hb dX1_skill_45 rfl (lv_at hl 1 rfl) ?_
          obtain ⟨g1, hf⟩ := gd_e hf
          refine w6_aald (j := p1.toNatClampNeg) F I x_skt rfl rfl g1 rfl dX1_skill_46 ?_
          have s2 : p1.toNatClampNeg < 2 := (ix_l g1 (rfl : _ = p1.toNatClampNeg))
          refine lv_iload_n hx hb dX1_skill_47 rfl (lv_at hl 2 rfl) ?_
          obtain ⟨g3, hf⟩ := gd_e hf
          refine w6_aald (j := p2.toNatClampNeg) F I (x_skp s2) rfl rfl g3 rfl dX1_skill_48 ?_
          refine lv_iload_n hx hb dX1_skill_49 rfl (lv_at hl 3 rfl) ?_
          obtain ⟨g4, hf⟩ := gd_e hf
          refine w6_iald (j := p3.toNatClampNeg) F I (x_skl s2 (ix_l g3 (rfl : _ = p2.toNatClampNeg))) g4 rfl dX1_skill_50 ?_
          obtain ⟨v5, ev5, hf⟩ := lt_e hf
          refine w6_nmi ev5 ?_
          refine lv_istore (lv' := [(5, .int v5), (0, .ref (ad 0)), (1, .int p1), (2, .int p2), (3, .int p3), (4, .int p4)]) hx hb dX1_skill_51 hl (by decide) rfl (fun ls hl => ?_)
          refine lv_aload_n hx hb dX1_skill_53 rfl (lv_at hl 1 rfl) ?_
          refine w6_get F I xo_ob rfl in_X1 2 (by decide) q159 rfl rfl dX1_skill_54 ?_
          refine lv_iload_n hx hb dX1_skill_57 rfl (lv_at hl 2 rfl) ?_
          obtain ⟨g6, hf⟩ := gd_e hf
          refine w6_aald (j := p1.toNatClampNeg) F I x_skt rfl rfl g6 rfl dX1_skill_58 ?_
          have s7 : p1.toNatClampNeg < 2 := (ix_l g6 (rfl : _ = p1.toNatClampNeg))
          refine lv_iload_n hx hb dX1_skill_59 rfl (lv_at hl 3 rfl) ?_
          obtain ⟨g8, hf⟩ := gd_e hf
          refine w6_aald (j := p2.toNatClampNeg) F I (x_skp s7) rfl rfl g8 rfl dX1_skill_60 ?_
          refine lv_iload_n hx hb dX1_skill_61 rfl (lv_at hl 4 rfl) ?_
          refine lv_iload hx hb dX1_skill_62 (lv_at hl 5 rfl) ?_
          obtain ⟨g9, hf⟩ := gd_e hf
          obtain ⟨V10, eV10, hf⟩ := lt_e hf
          refine w6_iast (j := p3.toNatClampNeg) xsh_lc F I (x_skl s7 (ix_l g8 (rfl : _ = p2.toNatClampNeg))) g9 rfl dX1_skill_64 eV10 (fun H locs I => ?_)
          refine lv_iload hx hb dX1_skill_65 (lv_at hl 0 rfl) ?_
          exact hret _ _ _ _ _ dX1_skill_67 (w6_mv (so_e hf).2 I) (so_e hf).1 rfl
        · have hf := if_p c hf
          refine lv_iconst (v := (-1 : Int32)) hx hb dX1_skill_39 (by decide) ?_
          exact hret _ _ _ _ _ dX1_skill_40 (w6_mv (so_e hf).2 I) (so_e hf).1 rfl
def x_libre (V : Mm) (p1 : Int32) (p2 : Int32) : Option (Int32 × Mm) :=
  if (px_isTeam p1) = (0 : Int32) then (some ((-2 : Int32), V)) else (if (px_in (p2.toInt64) (-1 : Int64) (11 : Int64)) = (0 : Int32) then (some ((-2 : Int32), V)) else (if (V.1 0 10) = (0 : Int32) then (gd_ (ix_ p1 2) (lt_ ((V.1 (3 + 9 * p1.toNatClampNeg) 13)) fun v3 => gd_ (ix_ p1 2) (lt_ (mset V (3 + 9 * p1.toNatClampNeg) 13 p2) fun V6 => some (v3, V6)))) else (some ((-2 : Int32), V))))
theorem hdX1_libre : w6_hd yX1_libre 2 := by decide +kernel
abbrev rmX1_libre : Room := { frames := 1, cells := 0, slots := 0, locals := 25 }
set_option maxHeartbeats 4000000 in
set_option maxRecDepth 100000 in
theorem ctx_libre (l : Launch) (D : va_G) (g : Nat → ClassId) (ad : Nat → Nat) (V : Mm) (p1 : Int32) (p2 : Int32) (r : Int32) (V' : Mm) (hf : x_libre V p1 p2 = some (r, V'))  : CTi l D g yX1_libre cX1_libre 4 .int rmX1_libre [.ref (ad 0), .int p1, .int p2] (xw g ad V) (xw g ad V') r := by
  intro sz
  refine w6_starti RX1 (by decide) (Nat.le_of_ble_eq_true rfl) rfl ?_
  intro p e s m below meth c A ls Q hx hb hown hts F I hl hret
  have hl : lv_has ls 4 [(0, .ref (ad 0)), (1, .int p1), (2, .int p2)] := hl
  unfold x_libre at hf
  refine lv_iload_n hx hb dX1_libre_0 rfl (lv_at hl 1 rfl) ?_
  refine xz_Pi F I (ctpx_isTeam l D g p1 _ rfl) (lw_S q237 q238 q47 q239) hdX1_isTeam (Nat.le_of_ble_eq_true rfl) (Nat.le_of_ble_eq_true rfl) rfl hl.1 [] rfl (Nat.le_of_ble_eq_true rfl) dX1_libre_1 ⟨Nat.le_of_ble_eq_true rfl, Nat.le_of_ble_eq_true rfl⟩ (fun H locs I => ?_)
  refine lv_if_eq (tgt := 28) hx hb dX1_libre_4 (by decide) (fun c => ?_) (fun c => ?_)
  · have hf := if_p c hf
    refine lv_bipush (v := (-2 : Int32)) hx hb dX1_libre_28 (by decide) ?_
    exact hret _ _ _ _ _ dX1_libre_30 (w6_mv (so_e hf).2 I) (so_e hf).1 rfl
  · have hf := if_n c hf
    refine lv_iload_n hx hb dX1_libre_7 rfl (lv_at hl 2 rfl) ?_
    refine lv_i2l (v := (p2.toInt64)) hx hb dX1_libre_8 rfl ?_
    refine lv_ldc2 hx hb hown (hts _ q253) dX1_libre_9 ?_
    refine lv_ldc2 hx hb hown (hts _ q243) dX1_libre_12 ?_
    refine xz_Pi F I (ctpx_in l D g (p2.toInt64) (-1 : Int64) (11 : Int64) _ rfl) (lw_S q244 q245 q47 q246) hdX1_in (Nat.le_of_ble_eq_true rfl) (Nat.le_of_ble_eq_true rfl) rfl hl.1 [] rfl (Nat.le_of_ble_eq_true rfl) dX1_libre_15 ⟨Nat.le_of_ble_eq_true rfl, Nat.le_of_ble_eq_true rfl⟩ (fun H locs I => ?_)
    refine lv_if_eq (tgt := 28) hx hb dX1_libre_18 (by decide) (fun c => ?_) (fun c => ?_)
    · have hf := if_p c hf
      refine lv_bipush (v := (-2 : Int32)) hx hb dX1_libre_28 (by decide) ?_
      exact hret _ _ _ _ _ dX1_libre_30 (w6_mv (so_e hf).2 I) (so_e hf).1 rfl
    · have hf := if_n c hf
      refine lv_aload_n hx hb dX1_libre_21 rfl (lv_at hl 0 rfl) ?_
      refine w6_get F I xo_ob rfl in_X1 10 (by decide) q167 rfl rfl dX1_libre_22 ?_
      refine lv_if_eq (tgt := 31) hx hb dX1_libre_25 (by decide) (fun c => ?_) (fun c => ?_)
      · have hf := if_p c hf
        refine lv_aload_n hx hb dX1_libre_31 rfl (lv_at hl 0 rfl) ?_
        refine w6_get F I xo_ob rfl in_X1 0 (by decide) q157 rfl rfl dX1_libre_32 ?_
        refine lv_iload_n hx hb dX1_libre_35 rfl (lv_at hl 1 rfl) ?_
        obtain ⟨g1, hf⟩ := gd_e hf
        refine w6_aald (j := p1.toNatClampNeg) F I x_sides rfl rfl g1 rfl dX1_libre_36 ?_
        have s2 : isSide (3 + 9 * p1.toNatClampNeg) := isSide_s (ix_l g1 (rfl : _ = p1.toNatClampNeg))
        refine w6_getN F I (so_ob s2) rfl in_X2 13 (by decide) (List.mem_of_getElem? (i := 10) rfl) rfl rfl dX1_libre_37 ?_
        obtain ⟨v3, ev3, hf⟩ := lt_e hf
        refine w6_nmi ev3 ?_
        refine lv_istore_n (lv' := [(3, .int v3), (0, .ref (ad 0)), (1, .int p1), (2, .int p2)]) hx hb dX1_libre_40 rfl hl (by decide) rfl (fun ls hl => ?_)
        refine lv_aload_n hx hb dX1_libre_41 rfl (lv_at hl 1 rfl) ?_
        refine w6_get F I xo_ob rfl in_X1 0 (by decide) q157 rfl rfl dX1_libre_42 ?_
        refine lv_iload_n hx hb dX1_libre_45 rfl (lv_at hl 2 rfl) ?_
        obtain ⟨g4, hf⟩ := gd_e hf
        refine w6_aald (j := p1.toNatClampNeg) F I x_sides rfl rfl g4 rfl dX1_libre_46 ?_
        have s5 : isSide (3 + 9 * p1.toNatClampNeg) := isSide_s (ix_l g4 (rfl : _ = p1.toNatClampNeg))
        refine lv_iload_n hx hb dX1_libre_47 rfl (lv_at hl 3 rfl) ?_
        obtain ⟨V6, eV6, hf⟩ := lt_e hf
        refine w6_putN xsh_lc F I (so_ob s5) rfl in_X2 tyX2 tyX2_ok nmX2 13 (by decide) (so_nf _ 13 (by decide)) (List.mem_of_getElem? (i := 10) rfl) rfl rfl (tyX2_ok 13 (by decide)) rfl rfl dX1_libre_48 eV6 (fun H locs I => ?_)
        refine lv_iload_n hx hb dX1_libre_51 rfl (lv_at hl 0 rfl) ?_
        exact hret _ _ _ _ _ dX1_libre_52 (w6_mv (so_e hf).2 I) (so_e hf).1 rfl
      · have hf := if_n c hf
        refine lv_bipush (v := (-2 : Int32)) hx hb dX1_libre_28 (by decide) ?_
        exact hret _ _ _ _ _ dX1_libre_30 (w6_mv (so_e hf).2 I) (so_e hf).1 rfl
def x_set_j72 (p1 : Int32) (p2 : Int32) (V : Mm)   : Option (Int32 × Mm) :=
  gd_ (ix_ p1 6) (lt_ ((V.1 66 p1.toNatClampNeg)) fun v8 => gd_ (ix_ p1 6) (lt_ (mset V 66 p1.toNatClampNeg p2) fun V10 => some (v8, V10)))
def x_set_j55 (p1 : Int32) (p2 : Int32) (V : Mm)   : Option (Int32 × Mm) :=
  if p1 = (1 : Int32) then (if (V.1 66 0) ≤ p2 then (x_set_j72 p1 p2 V) else (some ((-1 : Int32), V))) else (x_set_j72 p1 p2 V)
def x_set (V : Mm) (p1 : Int32) (p2 : Int32) : Option (Int32 × Mm) :=
  if (px_in (p1.toInt64) (0 : Int64) (5 : Int64)) = (0 : Int32) then (some ((-1 : Int32), V)) else (gd_ (ix_ p1 6) (gd_ (ix_ p1 6) (if (px_in (p2.toInt64) ((zsg 0 p1.toNatClampNeg).toInt64) ((zsg 1 p1.toNatClampNeg).toInt64)) = (0 : Int32) then (some ((-1 : Int32), V)) else (if (V.1 0 4) < (0 : Int32) then (if p1 = (0 : Int32) then (if (V.1 66 1) < p2 then (some ((-1 : Int32), V)) else (x_set_j55 p1 p2 V)) else (x_set_j55 p1 p2 V)) else (some ((-1 : Int32), V))))))
theorem hdX1_set : w6_hd yX1_set 2 := by decide +kernel
abbrev rmX1_set : Room := { frames := 1, cells := 0, slots := 0, locals := 25 }
set_option maxHeartbeats 4000000 in
set_option maxRecDepth 100000 in
theorem ctx_set (l : Launch) (D : va_G) (g : Nat → ClassId) (ad : Nat → Nat) (V : Mm) (p1 : Int32) (p2 : Int32) (r : Int32) (V' : Mm) (hf : x_set V p1 p2 = some (r, V'))  : CTi l D g yX1_set cX1_set 4 .int rmX1_set [.ref (ad 0), .int p1, .int p2] (xw g ad V) (xw g ad V') r := by
  intro sz
  refine w6_starti RX1 (by decide) (Nat.le_of_ble_eq_true rfl) rfl ?_
  intro p e s m below meth c A ls Q hx hb hown hts F I hl hret
  have hl : lv_has ls 4 [(0, .ref (ad 0)), (1, .int p1), (2, .int p2)] := hl
  have hJ72 : ∀ (V : Mm)  (H : Heap) (locs : List Loc) (ls : Array Slot), x_set_j72 p1 p2 V = some (r, V') → w6_I D (xw g ad V ++ []) A s H locs → lv_has ls 4 [(0, .ref (ad 0)), (1, .int p1), (2, .int p2)] → W p l e rmX1_set s m ([.ref (ad 0), .int p1, .int p2] : List Value).toArray below meth c H locs 0 0 Q (F0 m 72 ls []) := by
    intro V H locs ls hf I hl
    unfold x_set_j72 at hf
    refine lv_aload_n hx hb dX1_set_72 rfl (lv_at hl 0 rfl) ?_
    refine w6_get F I xo_ob rfl in_X1 3 (by decide) q160 rfl rfl dX1_set_73 ?_
    refine lv_iload_n hx hb dX1_set_76 rfl (lv_at hl 1 rfl) ?_
    obtain ⟨g7, hf⟩ := gd_e hf
    refine w6_iald (j := p1.toNatClampNeg) F I (x_ar 66 6 (by decide) rfl) g7 rfl dX1_set_77 ?_
    obtain ⟨v8, ev8, hf⟩ := lt_e hf
    refine w6_nmi ev8 ?_
    refine lv_istore_n (lv' := [(3, .int v8), (0, .ref (ad 0)), (1, .int p1), (2, .int p2)]) hx hb dX1_set_78 rfl hl (by decide) rfl (fun ls hl => ?_)
    refine lv_aload_n hx hb dX1_set_79 rfl (lv_at hl 1 rfl) ?_
    refine w6_get F I xo_ob rfl in_X1 3 (by decide) q160 rfl rfl dX1_set_80 ?_
    refine lv_iload_n hx hb dX1_set_83 rfl (lv_at hl 2 rfl) ?_
    refine lv_iload_n hx hb dX1_set_84 rfl (lv_at hl 3 rfl) ?_
    obtain ⟨g9, hf⟩ := gd_e hf
    obtain ⟨V10, eV10, hf⟩ := lt_e hf
    refine w6_iast (j := p1.toNatClampNeg) xsh_lc F I (x_ar 66 6 (by decide) rfl) g9 rfl dX1_set_85 eV10 (fun H locs I => ?_)
    refine lv_iload_n hx hb dX1_set_86 rfl (lv_at hl 0 rfl) ?_
    exact hret _ _ _ _ _ dX1_set_87 (w6_mv (so_e hf).2 I) (so_e hf).1 rfl
  have hJ55 : ∀ (V : Mm)  (H : Heap) (locs : List Loc) (ls : Array Slot), x_set_j55 p1 p2 V = some (r, V') → w6_I D (xw g ad V ++ []) A s H locs → lv_has ls 4 [(0, .ref (ad 0)), (1, .int p1), (2, .int p2)] → W p l e rmX1_set s m ([.ref (ad 0), .int p1, .int p2] : List Value).toArray below meth c H locs 0 0 Q (F0 m 55 ls []) := by
    intro V H locs ls hf I hl
    unfold x_set_j55 at hf
    refine lv_iload_n hx hb dX1_set_55 rfl (lv_at hl 1 rfl) ?_
    refine lv_iconst (v := (1 : Int32)) hx hb dX1_set_56 (by decide) ?_
    refine lv_icmp_ne (tgt := 72) hx hb dX1_set_57 (by decide) (fun c => ?_) (fun c => ?_)
    · have hf := if_n c hf
      exact hJ72 V _ _ ls hf I (lv_sub hl [0, 1, 2] rfl)
    · have hf := if_p c hf
      refine lv_iload_n hx hb dX1_set_60 rfl (lv_at hl 2 rfl) ?_
      refine lv_aload_n hx hb dX1_set_61 rfl (lv_at hl 0 rfl) ?_
      refine w6_get F I xo_ob rfl in_X1 3 (by decide) q160 rfl rfl dX1_set_62 ?_
      refine lv_iconst (v := (0 : Int32)) hx hb dX1_set_65 (by decide) ?_
      refine w6_iald (j := 0) F I (x_ar 66 6 (by decide) rfl) (show ix_ (0 : Int32) 6 by decide) rfl dX1_set_66 ?_
      refine lv_icmp_ge (tgt := 72) hx hb dX1_set_67 (by decide) (fun c => ?_) (fun c => ?_)
      · have hf := if_p c hf
        exact hJ72 V _ _ ls hf I (lv_sub hl [0, 1, 2] rfl)
      · have hf := if_n c hf
        refine lv_iconst (v := (-1 : Int32)) hx hb dX1_set_70 (by decide) ?_
        exact hret _ _ _ _ _ dX1_set_71 (w6_mv (so_e hf).2 I) (so_e hf).1 rfl
  unfold x_set at hf
  refine lv_iload_n hx hb dX1_set_0 rfl (lv_at hl 1 rfl) ?_
  refine lv_i2l (v := (p1.toInt64)) hx hb dX1_set_1 rfl ?_
  refine lv_lconst (v := (0 : Int64)) hx hb dX1_set_2 (by decide) ?_
  refine lv_ldc2 hx hb hown (hts _ q258) dX1_set_3 ?_
  refine xz_Pi F I (ctpx_in l D g (p1.toInt64) (0 : Int64) (5 : Int64) _ rfl) (lw_S q244 q245 q47 q246) hdX1_in (Nat.le_of_ble_eq_true rfl) (Nat.le_of_ble_eq_true rfl) rfl hl.1 [] rfl (Nat.le_of_ble_eq_true rfl) dX1_set_6 ⟨Nat.le_of_ble_eq_true rfl, Nat.le_of_ble_eq_true rfl⟩ (fun H locs I => ?_)
  refine lv_if_eq (tgt := 39) hx hb dX1_set_9 (by decide) (fun c => ?_) (fun c => ?_)
  · have hf := if_p c hf
    refine lv_iconst (v := (-1 : Int32)) hx hb dX1_set_39 (by decide) ?_
    exact hret _ _ _ _ _ dX1_set_40 (w6_mv (so_e hf).2 I) (so_e hf).1 rfl
  · have hf := if_n c hf
    refine lv_iload_n hx hb dX1_set_12 rfl (lv_at hl 2 rfl) ?_
    refine lv_i2l (v := (p2.toInt64)) hx hb dX1_set_13 rfl ?_
    refine w6_gets 0 (by decide) F I q259 dX1_set_14 (fun t1 h2 => ?_)
    refine lv_iload_n hx hb dX1_set_17 rfl (lv_at hl 1 rfl) ?_
    obtain ⟨g3, hf⟩ := gd_e hf
    refine w6_tld (j := p1.toNatClampNeg) F I h2 g3 rfl dX1_set_18 ?_
    refine lv_i2l (v := ((zsg 0 p1.toNatClampNeg).toInt64)) hx hb dX1_set_19 rfl ?_
    refine w6_gets 1 (by decide) F I q261 dX1_set_20 (fun t4 h5 => ?_)
    refine lv_iload_n hx hb dX1_set_23 rfl (lv_at hl 1 rfl) ?_
    obtain ⟨g6, hf⟩ := gd_e hf
    refine w6_tld (j := p1.toNatClampNeg) F I h5 g6 rfl dX1_set_24 ?_
    refine lv_i2l (v := ((zsg 1 p1.toNatClampNeg).toInt64)) hx hb dX1_set_25 rfl ?_
    refine xz_Pi F I (ctpx_in l D g (p2.toInt64) ((zsg 0 p1.toNatClampNeg).toInt64) ((zsg 1 p1.toNatClampNeg).toInt64) _ rfl) (lw_S q244 q245 q47 q246) hdX1_in (Nat.le_of_ble_eq_true rfl) (Nat.le_of_ble_eq_true rfl) rfl hl.1 [] rfl (Nat.le_of_ble_eq_true rfl) dX1_set_26 ⟨Nat.le_of_ble_eq_true rfl, Nat.le_of_ble_eq_true rfl⟩ (fun H locs I => ?_)
    refine lv_if_eq (tgt := 39) hx hb dX1_set_29 (by decide) (fun c => ?_) (fun c => ?_)
    · have hf := if_p c hf
      refine lv_iconst (v := (-1 : Int32)) hx hb dX1_set_39 (by decide) ?_
      exact hret _ _ _ _ _ dX1_set_40 (w6_mv (so_e hf).2 I) (so_e hf).1 rfl
    · have hf := if_n c hf
      refine lv_aload_n hx hb dX1_set_32 rfl (lv_at hl 0 rfl) ?_
      refine w6_get F I xo_ob rfl in_X1 4 (by decide) q161 rfl rfl dX1_set_33 ?_
      refine lv_if_lt (tgt := 41) hx hb dX1_set_36 (by decide) (fun c => ?_) (fun c => ?_)
      · have hf := if_p c hf
        refine lv_iload_n hx hb dX1_set_41 rfl (lv_at hl 1 rfl) ?_
        refine lv_if_ne (tgt := 55) hx hb dX1_set_42 (by decide) (fun c => ?_) (fun c => ?_)
        · have hf := if_n c hf
          exact hJ55 V _ _ ls hf I (lv_sub hl [0, 1, 2] rfl)
        · have hf := if_p c hf
          refine lv_iload_n hx hb dX1_set_45 rfl (lv_at hl 2 rfl) ?_
          refine lv_aload_n hx hb dX1_set_46 rfl (lv_at hl 0 rfl) ?_
          refine w6_get F I xo_ob rfl in_X1 3 (by decide) q160 rfl rfl dX1_set_47 ?_
          refine lv_iconst (v := (1 : Int32)) hx hb dX1_set_50 (by decide) ?_
          refine w6_iald (j := 1) F I (x_ar 66 6 (by decide) rfl) (show ix_ (1 : Int32) 6 by decide) rfl dX1_set_51 ?_
          refine lv_icmp_gt (tgt := 70) hx hb dX1_set_52 (by decide) (fun c => ?_) (fun c => ?_)
          · have hf := if_p c hf
            refine lv_iconst (v := (-1 : Int32)) hx hb dX1_set_70 (by decide) ?_
            exact hret _ _ _ _ _ dX1_set_71 (w6_mv (so_e hf).2 I) (so_e hf).1 rfl
          · have hf := if_n c hf
            exact hJ55 V _ _ ls hf I (lv_sub hl [0, 1, 2] rfl)
      · have hf := if_n c hf
        refine lv_iconst (v := (-1 : Int32)) hx hb dX1_set_39 (by decide) ?_
        exact hret _ _ _ _ _ dX1_set_40 (w6_mv (so_e hf).2 I) (so_e hf).1 rfl
def x_areTold (V : Mm) : Option (Int32 × Mm) :=
  if (V.1 (3 + 9 * 0) 16) = (0 : Int32) then (some ((0 : Int32), V)) else (if (V.1 (3 + 9 * 1) 16) = (0 : Int32) then (some ((0 : Int32), V)) else (some ((1 : Int32), V)))
theorem hdX1_areTold : w6_hd yX1_areTold 0 := by decide +kernel
abbrev rmX1_areTold : Room := { frames := 0, cells := 0, slots := 0, locals := 0 }
set_option maxHeartbeats 4000000 in
set_option maxRecDepth 100000 in
theorem ctx_areTold (l : Launch) (D : va_G) (g : Nat → ClassId) (ad : Nat → Nat) (V : Mm) (r : Int32) (V' : Mm) (hf : x_areTold V = some (r, V'))  : CTi l D g yX1_areTold cX1_areTold 1 .boolean rmX1_areTold [.ref (ad 0)] (xw g ad V) (xw g ad V') r := by
  intro sz
  refine w6_starti RX1 (by decide) (Nat.le_of_ble_eq_true rfl) rfl ?_
  intro p e s m below meth c A ls Q hx hb hown hts F I hl hret
  have hl : lv_has ls 1 [(0, .ref (ad 0))] := hl
  unfold x_areTold at hf
  refine lv_aload_n hx hb dX1_areTold_0 rfl (lv_at hl 0 rfl) ?_
  refine w6_get F I xo_ob rfl in_X1 0 (by decide) q157 rfl rfl dX1_areTold_1 ?_
  refine lv_iconst (v := (0 : Int32)) hx hb dX1_areTold_4 (by decide) ?_
  refine w6_aald (j := 0) F I x_sides rfl rfl (show ix_ (0 : Int32) 2 by decide) rfl dX1_areTold_5 ?_
  have s1 : isSide (3 + 9 * 0) := isSide_s (ix_l (show ix_ (0 : Int32) 2 by decide) (rfl : _ = 0))
  refine w6_getN F I (so_ob s1) rfl in_X2 16 (by decide) (List.mem_of_getElem? (i := 13) rfl) rfl rfl dX1_areTold_6 ?_
  refine lv_if_eq (tgt := 28) hx hb dX1_areTold_9 (by decide) (fun c => ?_) (fun c => ?_)
  · have hf := if_p c hf
    refine lv_iconst (v := (0 : Int32)) hx hb dX1_areTold_28 (by decide) ?_
    exact hret _ _ _ _ _ dX1_areTold_29 (w6_mv (so_e hf).2 I) (so_e hf).1 rfl
  · have hf := if_n c hf
    refine lv_aload_n hx hb dX1_areTold_12 rfl (lv_at hl 0 rfl) ?_
    refine w6_get F I xo_ob rfl in_X1 0 (by decide) q157 rfl rfl dX1_areTold_13 ?_
    refine lv_iconst (v := (1 : Int32)) hx hb dX1_areTold_16 (by decide) ?_
    refine w6_aald (j := 1) F I x_sides rfl rfl (show ix_ (1 : Int32) 2 by decide) rfl dX1_areTold_17 ?_
    have s2 : isSide (3 + 9 * 1) := isSide_s (ix_l (show ix_ (1 : Int32) 2 by decide) (rfl : _ = 1))
    refine w6_getN F I (so_ob s2) rfl in_X2 16 (by decide) (List.mem_of_getElem? (i := 13) rfl) rfl rfl dX1_areTold_18 ?_
    refine lv_if_eq (tgt := 28) hx hb dX1_areTold_21 (by decide) (fun c => ?_) (fun c => ?_)
    · have hf := if_p c hf
      refine lv_iconst (v := (0 : Int32)) hx hb dX1_areTold_28 (by decide) ?_
      exact hret _ _ _ _ _ dX1_areTold_29 (w6_mv (so_e hf).2 I) (so_e hf).1 rfl
    · have hf := if_n c hf
      refine lv_iconst (v := (1 : Int32)) hx hb dX1_areTold_24 (by decide) ?_
      refine lv_goto (tgt := 29) hx hb dX1_areTold_25 (by decide) ?_
      exact hret _ _ _ _ _ dX1_areTold_29 (w6_mv (so_e hf).2 I) (so_e hf).1 rfl
def x_begin_j98 (p1 : Int32) (V : Mm)   : Option (Int32 × Mm) :=
  lt_ (mset V 0 10 (1 : Int32)) fun V13 => lt_ (mset V13 0 5 p1) fun V14 => lt_ (mset V14 0 6 (0 : Int32)) fun V15 => lt_ (mset V15 0 7 (0 : Int32)) fun V16 => lt_ (mset V16 0 9 (-1 : Int32)) fun V17 => some ((V17.1 0 4), V17)
def x_begin_l75 (p1 : Int32) : Nat → Mm → Int32 → Int32 → Option (Int32 × Mm)
  | 0, _, _, _ => none
  | n75 + 1, V, a3, a4 =>
  if a3 ≤ a4 then (x_begin_j98 p1 V) else (gd_ (ix_ a4 2) ((d_begins (3 + 9 * a4.toNatClampNeg) V).bind fun V20 => lt_ (a4 + (1 : Int32)) fun v22 => x_begin_l75 p1 n75 V20 a3 v22))
def x_begin (V : Mm) (p1 : Int32) : Option (Int32 × Mm) :=
  if (px_isTeam p1) = (0 : Int32) then (some ((-1 : Int32), V)) else (if (V.1 0 10) = (0 : Int32) then (if (0 : Int32) ≤ (V.1 0 8) then (some ((-1 : Int32), V)) else (bi_ (x_areTold V) fun r3 V1 => if r3 = (0 : Int32) then (some ((-1 : Int32), V1)) else (bi_ (d_hasFree (3 + 9 * 0) V1) fun r7 V5 => if r7 = (0 : Int32) then (bi_ (d_hasFree (3 + 9 * 1) V5) fun r11 V9 => if r11 = (0 : Int32) then (lt_ (mset V9 0 4 ((V9.1 0 4) + (1 : Int32))) fun V12 => x_begin_l75 p1 200 V12 (2 : Int32) (0 : Int32)) else (some ((-1 : Int32), V9))) else (some ((-1 : Int32), V5))))) else (some ((-1 : Int32), V)))
theorem hdX1_begin : w6_hd yX1_begin 1 := by decide +kernel
abbrev rmX1_begin : Room := { frames := 1, cells := 0, slots := 0, locals := 22 }
set_option maxHeartbeats 4000000 in
set_option maxRecDepth 100000 in
theorem ctx_begin (l : Launch) (D : va_G) (g : Nat → ClassId) (ad : Nat → Nat) (V : Mm) (p1 : Int32) (r : Int32) (V' : Mm) (hf : x_begin V p1 = some (r, V'))  : CTi l D g yX1_begin cX1_begin 6 .int rmX1_begin [.ref (ad 0), .int p1] (xw g ad V) (xw g ad V') r := by
  intro sz
  refine w6_starti RX1 (by decide) (Nat.le_of_ble_eq_true rfl) rfl ?_
  intro p e s m below meth c A ls Q hx hb hown hts F I hl hret
  have hl : lv_has ls 6 [(0, .ref (ad 0)), (1, .int p1)] := hl
  have hJ98 : ∀ (V : Mm)  (H : Heap) (locs : List Loc) (ls : Array Slot), x_begin_j98 p1 V = some (r, V') → w6_I D (xw g ad V ++ []) A s H locs → lv_has ls 6 [(0, .ref (ad 0)), (1, .int p1)] → W p l e rmX1_begin s m ([.ref (ad 0), .int p1] : List Value).toArray below meth c H locs 0 0 Q (F0 m 98 ls []) := by
    intro V H locs ls hf I hl
    unfold x_begin_j98 at hf
    refine lv_aload_n hx hb dX1_begin_98 rfl (lv_at hl 0 rfl) ?_
    refine lv_iconst (v := (1 : Int32)) hx hb dX1_begin_99 (by decide) ?_
    obtain ⟨V13, eV13, hf⟩ := lt_e hf
    refine w6_put xsh_lc F I xo_ob rfl in_X1 tyX1 tyX1_ok nmX1 10 (by decide) (xo_nf 10 (by decide)) q167 rfl rfl (tyX1_ok 10 (by decide)) rfl rfl dX1_begin_100 eV13 (fun H locs I => ?_)
    refine lv_aload_n hx hb dX1_begin_103 rfl (lv_at hl 0 rfl) ?_
    refine lv_iload_n hx hb dX1_begin_104 rfl (lv_at hl 1 rfl) ?_
    obtain ⟨V14, eV14, hf⟩ := lt_e hf
    refine w6_put xsh_lc F I xo_ob rfl in_X1 tyX1 tyX1_ok nmX1 5 (by decide) (xo_nf 5 (by decide)) q162 rfl rfl (tyX1_ok 5 (by decide)) rfl rfl dX1_begin_105 eV14 (fun H locs I => ?_)
    refine lv_aload_n hx hb dX1_begin_108 rfl (lv_at hl 0 rfl) ?_
    refine lv_iconst (v := (0 : Int32)) hx hb dX1_begin_109 (by decide) ?_
    obtain ⟨V15, eV15, hf⟩ := lt_e hf
    refine w6_put xsh_lc F I xo_ob rfl in_X1 tyX1 tyX1_ok nmX1 6 (by decide) (xo_nf 6 (by decide)) q163 rfl rfl (tyX1_ok 6 (by decide)) rfl rfl dX1_begin_110 eV15 (fun H locs I => ?_)
    refine lv_aload_n hx hb dX1_begin_113 rfl (lv_at hl 0 rfl) ?_
    refine lv_iconst (v := (0 : Int32)) hx hb dX1_begin_114 (by decide) ?_
    obtain ⟨V16, eV16, hf⟩ := lt_e hf
    refine w6_put xsh_lc F I xo_ob rfl in_X1 tyX1 tyX1_ok nmX1 7 (by decide) (xo_nf 7 (by decide)) q164 rfl rfl (tyX1_ok 7 (by decide)) rfl rfl dX1_begin_115 eV16 (fun H locs I => ?_)
    refine lv_aload_n hx hb dX1_begin_118 rfl (lv_at hl 0 rfl) ?_
    refine lv_iconst (v := (-1 : Int32)) hx hb dX1_begin_119 (by decide) ?_
    obtain ⟨V17, eV17, hf⟩ := lt_e hf
    refine w6_put xsh_lc F I xo_ob rfl in_X1 tyX1 tyX1_ok nmX1 9 (by decide) (xo_nf 9 (by decide)) q166 rfl rfl (tyX1_ok 9 (by decide)) rfl rfl dX1_begin_120 eV17 (fun H locs I => ?_)
    refine lv_aload_n hx hb dX1_begin_123 rfl (lv_at hl 0 rfl) ?_
    refine w6_get F I xo_ob rfl in_X1 4 (by decide) q161 rfl rfl dX1_begin_124 ?_
    exact hret _ _ _ _ _ dX1_begin_127 (w6_mv (so_e hf).2 I) (so_e hf).1 rfl
  have hL75 : ∀ (n75 : Nat) (V : Mm) (a3 : Int32) (a4 : Int32) (H : Heap) (locs : List Loc) (ls : Array Slot), x_begin_l75 p1 n75 V a3 a4 = some (r, V') → w6_I D (xw g ad V ++ []) A s H locs → lv_has ls 6 [(0, .ref (ad 0)), (1, .int p1), (2, .ref (ad 1)), (3, .int a3), (4, .int a4)] → W p l e rmX1_begin s m ([.ref (ad 0), .int p1] : List Value).toArray below meth c H locs 0 0 Q (F0 m 75 ls []) := by
    intro n75
    induction n75 with
    | zero =>
      intro V a3 a4 H locs ls hf
      rw [x_begin_l75] at hf
      cases hf
    | succ n75 ih75 =>
      intro V a3 a4 H locs ls hf I hl
      rw [x_begin_l75] at hf
      refine lv_iload hx hb dX1_begin_75 (lv_at hl 4 rfl) ?_
      refine lv_iload_n hx hb dX1_begin_77 rfl (lv_at hl 3 rfl) ?_
      refine lv_icmp_ge (tgt := 98) hx hb dX1_begin_78 (by decide) (fun c => ?_) (fun c => ?_)
      · have hf := if_p c hf
        exact hJ98 V _ _ ls hf I (lv_sub hl [0, 1] rfl)
      · have hf := if_n c hf
        refine lv_aload_n hx hb dX1_begin_81 rfl (lv_at hl 2 rfl) ?_
        refine lv_iload hx hb dX1_begin_82 (lv_at hl 4 rfl) ?_
        obtain ⟨g18, hf⟩ := gd_e hf
        refine w6_aald (j := a4.toNatClampNeg) F I x_sides rfl rfl g18 rfl dX1_begin_84 ?_
        have s19 : isSide (3 + 9 * a4.toNatClampNeg) := isSide_s (ix_l g18 (rfl : _ = a4.toNatClampNeg))
        refine lv_astore (lv' := [(5, .ref (ad (3 + 9 * a4.toNatClampNeg))), (0, .ref (ad 0)), (1, .int p1), (2, .ref (ad 1)), (3, .int a3), (4, .int a4)]) hx hb dX1_begin_85 hl (by decide) rfl (fun ls hl => ?_)
        refine lv_aload hx hb dX1_begin_87 (lv_at hl 0 rfl) ?_
        obtain ⟨V20, h21, hf⟩ := bn_e hf
        refine xz_Vv F I (ctd_begins l D g ad (3 + 9 * a4.toNatClampNeg) V V20 h21 s19) (lw_V q282 q283 q284 q48 q285) hdX2_begins rfl (Nat.le_of_ble_eq_true rfl) (Nat.le_of_ble_eq_true rfl) (w6_recv F I (so_ob s19) rfl) rfl hl.1 [] rfl (Nat.le_of_ble_eq_true rfl) dX1_begin_89 ⟨Nat.le_of_ble_eq_true rfl, Nat.le_of_ble_eq_true rfl⟩ (fun H locs I => ?_)
        obtain ⟨v22, ev22, hf⟩ := lt_e hf
        refine lv_iinc (v := v22) (lv' := [(4, .int v22), (5, .ref (ad (3 + 9 * a4.toNatClampNeg))), (0, .ref (ad 0)), (1, .int p1), (2, .ref (ad 1)), (3, .int a3)]) hx hb dX1_begin_92 hl (k := 5) rfl (by rw [ev22]; rfl) (by decide) rfl (fun ls hl => ?_)
        refine lv_goto (tgt := 75) hx hb dX1_begin_95 (by decide) ?_
        exact ih75 V20 a3 v22 _ _ ls hf I (lv_sub hl [2, 3, 4, 5, 0] rfl)
  unfold x_begin at hf
  refine lv_iload_n hx hb dX1_begin_0 rfl (lv_at hl 1 rfl) ?_
  refine xz_Pi F I (ctpx_isTeam l D g p1 _ rfl) (lw_S q237 q238 q47 q239) hdX1_isTeam (Nat.le_of_ble_eq_true rfl) (Nat.le_of_ble_eq_true rfl) rfl hl.1 [] rfl (Nat.le_of_ble_eq_true rfl) dX1_begin_1 ⟨Nat.le_of_ble_eq_true rfl, Nat.le_of_ble_eq_true rfl⟩ (fun H locs I => ?_)
  refine lv_if_eq (tgt := 52) hx hb dX1_begin_4 (by decide) (fun c => ?_) (fun c => ?_)
  · have hf := if_p c hf
    refine lv_iconst (v := (-1 : Int32)) hx hb dX1_begin_52 (by decide) ?_
    exact hret _ _ _ _ _ dX1_begin_53 (w6_mv (so_e hf).2 I) (so_e hf).1 rfl
  · have hf := if_n c hf
    refine lv_aload_n hx hb dX1_begin_7 rfl (lv_at hl 0 rfl) ?_
    refine w6_get F I xo_ob rfl in_X1 10 (by decide) q167 rfl rfl dX1_begin_8 ?_
    refine lv_if_ne (tgt := 52) hx hb dX1_begin_11 (by decide) (fun c => ?_) (fun c => ?_)
    · have hf := if_n c hf
      refine lv_iconst (v := (-1 : Int32)) hx hb dX1_begin_52 (by decide) ?_
      exact hret _ _ _ _ _ dX1_begin_53 (w6_mv (so_e hf).2 I) (so_e hf).1 rfl
    · have hf := if_p c hf
      refine lv_aload_n hx hb dX1_begin_14 rfl (lv_at hl 0 rfl) ?_
      refine w6_get F I xo_ob rfl in_X1 8 (by decide) q165 rfl rfl dX1_begin_15 ?_
      refine lv_if_ge (tgt := 52) hx hb dX1_begin_18 (by decide) (fun c => ?_) (fun c => ?_)
      · have hf := if_p c hf
        refine lv_iconst (v := (-1 : Int32)) hx hb dX1_begin_52 (by decide) ?_
        exact hret _ _ _ _ _ dX1_begin_53 (w6_mv (so_e hf).2 I) (so_e hf).1 rfl
      · have hf := if_n c hf
        refine lv_aload_n hx hb dX1_begin_21 rfl (lv_at hl 0 rfl) ?_
        obtain ⟨r3, V1, h2, hf⟩ := bi_e hf
        refine xz_Vi F I (ctx_areTold l D g ad V r3 V1 h2 ) (lw_V q274 q276 qs0 q47 q277) hdX1_areTold rfl (Nat.le_of_ble_eq_true rfl) (Nat.le_of_ble_eq_true rfl) (w6_recv F I xo_ob rfl) rfl hl.1 [] rfl (Nat.le_of_ble_eq_true rfl) dX1_begin_22 ⟨Nat.le_of_ble_eq_true rfl, Nat.le_of_ble_eq_true rfl⟩ (fun H locs I => ?_)
        refine lv_if_eq (tgt := 52) hx hb dX1_begin_25 (by decide) (fun c => ?_) (fun c => ?_)
        · have hf := if_p c hf
          refine lv_iconst (v := (-1 : Int32)) hx hb dX1_begin_52 (by decide) ?_
          exact hret _ _ _ _ _ dX1_begin_53 (w6_mv (so_e hf).2 I) (so_e hf).1 rfl
        · have hf := if_n c hf
          refine lv_aload_n hx hb dX1_begin_28 rfl (lv_at hl 0 rfl) ?_
          refine w6_get F I xo_ob rfl in_X1 0 (by decide) q157 rfl rfl dX1_begin_29 ?_
          refine lv_iconst (v := (0 : Int32)) hx hb dX1_begin_32 (by decide) ?_
          refine w6_aald (j := 0) F I x_sides rfl rfl (show ix_ (0 : Int32) 2 by decide) rfl dX1_begin_33 ?_
          have s4 : isSide (3 + 9 * 0) := isSide_s (ix_l (show ix_ (0 : Int32) 2 by decide) (rfl : _ = 0))
          obtain ⟨r7, V5, h6, hf⟩ := bi_e hf
          refine xz_Vi F I (ctd_hasFree l D g ad (3 + 9 * 0) V1 r7 V5 h6 s4) (lw_V q278 q279 q280 q48 q281) hdX2_hasFree rfl (Nat.le_of_ble_eq_true rfl) (Nat.le_of_ble_eq_true rfl) (w6_recv F I (so_ob s4) rfl) rfl hl.1 [] rfl (Nat.le_of_ble_eq_true rfl) dX1_begin_34 ⟨Nat.le_of_ble_eq_true rfl, Nat.le_of_ble_eq_true rfl⟩ (fun H locs I => ?_)
          refine lv_if_ne (tgt := 52) hx hb dX1_begin_37 (by decide) (fun c => ?_) (fun c => ?_)
          · have hf := if_n c hf
            refine lv_iconst (v := (-1 : Int32)) hx hb dX1_begin_52 (by decide) ?_
            exact hret _ _ _ _ _ dX1_begin_53 (w6_mv (so_e hf).2 I) (so_e hf).1 rfl
          · have hf := if_p c hf
            refine lv_aload_n hx hb dX1_begin_40 rfl (lv_at hl 0 rfl) ?_
            refine w6_get F I xo_ob rfl in_X1 0 (by decide) q157 rfl rfl dX1_begin_41 ?_
            refine lv_iconst (v := (1 : Int32)) hx hb dX1_begin_44 (by decide) ?_
            refine w6_aald (j := 1) F I x_sides rfl rfl (show ix_ (1 : Int32) 2 by decide) rfl dX1_begin_45 ?_
            have s8 : isSide (3 + 9 * 1) := isSide_s (ix_l (show ix_ (1 : Int32) 2 by decide) (rfl : _ = 1))
            obtain ⟨r11, V9, h10, hf⟩ := bi_e hf
            refine xz_Vi F I (ctd_hasFree l D g ad (3 + 9 * 1) V5 r11 V9 h10 s8) (lw_V q278 q279 q280 q48 q281) hdX2_hasFree rfl (Nat.le_of_ble_eq_true rfl) (Nat.le_of_ble_eq_true rfl) (w6_recv F I (so_ob s8) rfl) rfl hl.1 [] rfl (Nat.le_of_ble_eq_true rfl) dX1_begin_46 ⟨Nat.le_of_ble_eq_true rfl, Nat.le_of_ble_eq_true rfl⟩ (fun H locs I => ?_)
            refine lv_if_eq (tgt := 54) hx hb dX1_begin_49 (by decide) (fun c => ?_) (fun c => ?_)
            · have hf := if_p c hf
              refine lv_aload_n hx hb dX1_begin_54 rfl (lv_at hl 0 rfl) ?_
              refine lv_dup hx hb dX1_begin_55 rfl ?_
              refine w6_get F I xo_ob rfl in_X1 4 (by decide) q161 rfl rfl dX1_begin_56 ?_
              refine lv_iconst (v := (1 : Int32)) hx hb dX1_begin_59 (by decide) ?_
              refine lv_iadd hx hb dX1_begin_60 ?_
              obtain ⟨V12, eV12, hf⟩ := lt_e hf
              refine w6_put xsh_lc F I xo_ob rfl in_X1 tyX1 tyX1_ok nmX1 4 (by decide) (xo_nf 4 (by decide)) q161 rfl rfl (tyX1_ok 4 (by decide)) rfl rfl dX1_begin_61 eV12 (fun H locs I => ?_)
              refine lv_aload_n hx hb dX1_begin_64 rfl (lv_at hl 0 rfl) ?_
              refine w6_get F I xo_ob rfl in_X1 0 (by decide) q157 rfl rfl dX1_begin_65 ?_
              refine lv_astore_n (lv' := [(2, .ref (ad 1)), (0, .ref (ad 0)), (1, .int p1)]) hx hb dX1_begin_68 rfl hl (by decide) rfl (fun ls hl => ?_)
              refine lv_aload_n hx hb dX1_begin_69 rfl (lv_at hl 0 rfl) ?_
              refine w6_rlen (v := (2 : Int32)) F I x_sides rfl rfl dX1_begin_70 ?_
              refine lv_istore_n (lv' := [(3, .int (2 : Int32)), (2, .ref (ad 1)), (0, .ref (ad 0)), (1, .int p1)]) hx hb dX1_begin_71 rfl hl (by decide) rfl (fun ls hl => ?_)
              refine lv_iconst (v := (0 : Int32)) hx hb dX1_begin_72 (by decide) ?_
              refine lv_istore (lv' := [(4, .int (0 : Int32)), (3, .int (2 : Int32)), (2, .ref (ad 1)), (0, .ref (ad 0)), (1, .int p1)]) hx hb dX1_begin_73 hl (by decide) rfl (fun ls hl => ?_)
              exact hL75 200 V12 (2 : Int32) (0 : Int32) _ _ ls hf I (lv_sub hl [3, 4, 2, 1, 0] rfl)
            · have hf := if_n c hf
              refine lv_iconst (v := (-1 : Int32)) hx hb dX1_begin_52 (by decide) ?_
              exact hret _ _ _ _ _ dX1_begin_53 (w6_mv (so_e hf).2 I) (so_e hf).1 rfl
def x_goal (V : Mm) : Option (Int32 × Mm) :=
  if (V.1 66 3) ≤ (1 : Int32) then (some ((V.1 66 0), V)) else (if (V.1 (3 + 9 * 0) 9) = ((V.1 66 3) - (1 : Int32)) then (if (V.1 (3 + 9 * 1) 9) = ((V.1 66 3) - (1 : Int32)) then (some ((V.1 66 2), V)) else (some ((V.1 66 0), V))) else (some ((V.1 66 0), V)))
theorem hdX1_goal : w6_hd yX1_goal 0 := by decide +kernel
abbrev rmX1_goal : Room := { frames := 0, cells := 0, slots := 0, locals := 0 }
set_option maxHeartbeats 4000000 in
set_option maxRecDepth 100000 in
theorem ctx_goal (l : Launch) (D : va_G) (g : Nat → ClassId) (ad : Nat → Nat) (V : Mm) (r : Int32) (V' : Mm) (hf : x_goal V = some (r, V'))  : CTi l D g yX1_goal cX1_goal 1 .int rmX1_goal [.ref (ad 0)] (xw g ad V) (xw g ad V') r := by
  intro sz
  refine w6_starti RX1 (by decide) (Nat.le_of_ble_eq_true rfl) rfl ?_
  intro p e s m below meth c A ls Q hx hb hown hts F I hl hret
  have hl : lv_has ls 1 [(0, .ref (ad 0))] := hl
  unfold x_goal at hf
  refine lv_aload_n hx hb dX1_goal_0 rfl (lv_at hl 0 rfl) ?_
  refine w6_get F I xo_ob rfl in_X1 3 (by decide) q160 rfl rfl dX1_goal_1 ?_
  refine lv_iconst (v := (3 : Int32)) hx hb dX1_goal_4 (by decide) ?_
  refine w6_iald (j := 3) F I (x_ar 66 6 (by decide) rfl) (show ix_ (3 : Int32) 6 by decide) rfl dX1_goal_5 ?_
  refine lv_iconst (v := (1 : Int32)) hx hb dX1_goal_6 (by decide) ?_
  refine lv_icmp_le (tgt := 59) hx hb dX1_goal_7 (by decide) (fun c => ?_) (fun c => ?_)
  · have hf := if_p c hf
    refine lv_aload_n hx hb dX1_goal_59 rfl (lv_at hl 0 rfl) ?_
    refine w6_get F I xo_ob rfl in_X1 3 (by decide) q160 rfl rfl dX1_goal_60 ?_
    refine lv_iconst (v := (0 : Int32)) hx hb dX1_goal_63 (by decide) ?_
    refine w6_iald (j := 0) F I (x_ar 66 6 (by decide) rfl) (show ix_ (0 : Int32) 6 by decide) rfl dX1_goal_64 ?_
    exact hret _ _ _ _ _ dX1_goal_65 (w6_mv (so_e hf).2 I) (so_e hf).1 rfl
  · have hf := if_n c hf
    refine lv_aload_n hx hb dX1_goal_10 rfl (lv_at hl 0 rfl) ?_
    refine w6_get F I xo_ob rfl in_X1 0 (by decide) q157 rfl rfl dX1_goal_11 ?_
    refine lv_iconst (v := (0 : Int32)) hx hb dX1_goal_14 (by decide) ?_
    refine w6_aald (j := 0) F I x_sides rfl rfl (show ix_ (0 : Int32) 2 by decide) rfl dX1_goal_15 ?_
    have s1 : isSide (3 + 9 * 0) := isSide_s (ix_l (show ix_ (0 : Int32) 2 by decide) (rfl : _ = 0))
    refine w6_getN F I (so_ob s1) rfl in_X2 9 (by decide) (List.mem_of_getElem? (i := 6) rfl) rfl rfl dX1_goal_16 ?_
    refine lv_aload_n hx hb dX1_goal_19 rfl (lv_at hl 0 rfl) ?_
    refine w6_get F I xo_ob rfl in_X1 3 (by decide) q160 rfl rfl dX1_goal_20 ?_
    refine lv_iconst (v := (3 : Int32)) hx hb dX1_goal_23 (by decide) ?_
    refine w6_iald (j := 3) F I (x_ar 66 6 (by decide) rfl) (show ix_ (3 : Int32) 6 by decide) rfl dX1_goal_24 ?_
    refine lv_iconst (v := (1 : Int32)) hx hb dX1_goal_25 (by decide) ?_
    refine lv_isub hx hb dX1_goal_26 ?_
    refine lv_icmp_ne (tgt := 59) hx hb dX1_goal_27 (by decide) (fun c => ?_) (fun c => ?_)
    · have hf := if_n c hf
      refine lv_aload_n hx hb dX1_goal_59 rfl (lv_at hl 0 rfl) ?_
      refine w6_get F I xo_ob rfl in_X1 3 (by decide) q160 rfl rfl dX1_goal_60 ?_
      refine lv_iconst (v := (0 : Int32)) hx hb dX1_goal_63 (by decide) ?_
      refine w6_iald (j := 0) F I (x_ar 66 6 (by decide) rfl) (show ix_ (0 : Int32) 6 by decide) rfl dX1_goal_64 ?_
      exact hret _ _ _ _ _ dX1_goal_65 (w6_mv (so_e hf).2 I) (so_e hf).1 rfl
    · have hf := if_p c hf
      refine lv_aload_n hx hb dX1_goal_30 rfl (lv_at hl 0 rfl) ?_
      refine w6_get F I xo_ob rfl in_X1 0 (by decide) q157 rfl rfl dX1_goal_31 ?_
      refine lv_iconst (v := (1 : Int32)) hx hb dX1_goal_34 (by decide) ?_
      refine w6_aald (j := 1) F I x_sides rfl rfl (show ix_ (1 : Int32) 2 by decide) rfl dX1_goal_35 ?_
      have s2 : isSide (3 + 9 * 1) := isSide_s (ix_l (show ix_ (1 : Int32) 2 by decide) (rfl : _ = 1))
      refine w6_getN F I (so_ob s2) rfl in_X2 9 (by decide) (List.mem_of_getElem? (i := 6) rfl) rfl rfl dX1_goal_36 ?_
      refine lv_aload_n hx hb dX1_goal_39 rfl (lv_at hl 0 rfl) ?_
      refine w6_get F I xo_ob rfl in_X1 3 (by decide) q160 rfl rfl dX1_goal_40 ?_
      refine lv_iconst (v := (3 : Int32)) hx hb dX1_goal_43 (by decide) ?_
      refine w6_iald (j := 3) F I (x_ar 66 6 (by decide) rfl) (show ix_ (3 : Int32) 6 by decide) rfl dX1_goal_44 ?_
      refine lv_iconst (v := (1 : Int32)) hx hb dX1_goal_45 (by decide) ?_
      refine lv_isub hx hb dX1_goal_46 ?_
      refine lv_icmp_ne (tgt := 59) hx hb dX1_goal_47 (by decide) (fun c => ?_) (fun c => ?_)
      · have hf := if_n c hf
        refine lv_aload_n hx hb dX1_goal_59 rfl (lv_at hl 0 rfl) ?_
        refine w6_get F I xo_ob rfl in_X1 3 (by decide) q160 rfl rfl dX1_goal_60 ?_
        refine lv_iconst (v := (0 : Int32)) hx hb dX1_goal_63 (by decide) ?_
        refine w6_iald (j := 0) F I (x_ar 66 6 (by decide) rfl) (show ix_ (0 : Int32) 6 by decide) rfl dX1_goal_64 ?_
        exact hret _ _ _ _ _ dX1_goal_65 (w6_mv (so_e hf).2 I) (so_e hf).1 rfl
      · have hf := if_p c hf
        refine lv_aload_n hx hb dX1_goal_50 rfl (lv_at hl 0 rfl) ?_
        refine w6_get F I xo_ob rfl in_X1 3 (by decide) q160 rfl rfl dX1_goal_51 ?_
        refine lv_iconst (v := (2 : Int32)) hx hb dX1_goal_54 (by decide) ?_
        refine w6_iald (j := 2) F I (x_ar 66 6 (by decide) rfl) (show ix_ (2 : Int32) 6 by decide) rfl dX1_goal_55 ?_
        refine lv_goto (tgt := 65) hx hb dX1_goal_56 (by decide) ?_
        exact hret _ _ _ _ _ dX1_goal_65 (w6_mv (so_e hf).2 I) (so_e hf).1 rfl
def x_wins_j12 (p1 : Int32) (p2 : Int32) (p3 : Int32) (V : Mm)   : Option (Int32 × Mm) :=
  if p2 < (V.1 66 1) then (some ((0 : Int32), V)) else (some ((1 : Int32), V))
def x_wins (V : Mm) (p1 : Int32) (p2 : Int32) (p3 : Int32) : Option (Int32 × Mm) :=
  if p2 < p1 then (x_wins_j12 p1 p2 p3 V) else (if (2 : Int32) ≤ (p2 - p3) then (some ((1 : Int32), V)) else (x_wins_j12 p1 p2 p3 V))
theorem hdX1_wins : w6_hd yX1_wins 3 := by decide +kernel
abbrev rmX1_wins : Room := { frames := 0, cells := 0, slots := 0, locals := 0 }
set_option maxHeartbeats 4000000 in
set_option maxRecDepth 100000 in
theorem ctx_wins (l : Launch) (D : va_G) (g : Nat → ClassId) (ad : Nat → Nat) (V : Mm) (p1 : Int32) (p2 : Int32) (p3 : Int32) (r : Int32) (V' : Mm) (hf : x_wins V p1 p2 p3 = some (r, V'))  : CTi l D g yX1_wins cX1_wins 4 .boolean rmX1_wins [.ref (ad 0), .int p1, .int p2, .int p3] (xw g ad V) (xw g ad V') r := by
  intro sz
  refine w6_starti RX1 (by decide) (Nat.le_of_ble_eq_true rfl) rfl ?_
  intro p e s m below meth c A ls Q hx hb hown hts F I hl hret
  have hl : lv_has ls 4 [(0, .ref (ad 0)), (1, .int p1), (2, .int p2), (3, .int p3)] := hl
  have hJ12 : ∀ (V : Mm)  (H : Heap) (locs : List Loc) (ls : Array Slot), x_wins_j12 p1 p2 p3 V = some (r, V') → w6_I D (xw g ad V ++ []) A s H locs → lv_has ls 4 [(0, .ref (ad 0)), (2, .int p2)] → W p l e rmX1_wins s m ([.ref (ad 0), .int p1, .int p2, .int p3] : List Value).toArray below meth c H locs 0 0 Q (F0 m 12 ls []) := by
    intro V H locs ls hf I hl
    unfold x_wins_j12 at hf
    refine lv_iload_n hx hb dX1_wins_12 rfl (lv_at hl 1 rfl) ?_
    refine lv_aload_n hx hb dX1_wins_13 rfl (lv_at hl 0 rfl) ?_
    refine w6_get F I xo_ob rfl in_X1 3 (by decide) q160 rfl rfl dX1_wins_14 ?_
    refine lv_iconst (v := (1 : Int32)) hx hb dX1_wins_17 (by decide) ?_
    refine w6_iald (j := 1) F I (x_ar 66 6 (by decide) rfl) (show ix_ (1 : Int32) 6 by decide) rfl dX1_wins_18 ?_
    refine lv_icmp_lt (tgt := 26) hx hb dX1_wins_19 (by decide) (fun c => ?_) (fun c => ?_)
    · have hf := if_p c hf
      refine lv_iconst (v := (0 : Int32)) hx hb dX1_wins_26 (by decide) ?_
      exact hret _ _ _ _ _ dX1_wins_27 (w6_mv (so_e hf).2 I) (so_e hf).1 rfl
    · have hf := if_n c hf
      refine lv_iconst (v := (1 : Int32)) hx hb dX1_wins_22 (by decide) ?_
      refine lv_goto (tgt := 27) hx hb dX1_wins_23 (by decide) ?_
      exact hret _ _ _ _ _ dX1_wins_27 (w6_mv (so_e hf).2 I) (so_e hf).1 rfl
  unfold x_wins at hf
  refine lv_iload_n hx hb dX1_wins_0 rfl (lv_at hl 2 rfl) ?_
  refine lv_iload_n hx hb dX1_wins_1 rfl (lv_at hl 1 rfl) ?_
  refine lv_icmp_lt (tgt := 12) hx hb dX1_wins_2 (by decide) (fun c => ?_) (fun c => ?_)
  · have hf := if_p c hf
    exact hJ12 V _ _ ls hf I (lv_sub hl [0, 2] rfl)
  · have hf := if_n c hf
    refine lv_iload_n hx hb dX1_wins_5 rfl (lv_at hl 2 rfl) ?_
    refine lv_iload_n hx hb dX1_wins_6 rfl (lv_at hl 3 rfl) ?_
    refine lv_isub hx hb dX1_wins_7 ?_
    refine lv_iconst (v := (2 : Int32)) hx hb dX1_wins_8 (by decide) ?_
    refine lv_icmp_ge (tgt := 22) hx hb dX1_wins_9 (by decide) (fun c => ?_) (fun c => ?_)
    · have hf := if_p c hf
      refine lv_iconst (v := (1 : Int32)) hx hb dX1_wins_22 (by decide) ?_
      refine lv_goto (tgt := 27) hx hb dX1_wins_23 (by decide) ?_
      exact hret _ _ _ _ _ dX1_wins_27 (w6_mv (so_e hf).2 I) (so_e hf).1 rfl
    · have hf := if_n c hf
      exact hJ12 V _ _ ls hf I (lv_sub hl [0, 2] rfl)
def x_ends_j92 (V : Mm)  (s0 : Int32) : Option (Int32 × Mm) :=
  lt_ (mset V 0 8 s0) fun V18 => if (0 : Int32) ≤ (V18.1 0 8) then (some ((2 : Int32), V18)) else (some ((1 : Int32), V18))
def x_ends_j43 (V : Mm)  (a2 : Int32) : Option (Int32 × Mm) :=
  lt_ (mset V 0 10 (0 : Int32)) fun V11 => lt_ (mset V11 0 9 a2) fun V12 => gd_ (ix_ a2 2) (lt_ (mset V12 (3 + 9 * a2.toNatClampNeg) 9 ((V12.1 (3 + 9 * a2.toNatClampNeg) 9) + (1 : Int32))) fun V15 => gd_ (ix_ a2 2) (if (V15.1 (3 + 9 * a2.toNatClampNeg) 9) = (V15.1 66 3) then (x_ends_j92 V15 a2) else (x_ends_j92 V15 (-1 : Int32))))
def x_ends_l7 : Nat → Mm → Int32 → Int32 → Option (Int32 × Mm)
  | 0, _, _, _ => none
  | n7 + 1, V, a1, a2 =>
  if (2 : Int32) ≤ a2 then (some ((0 : Int32), V)) else (gd_ (ix_ a2 2) (gd_ (ix_ ((1 : Int32) - a2) 2) (bi_ (x_wins V a1 (V.1 (3 + 9 * a2.toNatClampNeg) 8) (V.1 (3 + 9 * ((1 : Int32) - a2).toNatClampNeg) 8)) fun r10 V8 => if r10 = (0 : Int32) then (lt_ (a2 + (1 : Int32)) fun v19 => x_ends_l7 n7 V8 a1 v19) else (x_ends_j43 V8 a2))))
def x_ends (V : Mm) : Option (Int32 × Mm) :=
  bi_ (x_goal V) fun r3 V1 => x_ends_l7 200 V1 r3 (0 : Int32)
theorem hdX1_ends : w6_hd yX1_ends 0 := by decide +kernel
abbrev rmX1_ends : Room := { frames := 1, cells := 0, slots := 0, locals := 23 }
set_option maxHeartbeats 4000000 in
set_option maxRecDepth 100000 in
theorem ctx_ends (l : Launch) (D : va_G) (g : Nat → ClassId) (ad : Nat → Nat) (V : Mm) (r : Int32) (V' : Mm) (hf : x_ends V = some (r, V'))  : CTi l D g yX1_ends cX1_ends 3 .int rmX1_ends [.ref (ad 0)] (xw g ad V) (xw g ad V') r := by
  intro sz
  refine w6_starti RX1 (by decide) (Nat.le_of_ble_eq_true rfl) rfl ?_
  intro p e s m below meth c A ls Q hx hb hown hts F I hl hret
  have hl : lv_has ls 3 [(0, .ref (ad 0))] := hl
  have hJ92 : ∀ (V : Mm) (s0 : Int32) (H : Heap) (locs : List Loc) (ls : Array Slot), x_ends_j92 V s0 = some (r, V') → w6_I D (xw g ad V ++ []) A s H locs → lv_has ls 3 [(0, .ref (ad 0))] → W p l e rmX1_ends s m ([.ref (ad 0)] : List Value).toArray below meth c H locs 0 0 Q (F0 m 92 ls [.int s0, .ref (ad 0)]) := by
    intro V s0 H locs ls hf I hl
    unfold x_ends_j92 at hf
    obtain ⟨V18, eV18, hf⟩ := lt_e hf
    refine w6_put xsh_lc F I xo_ob rfl in_X1 tyX1 tyX1_ok nmX1 8 (by decide) (xo_nf 8 (by decide)) q165 rfl rfl (tyX1_ok 8 (by decide)) rfl rfl dX1_ends_92 eV18 (fun H locs I => ?_)
    refine lv_aload_n hx hb dX1_ends_95 rfl (lv_at hl 0 rfl) ?_
    refine w6_get F I xo_ob rfl in_X1 8 (by decide) q165 rfl rfl dX1_ends_96 ?_
    refine lv_if_ge (tgt := 106) hx hb dX1_ends_99 (by decide) (fun c => ?_) (fun c => ?_)
    · have hf := if_p c hf
      refine lv_iconst (v := (2 : Int32)) hx hb dX1_ends_106 (by decide) ?_
      exact hret _ _ _ _ _ dX1_ends_107 (w6_mv (so_e hf).2 I) (so_e hf).1 rfl
    · have hf := if_n c hf
      refine lv_iconst (v := (1 : Int32)) hx hb dX1_ends_102 (by decide) ?_
      refine lv_goto (tgt := 107) hx hb dX1_ends_103 (by decide) ?_
      exact hret _ _ _ _ _ dX1_ends_107 (w6_mv (so_e hf).2 I) (so_e hf).1 rfl
  have hJ43 : ∀ (V : Mm) (a2 : Int32) (H : Heap) (locs : List Loc) (ls : Array Slot), x_ends_j43 V a2 = some (r, V') → w6_I D (xw g ad V ++ []) A s H locs → lv_has ls 3 [(0, .ref (ad 0)), (2, .int a2)] → W p l e rmX1_ends s m ([.ref (ad 0)] : List Value).toArray below meth c H locs 0 0 Q (F0 m 43 ls []) := by
    intro V a2 H locs ls hf I hl
    unfold x_ends_j43 at hf
    refine lv_aload_n hx hb dX1_ends_43 rfl (lv_at hl 0 rfl) ?_
    refine lv_iconst (v := (0 : Int32)) hx hb dX1_ends_44 (by decide) ?_
    obtain ⟨V11, eV11, hf⟩ := lt_e hf
    refine w6_put xsh_lc F I xo_ob rfl in_X1 tyX1 tyX1_ok nmX1 10 (by decide) (xo_nf 10 (by decide)) q167 rfl rfl (tyX1_ok 10 (by decide)) rfl rfl dX1_ends_45 eV11 (fun H locs I => ?_)
    refine lv_aload_n hx hb dX1_ends_48 rfl (lv_at hl 0 rfl) ?_
    refine lv_iload_n hx hb dX1_ends_49 rfl (lv_at hl 1 rfl) ?_
    obtain ⟨V12, eV12, hf⟩ := lt_e hf
    refine w6_put xsh_lc F I xo_ob rfl in_X1 tyX1 tyX1_ok nmX1 9 (by decide) (xo_nf 9 (by decide)) q166 rfl rfl (tyX1_ok 9 (by decide)) rfl rfl dX1_ends_50 eV12 (fun H locs I => ?_)
    refine lv_aload_n hx hb dX1_ends_53 rfl (lv_at hl 0 rfl) ?_
    refine w6_get F I xo_ob rfl in_X1 0 (by decide) q157 rfl rfl dX1_ends_54 ?_
    refine lv_iload_n hx hb dX1_ends_57 rfl (lv_at hl 1 rfl) ?_
    obtain ⟨g13, hf⟩ := gd_e hf
    refine w6_aald (j := a2.toNatClampNeg) F I x_sides rfl rfl g13 rfl dX1_ends_58 ?_
    have s14 : isSide (3 + 9 * a2.toNatClampNeg) := isSide_s (ix_l g13 (rfl : _ = a2.toNatClampNeg))
    refine lv_dup hx hb dX1_ends_59 rfl ?_
    refine w6_getN F I (so_ob s14) rfl in_X2 9 (by decide) (List.mem_of_getElem? (i := 6) rfl) rfl rfl dX1_ends_60 ?_
    refine lv_iconst (v := (1 : Int32)) hx hb dX1_ends_63 (by decide) ?_
    refine lv_iadd hx hb dX1_ends_64 ?_
    obtain ⟨V15, eV15, hf⟩ := lt_e hf
    refine w6_putN xsh_lc F I (so_ob s14) rfl in_X2 tyX2 tyX2_ok nmX2 9 (by decide) (so_nf _ 9 (by decide)) (List.mem_of_getElem? (i := 6) rfl) rfl rfl (tyX2_ok 9 (by decide)) rfl rfl dX1_ends_65 eV15 (fun H locs I => ?_)
    refine lv_aload_n hx hb dX1_ends_68 rfl (lv_at hl 0 rfl) ?_
    refine lv_aload_n hx hb dX1_ends_69 rfl (lv_at hl 0 rfl) ?_
    refine w6_get F I xo_ob rfl in_X1 0 (by decide) q157 rfl rfl dX1_ends_70 ?_
    refine lv_iload_n hx hb dX1_ends_73 rfl (lv_at hl 1 rfl) ?_
    obtain ⟨g16, hf⟩ := gd_e hf
    refine w6_aald (j := a2.toNatClampNeg) F I x_sides rfl rfl g16 rfl dX1_ends_74 ?_
    have s17 : isSide (3 + 9 * a2.toNatClampNeg) := isSide_s (ix_l g16 (rfl : _ = a2.toNatClampNeg))
    refine w6_getN F I (so_ob s17) rfl in_X2 9 (by decide) (List.mem_of_getElem? (i := 6) rfl) rfl rfl dX1_ends_75 ?_
    refine lv_aload_n hx hb dX1_ends_78 rfl (lv_at hl 0 rfl) ?_
    refine w6_get F I xo_ob rfl in_X1 3 (by decide) q160 rfl rfl dX1_ends_79 ?_
    refine lv_iconst (v := (3 : Int32)) hx hb dX1_ends_82 (by decide) ?_
    refine w6_iald (j := 3) F I (x_ar 66 6 (by decide) rfl) (show ix_ (3 : Int32) 6 by decide) rfl dX1_ends_83 ?_
    refine lv_icmp_ne (tgt := 91) hx hb dX1_ends_84 (by decide) (fun c => ?_) (fun c => ?_)
    · have hf := if_n c hf
      refine lv_iconst (v := (-1 : Int32)) hx hb dX1_ends_91 (by decide) ?_
      exact hJ92 V15 (-1 : Int32) _ _ ls hf I (lv_sub hl [0] rfl)
    · have hf := if_p c hf
      refine lv_iload_n hx hb dX1_ends_87 rfl (lv_at hl 1 rfl) ?_
      refine lv_goto (tgt := 92) hx hb dX1_ends_88 (by decide) ?_
      exact hJ92 V15 a2 _ _ ls hf I (lv_sub hl [0] rfl)
  have hL7 : ∀ (n7 : Nat) (V : Mm) (a1 : Int32) (a2 : Int32) (H : Heap) (locs : List Loc) (ls : Array Slot), x_ends_l7 n7 V a1 a2 = some (r, V') → w6_I D (xw g ad V ++ []) A s H locs → lv_has ls 3 [(0, .ref (ad 0)), (1, .int a1), (2, .int a2)] → W p l e rmX1_ends s m ([.ref (ad 0)] : List Value).toArray below meth c H locs 0 0 Q (F0 m 7 ls []) := by
    intro n7
    induction n7 with
    | zero =>
      intro V a1 a2 H locs ls hf
      rw [x_ends_l7] at hf
      cases hf
    | succ n7 ih7 =>
      intro V a1 a2 H locs ls hf I hl
      rw [x_ends_l7] at hf
      refine lv_iload_n hx hb dX1_ends_7 rfl (lv_at hl 2 rfl) ?_
      refine lv_iconst (v := (2 : Int32)) hx hb dX1_ends_8 (by decide) ?_
      refine lv_icmp_ge (tgt := 114) hx hb dX1_ends_9 (by decide) (fun c => ?_) (fun c => ?_)
      · have hf := if_p c hf
        refine lv_iconst (v := (0 : Int32)) hx hb dX1_ends_114 (by decide) ?_
        exact hret _ _ _ _ _ dX1_ends_115 (w6_mv (so_e hf).2 I) (so_e hf).1 rfl
      · have hf := if_n c hf
        refine lv_aload_n hx hb dX1_ends_12 rfl (lv_at hl 0 rfl) ?_
        refine lv_iload_n hx hb dX1_ends_13 rfl (lv_at hl 1 rfl) ?_
        refine lv_aload_n hx hb dX1_ends_14 rfl (lv_at hl 0 rfl) ?_
        refine w6_get F I xo_ob rfl in_X1 0 (by decide) q157 rfl rfl dX1_ends_15 ?_
        refine lv_iload_n hx hb dX1_ends_18 rfl (lv_at hl 2 rfl) ?_
        obtain ⟨g4, hf⟩ := gd_e hf
        refine w6_aald (j := a2.toNatClampNeg) F I x_sides rfl rfl g4 rfl dX1_ends_19 ?_
        have s5 : isSide (3 + 9 * a2.toNatClampNeg) := isSide_s (ix_l g4 (rfl : _ = a2.toNatClampNeg))
        refine w6_getN F I (so_ob s5) rfl in_X2 8 (by decide) (List.mem_of_getElem? (i := 5) rfl) rfl rfl dX1_ends_20 ?_
        refine lv_aload_n hx hb dX1_ends_23 rfl (lv_at hl 0 rfl) ?_
        refine w6_get F I xo_ob rfl in_X1 0 (by decide) q157 rfl rfl dX1_ends_24 ?_
        refine lv_iconst (v := (1 : Int32)) hx hb dX1_ends_27 (by decide) ?_
        refine lv_iload_n hx hb dX1_ends_28 rfl (lv_at hl 2 rfl) ?_
        refine lv_isub hx hb dX1_ends_29 ?_
        obtain ⟨g6, hf⟩ := gd_e hf
        refine w6_aald (j := ((1 : Int32) - a2).toNatClampNeg) F I x_sides rfl rfl g6 rfl dX1_ends_30 ?_
        have s7 : isSide (3 + 9 * ((1 : Int32) - a2).toNatClampNeg) := isSide_s (ix_l g6 (rfl : _ = ((1 : Int32) - a2).toNatClampNeg))
        refine w6_getN F I (so_ob s7) rfl in_X2 8 (by decide) (List.mem_of_getElem? (i := 5) rfl) rfl rfl dX1_ends_31 ?_
        obtain ⟨r10, V8, h9, hf⟩ := bi_e hf
        refine xz_Vi F I (ctx_wins l D g ad V a1 (V.1 (3 + 9 * a2.toNatClampNeg) 8) (V.1 (3 + 9 * ((1 : Int32) - a2).toNatClampNeg) 8) r10 V8 h9 ) (lw_V q311 q313 qs4 q47 q314) hdX1_wins rfl (Nat.le_of_ble_eq_true rfl) (Nat.le_of_ble_eq_true rfl) (w6_recv F I xo_ob rfl) rfl hl.1 [] rfl (Nat.le_of_ble_eq_true rfl) dX1_ends_34 ⟨Nat.le_of_ble_eq_true rfl, Nat.le_of_ble_eq_true rfl⟩ (fun H locs I => ?_)
        refine lv_if_ne (tgt := 43) hx hb dX1_ends_37 (by decide) (fun c => ?_) (fun c => ?_)
        · have hf := if_n c hf
          exact hJ43 V8 a2 _ _ ls hf I (lv_sub hl [0, 2] rfl)
        · have hf := if_p c hf
          refine lv_goto (tgt := 108) hx hb dX1_ends_40 (by decide) ?_
          obtain ⟨v19, ev19, hf⟩ := lt_e hf
          refine lv_iinc (v := v19) (lv' := [(2, .int v19), (0, .ref (ad 0)), (1, .int a1)]) hx hb dX1_ends_108 hl (k := 2) rfl (by rw [ev19]; rfl) (by decide) rfl (fun ls hl => ?_)
          refine lv_goto (tgt := 7) hx hb dX1_ends_111 (by decide) ?_
          exact ih7 V8 a1 v19 _ _ ls hf I (lv_sub hl [1, 2, 0] rfl)
  unfold x_ends at hf
  refine lv_aload_n hx hb dX1_ends_0 rfl (lv_at hl 0 rfl) ?_
  obtain ⟨r3, V1, h2, hf⟩ := bi_e hf
  refine xz_Vi F I (ctx_goal l D g ad V r3 V1 h2 ) (lw_V q307 q309 qs3 q47 q310) hdX1_goal rfl (Nat.le_of_ble_eq_true rfl) (Nat.le_of_ble_eq_true rfl) (w6_recv F I xo_ob rfl) rfl hl.1 [] rfl (Nat.le_of_ble_eq_true rfl) dX1_ends_1 ⟨Nat.le_of_ble_eq_true rfl, Nat.le_of_ble_eq_true rfl⟩ (fun H locs I => ?_)
  refine lv_istore_n (lv' := [(1, .int r3), (0, .ref (ad 0))]) hx hb dX1_ends_4 rfl hl (by decide) rfl (fun ls hl => ?_)
  refine lv_iconst (v := (0 : Int32)) hx hb dX1_ends_5 (by decide) ?_
  refine lv_istore_n (lv' := [(2, .int (0 : Int32)), (1, .int r3), (0, .ref (ad 0))]) hx hb dX1_ends_6 rfl hl (by decide) rfl (fun ls hl => ?_)
  exact hL7 200 V1 r3 (0 : Int32) _ _ ls hf I (lv_sub hl [2, 1, 0] rfl)
def x_won_j65 (p1 : Int32) (V : Mm)   : Option (Int32 × Mm) :=
  bi_ (x_ends V) fun r13 V11 => some (r13, V11)
def x_won (V : Mm) (p1 : Int32) : Option (Int32 × Mm) :=
  gd_ (ix_ p1 2) (lt_ (mset V (3 + 9 * p1.toNatClampNeg) 8 ((V.1 (3 + 9 * p1.toNatClampNeg) 8) + (1 : Int32))) fun V3 => lt_ (mset V3 0 6 ((V3.1 0 6) + (1 : Int32))) fun V4 => if (V4.1 0 5) = p1 then (lt_ (mset V4 0 7 ((V4.1 0 7) + (1 : Int32))) fun V14 => x_won_j65 p1 V14) else (lt_ (mset V4 0 7 (0 : Int32)) fun V5 => lt_ (mset V5 0 5 p1) fun V6 => gd_ (ix_ p1 2) ((d_goesRound (3 + 9 * p1.toNatClampNeg) V6).bind fun V9 => x_won_j65 p1 V9)))
theorem hdX1_won : w6_hd yX1_won 1 := by decide +kernel
abbrev rmX1_won : Room := { frames := 2, cells := 0, slots := 0, locals := 47 }
set_option maxHeartbeats 4000000 in
set_option maxRecDepth 100000 in
theorem ctx_won (l : Launch) (D : va_G) (g : Nat → ClassId) (ad : Nat → Nat) (V : Mm) (p1 : Int32) (r : Int32) (V' : Mm) (hf : x_won V p1 = some (r, V'))  : CTi l D g yX1_won cX1_won 2 .int rmX1_won [.ref (ad 0), .int p1] (xw g ad V) (xw g ad V') r := by
  intro sz
  refine w6_starti RX1 (by decide) (Nat.le_of_ble_eq_true rfl) rfl ?_
  intro p e s m below meth c A ls Q hx hb hown hts F I hl hret
  have hl : lv_has ls 2 [(0, .ref (ad 0)), (1, .int p1)] := hl
  have hJ65 : ∀ (V : Mm)  (H : Heap) (locs : List Loc) (ls : Array Slot), x_won_j65 p1 V = some (r, V') → w6_I D (xw g ad V ++ []) A s H locs → lv_has ls 2 [(0, .ref (ad 0))] → W p l e rmX1_won s m ([.ref (ad 0), .int p1] : List Value).toArray below meth c H locs 0 0 Q (F0 m 65 ls []) := by
    intro V H locs ls hf I hl
    unfold x_won_j65 at hf
    refine lv_aload_n hx hb dX1_won_65 rfl (lv_at hl 0 rfl) ?_
    obtain ⟨r13, V11, h12, hf⟩ := bi_e hf
    refine xz_Vi F I (ctx_ends l D g ad V r13 V11 h12 ) (lw_V q303 q305 qs2 q47 q306) hdX1_ends rfl (Nat.le_of_ble_eq_true rfl) (Nat.le_of_ble_eq_true rfl) (w6_recv F I xo_ob rfl) rfl hl.1 [] rfl (Nat.le_of_ble_eq_true rfl) dX1_won_66 ⟨Nat.le_of_ble_eq_true rfl, Nat.le_of_ble_eq_true rfl⟩ (fun H locs I => ?_)
    exact hret _ _ _ _ _ dX1_won_69 (w6_mv (so_e hf).2 I) (so_e hf).1 rfl
  unfold x_won at hf
  refine lv_aload_n hx hb dX1_won_0 rfl (lv_at hl 0 rfl) ?_
  refine w6_get F I xo_ob rfl in_X1 0 (by decide) q157 rfl rfl dX1_won_1 ?_
  refine lv_iload_n hx hb dX1_won_4 rfl (lv_at hl 1 rfl) ?_
  obtain ⟨g1, hf⟩ := gd_e hf
  refine w6_aald (j := p1.toNatClampNeg) F I x_sides rfl rfl g1 rfl dX1_won_5 ?_
  have s2 : isSide (3 + 9 * p1.toNatClampNeg) := isSide_s (ix_l g1 (rfl : _ = p1.toNatClampNeg))
  refine lv_dup hx hb dX1_won_6 rfl ?_
  refine w6_getN F I (so_ob s2) rfl in_X2 8 (by decide) (List.mem_of_getElem? (i := 5) rfl) rfl rfl dX1_won_7 ?_
  refine lv_iconst (v := (1 : Int32)) hx hb dX1_won_10 (by decide) ?_
  refine lv_iadd hx hb dX1_won_11 ?_
  obtain ⟨V3, eV3, hf⟩ := lt_e hf
  refine w6_putN xsh_lc F I (so_ob s2) rfl in_X2 tyX2 tyX2_ok nmX2 8 (by decide) (so_nf _ 8 (by decide)) (List.mem_of_getElem? (i := 5) rfl) rfl rfl (tyX2_ok 8 (by decide)) rfl rfl dX1_won_12 eV3 (fun H locs I => ?_)
  refine lv_aload_n hx hb dX1_won_15 rfl (lv_at hl 0 rfl) ?_
  refine lv_dup hx hb dX1_won_16 rfl ?_
  refine w6_get F I xo_ob rfl in_X1 6 (by decide) q163 rfl rfl dX1_won_17 ?_
  refine lv_iconst (v := (1 : Int32)) hx hb dX1_won_20 (by decide) ?_
  refine lv_iadd hx hb dX1_won_21 ?_
  obtain ⟨V4, eV4, hf⟩ := lt_e hf
  refine w6_put xsh_lc F I xo_ob rfl in_X1 tyX1 tyX1_ok nmX1 6 (by decide) (xo_nf 6 (by decide)) q163 rfl rfl (tyX1_ok 6 (by decide)) rfl rfl dX1_won_22 eV4 (fun H locs I => ?_)
  refine lv_aload_n hx hb dX1_won_25 rfl (lv_at hl 0 rfl) ?_
  refine w6_get F I xo_ob rfl in_X1 5 (by decide) q162 rfl rfl dX1_won_26 ?_
  refine lv_iload_n hx hb dX1_won_29 rfl (lv_at hl 1 rfl) ?_
  refine lv_icmp_ne (tgt := 46) hx hb dX1_won_30 (by decide) (fun c => ?_) (fun c => ?_)
  · have hf := if_n c hf
    refine lv_aload_n hx hb dX1_won_46 rfl (lv_at hl 0 rfl) ?_
    refine lv_iconst (v := (0 : Int32)) hx hb dX1_won_47 (by decide) ?_
    obtain ⟨V5, eV5, hf⟩ := lt_e hf
    refine w6_put xsh_lc F I xo_ob rfl in_X1 tyX1 tyX1_ok nmX1 7 (by decide) (xo_nf 7 (by decide)) q164 rfl rfl (tyX1_ok 7 (by decide)) rfl rfl dX1_won_48 eV5 (fun H locs I => ?_)
    refine lv_aload_n hx hb dX1_won_51 rfl (lv_at hl 0 rfl) ?_
    refine lv_iload_n hx hb dX1_won_52 rfl (lv_at hl 1 rfl) ?_
    obtain ⟨V6, eV6, hf⟩ := lt_e hf
    refine w6_put xsh_lc F I xo_ob rfl in_X1 tyX1 tyX1_ok nmX1 5 (by decide) (xo_nf 5 (by decide)) q162 rfl rfl (tyX1_ok 5 (by decide)) rfl rfl dX1_won_53 eV6 (fun H locs I => ?_)
    refine lv_aload_n hx hb dX1_won_56 rfl (lv_at hl 0 rfl) ?_
    refine w6_get F I xo_ob rfl in_X1 0 (by decide) q157 rfl rfl dX1_won_57 ?_
    refine lv_iload_n hx hb dX1_won_60 rfl (lv_at hl 1 rfl) ?_
    obtain ⟨g7, hf⟩ := gd_e hf
    refine w6_aald (j := p1.toNatClampNeg) F I x_sides rfl rfl g7 rfl dX1_won_61 ?_
    have s8 : isSide (3 + 9 * p1.toNatClampNeg) := isSide_s (ix_l g7 (rfl : _ = p1.toNatClampNeg))
    obtain ⟨V9, h10, hf⟩ := bn_e hf
    refine xz_Vv F I (ctd_goesRound l D g ad (3 + 9 * p1.toNatClampNeg) V6 V9 h10 s8) (lw_V q298 q299 q300 q48 q301) hdX2_goesRound rfl (Nat.le_of_ble_eq_true rfl) (Nat.le_of_ble_eq_true rfl) (w6_recv F I (so_ob s8) rfl) rfl hl.1 [] rfl (Nat.le_of_ble_eq_true rfl) dX1_won_62 ⟨Nat.le_of_ble_eq_true rfl, Nat.le_of_ble_eq_true rfl⟩ (fun H locs I => ?_)
    exact hJ65 V9 _ _ ls hf I (lv_sub hl [0] rfl)
  · have hf := if_p c hf
    refine lv_aload_n hx hb dX1_won_33 rfl (lv_at hl 0 rfl) ?_
    refine lv_dup hx hb dX1_won_34 rfl ?_
    refine w6_get F I xo_ob rfl in_X1 7 (by decide) q164 rfl rfl dX1_won_35 ?_
    refine lv_iconst (v := (1 : Int32)) hx hb dX1_won_38 (by decide) ?_
    refine lv_iadd hx hb dX1_won_39 ?_
    obtain ⟨V14, eV14, hf⟩ := lt_e hf
    refine w6_put xsh_lc F I xo_ob rfl in_X1 tyX1 tyX1_ok nmX1 7 (by decide) (xo_nf 7 (by decide)) q164 rfl rfl (tyX1_ok 7 (by decide)) rfl rfl dX1_won_40 eV14 (fun H locs I => ?_)
    refine lv_goto (tgt := 65) hx hb dX1_won_43 (by decide) ?_
    exact hJ65 V14 _ _ ls hf I (lv_sub hl [0] rfl)
def x_rally_j49 (p1 : Int32) (V : Mm)   : Option (Int32 × Mm) :=
  bi_ (x_won V p1) fun r3 V1 => some (r3, V1)
def x_rally (V : Mm) (p1 : Int32) : Option (Int32 × Mm) :=
  if (px_isTeam p1) = (0 : Int32) then (some ((-1 : Int32), V)) else (if (V.1 0 10) = (0 : Int32) then (some ((-1 : Int32), V)) else (if (V.1 0 5) = p1 then (gd_ (ix_ p1 2) (gd_ (ix_ p1 2) (lt_ ((V.1 (3 + 9 * p1.toNatClampNeg + 1) 0)) fun v8 => gd_ (ix_ v8 12) (gd_ (ix_ v8 12) (lt_ (mset V (3 + 9 * p1.toNatClampNeg + 4) v8.toNatClampNeg ((V.1 (3 + 9 * p1.toNatClampNeg + 4) v8.toNatClampNeg) + (1 : Int32))) fun V11 => x_rally_j49 p1 V11))))) else (x_rally_j49 p1 V)))
theorem hdX1_rally : w6_hd yX1_rally 1 := by decide +kernel
abbrev rmX1_rally : Room := { frames := 3, cells := 0, slots := 0, locals := 68 }
set_option maxHeartbeats 4000000 in
set_option maxRecDepth 100000 in
theorem ctx_rally (l : Launch) (D : va_G) (g : Nat → ClassId) (ad : Nat → Nat) (V : Mm) (p1 : Int32) (r : Int32) (V' : Mm) (hf : x_rally V p1 = some (r, V'))  : CTi l D g yX1_rally cX1_rally 2 .int rmX1_rally [.ref (ad 0), .int p1] (xw g ad V) (xw g ad V') r := by
  intro sz
  refine w6_starti RX1 (by decide) (Nat.le_of_ble_eq_true rfl) rfl ?_
  intro p e s m below meth c A ls Q hx hb hown hts F I hl hret
  have hl : lv_has ls 2 [(0, .ref (ad 0)), (1, .int p1)] := hl
  have hJ49 : ∀ (V : Mm)  (H : Heap) (locs : List Loc) (ls : Array Slot), x_rally_j49 p1 V = some (r, V') → w6_I D (xw g ad V ++ []) A s H locs → lv_has ls 2 [(0, .ref (ad 0)), (1, .int p1)] → W p l e rmX1_rally s m ([.ref (ad 0), .int p1] : List Value).toArray below meth c H locs 0 0 Q (F0 m 49 ls []) := by
    intro V H locs ls hf I hl
    unfold x_rally_j49 at hf
    refine lv_aload_n hx hb dX1_rally_49 rfl (lv_at hl 0 rfl) ?_
    refine lv_iload_n hx hb dX1_rally_50 rfl (lv_at hl 1 rfl) ?_
    obtain ⟨r3, V1, h2, hf⟩ := bi_e hf
    refine xz_Vi F I (ctx_won l D g ad V p1 r3 V1 h2 ) (lw_V q294 q296 qs1 q47 q297) hdX1_won rfl (Nat.le_of_ble_eq_true rfl) (Nat.le_of_ble_eq_true rfl) (w6_recv F I xo_ob rfl) rfl hl.1 [] rfl (Nat.le_of_ble_eq_true rfl) dX1_rally_51 ⟨Nat.le_of_ble_eq_true rfl, Nat.le_of_ble_eq_true rfl⟩ (fun H locs I => ?_)
    exact hret _ _ _ _ _ dX1_rally_54 (w6_mv (so_e hf).2 I) (so_e hf).1 rfl
  unfold x_rally at hf
  refine lv_iload_n hx hb dX1_rally_0 rfl (lv_at hl 1 rfl) ?_
  refine xz_Pi F I (ctpx_isTeam l D g p1 _ rfl) (lw_S q237 q238 q47 q239) hdX1_isTeam (Nat.le_of_ble_eq_true rfl) (Nat.le_of_ble_eq_true rfl) rfl hl.1 [] rfl (Nat.le_of_ble_eq_true rfl) dX1_rally_1 ⟨Nat.le_of_ble_eq_true rfl, Nat.le_of_ble_eq_true rfl⟩ (fun H locs I => ?_)
  refine lv_if_eq (tgt := 14) hx hb dX1_rally_4 (by decide) (fun c => ?_) (fun c => ?_)
  · have hf := if_p c hf
    refine lv_iconst (v := (-1 : Int32)) hx hb dX1_rally_14 (by decide) ?_
    exact hret _ _ _ _ _ dX1_rally_15 (w6_mv (so_e hf).2 I) (so_e hf).1 rfl
  · have hf := if_n c hf
    refine lv_aload_n hx hb dX1_rally_7 rfl (lv_at hl 0 rfl) ?_
    refine w6_get F I xo_ob rfl in_X1 10 (by decide) q167 rfl rfl dX1_rally_8 ?_
    refine lv_if_ne (tgt := 16) hx hb dX1_rally_11 (by decide) (fun c => ?_) (fun c => ?_)
    · have hf := if_n c hf
      refine lv_aload_n hx hb dX1_rally_16 rfl (lv_at hl 0 rfl) ?_
      refine w6_get F I xo_ob rfl in_X1 5 (by decide) q162 rfl rfl dX1_rally_17 ?_
      refine lv_iload_n hx hb dX1_rally_20 rfl (lv_at hl 1 rfl) ?_
      refine lv_icmp_ne (tgt := 49) hx hb dX1_rally_21 (by decide) (fun c => ?_) (fun c => ?_)
      · have hf := if_n c hf
        exact hJ49 V _ _ ls hf I (lv_sub hl [0, 1] rfl)
      · have hf := if_p c hf
        refine lv_aload_n hx hb dX1_rally_24 rfl (lv_at hl 0 rfl) ?_
        refine w6_get F I xo_ob rfl in_X1 0 (by decide) q157 rfl rfl dX1_rally_25 ?_
        refine lv_iload_n hx hb dX1_rally_28 rfl (lv_at hl 1 rfl) ?_
        obtain ⟨g4, hf⟩ := gd_e hf
        refine w6_aald (j := p1.toNatClampNeg) F I x_sides rfl rfl g4 rfl dX1_rally_29 ?_
        have s5 : isSide (3 + 9 * p1.toNatClampNeg) := isSide_s (ix_l g4 (rfl : _ = p1.toNatClampNeg))
        refine w6_getN F I (so_ob s5) rfl in_X2 3 (by decide) (List.mem_of_getElem? (i := 2) rfl) rfl rfl dX1_rally_30 ?_
        refine lv_aload_n hx hb dX1_rally_33 rfl (lv_at hl 0 rfl) ?_
        refine w6_get F I xo_ob rfl in_X1 0 (by decide) q157 rfl rfl dX1_rally_34 ?_
        refine lv_iload_n hx hb dX1_rally_37 rfl (lv_at hl 1 rfl) ?_
        obtain ⟨g6, hf⟩ := gd_e hf
        refine w6_aald (j := p1.toNatClampNeg) F I x_sides rfl rfl g6 rfl dX1_rally_38 ?_
        have s7 : isSide (3 + 9 * p1.toNatClampNeg) := isSide_s (ix_l g6 (rfl : _ = p1.toNatClampNeg))
        refine w6_getN F I (so_ob s7) rfl in_X2 0 (by decide) (List.mem_of_getElem? (i := 0) rfl) rfl rfl dX1_rally_39 ?_
        refine lv_iconst (v := (0 : Int32)) hx hb dX1_rally_42 (by decide) ?_
        refine w6_iald (j := 0) F I (s_ar s7 1 6 (by decide) rfl) (show ix_ (0 : Int32) 6 by decide) rfl dX1_rally_43 ?_
        obtain ⟨v8, ev8, hf⟩ := lt_e hf
        refine w6_nmi ev8 ?_
        refine lv_dup2_11 hx hb dX1_rally_44 rfl rfl ?_
        obtain ⟨g9, hf⟩ := gd_e hf
        refine w6_iald (j := v8.toNatClampNeg) F I (s_ar s5 4 12 (by decide) rfl) g9 rfl dX1_rally_45 ?_
        refine lv_iconst (v := (1 : Int32)) hx hb dX1_rally_46 (by decide) ?_
        refine lv_iadd hx hb dX1_rally_47 ?_
        obtain ⟨g10, hf⟩ := gd_e hf
        obtain ⟨V11, eV11, hf⟩ := lt_e hf
        refine w6_iast (j := v8.toNatClampNeg) xsh_lc F I (s_ar s5 4 12 (by decide) rfl) g10 rfl dX1_rally_48 eV11 (fun H locs I => ?_)
        exact hJ49 V11 _ _ ls hf I (lv_sub hl [0, 1] rfl)
    · have hf := if_p c hf
      refine lv_iconst (v := (-1 : Int32)) hx hb dX1_rally_14 (by decide) ?_
      exact hret _ _ _ _ _ dX1_rally_15 (w6_mv (so_e hf).2 I) (so_e hf).1 rfl
def x_may (V : Mm) (p1 : Int32) (p2 : Int32) (p3 : Int32) : Option (Int32 × Mm) :=
  if (px_isTeam p1) = (0 : Int32) then (some ((-1 : Int32), V)) else (gd_ (ix_ p1 2) (if (V.1 0 10) = (0 : Int32) then (some ((1 : Int32), V)) else (if (px_isPlayer p2) = (0 : Int32) then (some ((2 : Int32), V)) else (if (px_isPlayer p3) = (0 : Int32) then (some ((2 : Int32), V)) else (if p2 = p3 then (some ((2 : Int32), V)) else (bi_ (d_placeOf (3 + 9 * p1.toNatClampNeg) V p2) fun r5 V3 => if r5 < (0 : Int32) then (some ((3 : Int32), V3)) else (if p2 = (V3.1 (3 + 9 * p1.toNatClampNeg) 13) then (some ((3 : Int32), V3)) else (bi_ (d_placeOf (3 + 9 * p1.toNatClampNeg) V3 p3) fun r8 V6 => if (0 : Int32) ≤ r8 then (some ((4 : Int32), V6)) else (if p3 = (V6.1 (3 + 9 * p1.toNatClampNeg) 13) then (some ((4 : Int32), V6)) else (if p3 = (V6.1 (3 + 9 * p1.toNatClampNeg) 14) then (some ((4 : Int32), V6)) else (if (V6.1 (3 + 9 * p1.toNatClampNeg) 10) < (V6.1 66 4) then (bi_ (d_mayPair (3 + 9 * p1.toNatClampNeg) V6 p2 p3) fun r11 V9 => if r11 = (0 : Int32) then (some ((6 : Int32), V9)) else (some ((0 : Int32), V9))) else (some ((5 : Int32), V6)))))))))))))
theorem hdX1_may : w6_hd yX1_may 3 := by decide +kernel
abbrev rmX1_may : Room := { frames := 2, cells := 0, slots := 0, locals := 45 }
set_option maxHeartbeats 4000000 in
set_option maxRecDepth 100000 in
theorem ctx_may (l : Launch) (D : va_G) (g : Nat → ClassId) (ad : Nat → Nat) (V : Mm) (p1 : Int32) (p2 : Int32) (p3 : Int32) (r : Int32) (V' : Mm) (hf : x_may V p1 p2 p3 = some (r, V'))  : CTi l D g yX1_may cX1_may 5 .int rmX1_may [.ref (ad 0), .int p1, .int p2, .int p3] (xw g ad V) (xw g ad V') r := by
  intro sz
  refine w6_starti RX1 (by decide) (Nat.le_of_ble_eq_true rfl) rfl ?_
  intro p e s m below meth c A ls Q hx hb hown hts F I hl hret
  have hl : lv_has ls 5 [(0, .ref (ad 0)), (1, .int p1), (2, .int p2), (3, .int p3)] := hl
  unfold x_may at hf
  refine lv_iload_n hx hb dX1_may_0 rfl (lv_at hl 1 rfl) ?_
  refine xz_Pi F I (ctpx_isTeam l D g p1 _ rfl) (lw_S q237 q238 q47 q239) hdX1_isTeam (Nat.le_of_ble_eq_true rfl) (Nat.le_of_ble_eq_true rfl) rfl hl.1 [] rfl (Nat.le_of_ble_eq_true rfl) dX1_may_1 ⟨Nat.le_of_ble_eq_true rfl, Nat.le_of_ble_eq_true rfl⟩ (fun H locs I => ?_)
  refine lv_if_ne (tgt := 9) hx hb dX1_may_4 (by decide) (fun c => ?_) (fun c => ?_)
  · have hf := if_n c hf
    refine lv_aload_n hx hb dX1_may_9 rfl (lv_at hl 0 rfl) ?_
    refine w6_get F I xo_ob rfl in_X1 0 (by decide) q157 rfl rfl dX1_may_10 ?_
    refine lv_iload_n hx hb dX1_may_13 rfl (lv_at hl 1 rfl) ?_
    obtain ⟨g1, hf⟩ := gd_e hf
    refine w6_aald (j := p1.toNatClampNeg) F I x_sides rfl rfl g1 rfl dX1_may_14 ?_
    have s2 : isSide (3 + 9 * p1.toNatClampNeg) := isSide_s (ix_l g1 (rfl : _ = p1.toNatClampNeg))
    refine lv_astore (lv' := [(4, .ref (ad (3 + 9 * p1.toNatClampNeg))), (0, .ref (ad 0)), (1, .int p1), (2, .int p2), (3, .int p3)]) hx hb dX1_may_15 hl (by decide) rfl (fun ls hl => ?_)
    refine lv_aload_n hx hb dX1_may_17 rfl (lv_at hl 1 rfl) ?_
    refine w6_get F I xo_ob rfl in_X1 10 (by decide) q167 rfl rfl dX1_may_18 ?_
    refine lv_if_ne (tgt := 26) hx hb dX1_may_21 (by decide) (fun c => ?_) (fun c => ?_)
    · have hf := if_n c hf
      refine lv_iload_n hx hb dX1_may_26 rfl (lv_at hl 3 rfl) ?_
      refine xz_Pi F I (ctpx_isPlayer l D g p2 _ rfl) (lw_S q240 q241 q47 q242) hdX1_isPlayer (Nat.le_of_ble_eq_true rfl) (Nat.le_of_ble_eq_true rfl) rfl hl.1 [] rfl (Nat.le_of_ble_eq_true rfl) dX1_may_27 ⟨Nat.le_of_ble_eq_true rfl, Nat.le_of_ble_eq_true rfl⟩ (fun H locs I => ?_)
      refine lv_if_eq (tgt := 45) hx hb dX1_may_30 (by decide) (fun c => ?_) (fun c => ?_)
      · have hf := if_p c hf
        refine lv_iconst (v := (2 : Int32)) hx hb dX1_may_45 (by decide) ?_
        exact hret _ _ _ _ _ dX1_may_46 (w6_mv (so_e hf).2 I) (so_e hf).1 rfl
      · have hf := if_n c hf
        refine lv_iload_n hx hb dX1_may_33 rfl (lv_at hl 4 rfl) ?_
        refine xz_Pi F I (ctpx_isPlayer l D g p3 _ rfl) (lw_S q240 q241 q47 q242) hdX1_isPlayer (Nat.le_of_ble_eq_true rfl) (Nat.le_of_ble_eq_true rfl) rfl hl.1 [] rfl (Nat.le_of_ble_eq_true rfl) dX1_may_34 ⟨Nat.le_of_ble_eq_true rfl, Nat.le_of_ble_eq_true rfl⟩ (fun H locs I => ?_)
        refine lv_if_eq (tgt := 45) hx hb dX1_may_37 (by decide) (fun c => ?_) (fun c => ?_)
        · have hf := if_p c hf
          refine lv_iconst (v := (2 : Int32)) hx hb dX1_may_45 (by decide) ?_
          exact hret _ _ _ _ _ dX1_may_46 (w6_mv (so_e hf).2 I) (so_e hf).1 rfl
        · have hf := if_n c hf
          refine lv_iload_n hx hb dX1_may_40 rfl (lv_at hl 3 rfl) ?_
          refine lv_iload_n hx hb dX1_may_41 rfl (lv_at hl 4 rfl) ?_
          refine lv_icmp_ne (tgt := 47) hx hb dX1_may_42 (by decide) (fun c => ?_) (fun c => ?_)
          · have hf := if_n c hf
            refine lv_aload hx hb dX1_may_47 (lv_at hl 0 rfl) ?_
            refine lv_iload_n hx hb dX1_may_49 rfl (lv_at hl 3 rfl) ?_
            obtain ⟨r5, V3, h4, hf⟩ := bi_e hf
            refine xz_Vi F I (ctd_placeOf l D g ad (3 + 9 * p1.toNatClampNeg) V p2 r5 V3 h4 s2) (lw_V q319 q320 q321 q48 q322) hdX2_placeOf rfl (Nat.le_of_ble_eq_true rfl) (Nat.le_of_ble_eq_true rfl) (w6_recv F I (so_ob s2) rfl) rfl hl.1 [] rfl (Nat.le_of_ble_eq_true rfl) dX1_may_50 ⟨Nat.le_of_ble_eq_true rfl, Nat.le_of_ble_eq_true rfl⟩ (fun H locs I => ?_)
            refine lv_if_lt (tgt := 65) hx hb dX1_may_53 (by decide) (fun c => ?_) (fun c => ?_)
            · have hf := if_p c hf
              refine lv_iconst (v := (3 : Int32)) hx hb dX1_may_65 (by decide) ?_
              exact hret _ _ _ _ _ dX1_may_66 (w6_mv (so_e hf).2 I) (so_e hf).1 rfl
            · have hf := if_n c hf
              refine lv_iload_n hx hb dX1_may_56 rfl (lv_at hl 3 rfl) ?_
              refine lv_aload hx hb dX1_may_57 (lv_at hl 0 rfl) ?_
              refine w6_getN F I (so_ob s2) rfl in_X2 13 (by decide) (List.mem_of_getElem? (i := 10) rfl) rfl rfl dX1_may_59 ?_
              refine lv_icmp_ne (tgt := 67) hx hb dX1_may_62 (by decide) (fun c => ?_) (fun c => ?_)
              · have hf := if_n c hf
                refine lv_aload hx hb dX1_may_67 (lv_at hl 0 rfl) ?_
                refine lv_iload_n hx hb dX1_may_69 rfl (lv_at hl 4 rfl) ?_
                obtain ⟨r8, V6, h7, hf⟩ := bi_e hf
                refine xz_Vi F I (ctd_placeOf l D g ad (3 + 9 * p1.toNatClampNeg) V3 p3 r8 V6 h7 s2) (lw_V q319 q320 q321 q48 q322) hdX2_placeOf rfl (Nat.le_of_ble_eq_true rfl) (Nat.le_of_ble_eq_true rfl) (w6_recv F I (so_ob s2) rfl) rfl hl.1 [] rfl (Nat.le_of_ble_eq_true rfl) dX1_may_70 ⟨Nat.le_of_ble_eq_true rfl, Nat.le_of_ble_eq_true rfl⟩ (fun H locs I => ?_)
                refine lv_if_ge (tgt := 94) hx hb dX1_may_73 (by decide) (fun c => ?_) (fun c => ?_)
                · have hf := if_p c hf
                  refine lv_iconst (v := (4 : Int32)) hx hb dX1_may_94 (by decide) ?_
                  exact hret _ _ _ _ _ dX1_may_95 (w6_mv (so_e hf).2 I) (so_e hf).1 rfl
                · have hf := if_n c hf
                  refine lv_iload_n hx hb dX1_may_76 rfl (lv_at hl 4 rfl) ?_
                  refine lv_aload hx hb dX1_may_77 (lv_at hl 0 rfl) ?_
                  refine w6_getN F I (so_ob s2) rfl in_X2 13 (by decide) (List.mem_of_getElem? (i := 10) rfl) rfl rfl dX1_may_79 ?_
                  refine lv_icmp_eq (tgt := 94) hx hb dX1_may_82 (by decide) (fun c => ?_) (fun c => ?_)
                  · have hf := if_p c hf
                    refine lv_iconst (v := (4 : Int32)) hx hb dX1_may_94 (by decide) ?_
                    exact hret _ _ _ _ _ dX1_may_95 (w6_mv (so_e hf).2 I) (so_e hf).1 rfl
                  · have hf := if_n c hf
                    refine lv_iload_n hx hb dX1_may_85 rfl (lv_at hl 4 rfl) ?_
                    refine lv_aload hx hb dX1_may_86 (lv_at hl 0 rfl) ?_
                    refine w6_getN F I (so_ob s2) rfl in_X2 14 (by decide) (List.mem_of_getElem? (i := 11) rfl) rfl rfl dX1_may_88 ?_
                    refine lv_icmp_ne (tgt := 96) hx hb dX1_may_91 (by decide) (fun c => ?_) (fun c => ?_)
                    · have hf := if_n c hf
                      refine lv_aload hx hb dX1_may_96 (lv_at hl 0 rfl) ?_
                      refine w6_getN F I (so_ob s2) rfl in_X2 10 (by decide) (List.mem_of_getElem? (i := 7) rfl) rfl rfl dX1_may_98 ?_
                      refine lv_aload_n hx hb dX1_may_101 rfl (lv_at hl 1 rfl) ?_
                      refine w6_get F I xo_ob rfl in_X1 3 (by decide) q160 rfl rfl dX1_may_102 ?_
                      refine lv_iconst (v := (4 : Int32)) hx hb dX1_may_105 (by decide) ?_
                      refine w6_iald (j := 4) F I (x_ar 66 6 (by decide) rfl) (show ix_ (4 : Int32) 6 by decide) rfl dX1_may_106 ?_
                      refine lv_icmp_lt (tgt := 112) hx hb dX1_may_107 (by decide) (fun c => ?_) (fun c => ?_)
                      · have hf := if_p c hf
                        refine lv_aload hx hb dX1_may_112 (lv_at hl 0 rfl) ?_
                        refine lv_iload_n hx hb dX1_may_114 rfl (lv_at hl 3 rfl) ?_
                        refine lv_iload_n hx hb dX1_may_115 rfl (lv_at hl 4 rfl) ?_
                        obtain ⟨r11, V9, h10, hf⟩ := bi_e hf
                        refine xz_Vi F I (ctd_mayPair l D g ad (3 + 9 * p1.toNatClampNeg) V6 p2 p3 r11 V9 h10 s2) (lw_V q323 q324 q325 q48 q326) hdX2_mayPair rfl (Nat.le_of_ble_eq_true rfl) (Nat.le_of_ble_eq_true rfl) (w6_recv F I (so_ob s2) rfl) rfl hl.1 [] rfl (Nat.le_of_ble_eq_true rfl) dX1_may_116 ⟨Nat.le_of_ble_eq_true rfl, Nat.le_of_ble_eq_true rfl⟩ (fun H locs I => ?_)
                        refine lv_if_eq (tgt := 126) hx hb dX1_may_119 (by decide) (fun c => ?_) (fun c => ?_)
                        · have hf := if_p c hf
                          refine lv_bipush (v := (6 : Int32)) hx hb dX1_may_126 (by decide) ?_
                          exact hret _ _ _ _ _ dX1_may_128 (w6_mv (so_e hf).2 I) (so_e hf).1 rfl
                        · have hf := if_n c hf
                          refine lv_iconst (v := (0 : Int32)) hx hb dX1_may_122 (by decide) ?_
                          refine lv_goto (tgt := 128) hx hb dX1_may_123 (by decide) ?_
                          exact hret _ _ _ _ _ dX1_may_128 (w6_mv (so_e hf).2 I) (so_e hf).1 rfl
                      · have hf := if_n c hf
                        refine lv_iconst (v := (5 : Int32)) hx hb dX1_may_110 (by decide) ?_
                        exact hret _ _ _ _ _ dX1_may_111 (w6_mv (so_e hf).2 I) (so_e hf).1 rfl
                    · have hf := if_p c hf
                      refine lv_iconst (v := (4 : Int32)) hx hb dX1_may_94 (by decide) ?_
                      exact hret _ _ _ _ _ dX1_may_95 (w6_mv (so_e hf).2 I) (so_e hf).1 rfl
              · have hf := if_p c hf
                refine lv_iconst (v := (3 : Int32)) hx hb dX1_may_65 (by decide) ?_
                exact hret _ _ _ _ _ dX1_may_66 (w6_mv (so_e hf).2 I) (so_e hf).1 rfl
          · have hf := if_p c hf
            refine lv_iconst (v := (2 : Int32)) hx hb dX1_may_45 (by decide) ?_
            exact hret _ _ _ _ _ dX1_may_46 (w6_mv (so_e hf).2 I) (so_e hf).1 rfl
    · have hf := if_p c hf
      refine lv_iconst (v := (1 : Int32)) hx hb dX1_may_24 (by decide) ?_
      exact hret _ _ _ _ _ dX1_may_25 (w6_mv (so_e hf).2 I) (so_e hf).1 rfl
  · have hf := if_p c hf
    refine lv_iconst (v := (-1 : Int32)) hx hb dX1_may_7 (by decide) ?_
    exact hret _ _ _ _ _ dX1_may_8 (w6_mv (so_e hf).2 I) (so_e hf).1 rfl
def x_change (V : Mm) (p1 : Int32) (p2 : Int32) (p3 : Int32) : Option (Int32 × Mm) :=
  bi_ (x_may V p1 p2 p3) fun r3 V1 => if r3 = (0 : Int32) then (gd_ (ix_ p1 2) (bi_ (d_puts (3 + 9 * p1.toNatClampNeg) V1 p2 p3) fun r8 V6 => some (r8, V6))) else (some ((-1 : Int32), V1))
theorem hdX1_change : w6_hd yX1_change 3 := by decide +kernel
abbrev rmX1_change : Room := { frames := 3, cells := 0, slots := 0, locals := 69 }
set_option maxHeartbeats 4000000 in
set_option maxRecDepth 100000 in
theorem ctx_change (l : Launch) (D : va_G) (g : Nat → ClassId) (ad : Nat → Nat) (V : Mm) (p1 : Int32) (p2 : Int32) (p3 : Int32) (r : Int32) (V' : Mm) (hf : x_change V p1 p2 p3 = some (r, V'))  : CTi l D g yX1_change cX1_change 4 .int rmX1_change [.ref (ad 0), .int p1, .int p2, .int p3] (xw g ad V) (xw g ad V') r := by
  intro sz
  refine w6_starti RX1 (by decide) (Nat.le_of_ble_eq_true rfl) rfl ?_
  intro p e s m below meth c A ls Q hx hb hown hts F I hl hret
  have hl : lv_has ls 4 [(0, .ref (ad 0)), (1, .int p1), (2, .int p2), (3, .int p3)] := hl
  unfold x_change at hf
  refine lv_aload_n hx hb dX1_change_0 rfl (lv_at hl 0 rfl) ?_
  refine lv_iload_n hx hb dX1_change_1 rfl (lv_at hl 1 rfl) ?_
  refine lv_iload_n hx hb dX1_change_2 rfl (lv_at hl 2 rfl) ?_
  refine lv_iload_n hx hb dX1_change_3 rfl (lv_at hl 3 rfl) ?_
  obtain ⟨r3, V1, h2, hf⟩ := bi_e hf
  refine xz_Vi F I (ctx_may l D g ad V p1 p2 p3 r3 V1 h2 ) (lw_V q331 q316 q317 q47 q318) hdX1_may rfl (Nat.le_of_ble_eq_true rfl) (Nat.le_of_ble_eq_true rfl) (w6_recv F I xo_ob rfl) rfl hl.1 [] rfl (Nat.le_of_ble_eq_true rfl) dX1_change_4 ⟨Nat.le_of_ble_eq_true rfl, Nat.le_of_ble_eq_true rfl⟩ (fun H locs I => ?_)
  refine lv_if_ne (tgt := 24) hx hb dX1_change_7 (by decide) (fun c => ?_) (fun c => ?_)
  · have hf := if_n c hf
    refine lv_iconst (v := (-1 : Int32)) hx hb dX1_change_24 (by decide) ?_
    exact hret _ _ _ _ _ dX1_change_25 (w6_mv (so_e hf).2 I) (so_e hf).1 rfl
  · have hf := if_p c hf
    refine lv_aload_n hx hb dX1_change_10 rfl (lv_at hl 0 rfl) ?_
    refine w6_get F I xo_ob rfl in_X1 0 (by decide) q157 rfl rfl dX1_change_11 ?_
    refine lv_iload_n hx hb dX1_change_14 rfl (lv_at hl 1 rfl) ?_
    obtain ⟨g4, hf⟩ := gd_e hf
    refine w6_aald (j := p1.toNatClampNeg) F I x_sides rfl rfl g4 rfl dX1_change_15 ?_
    have s5 : isSide (3 + 9 * p1.toNatClampNeg) := isSide_s (ix_l g4 (rfl : _ = p1.toNatClampNeg))
    refine lv_iload_n hx hb dX1_change_16 rfl (lv_at hl 2 rfl) ?_
    refine lv_iload_n hx hb dX1_change_17 rfl (lv_at hl 3 rfl) ?_
    obtain ⟨r8, V6, h7, hf⟩ := bi_e hf
    refine xz_Vi F I (ctd_puts l D g ad (3 + 9 * p1.toNatClampNeg) V1 p2 p3 r8 V6 h7 s5) (lw_V q332 q333 q334 q48 q335) hdX2_puts rfl (Nat.le_of_ble_eq_true rfl) (Nat.le_of_ble_eq_true rfl) (w6_recv F I (so_ob s5) rfl) rfl hl.1 [] rfl (Nat.le_of_ble_eq_true rfl) dX1_change_18 ⟨Nat.le_of_ble_eq_true rfl, Nat.le_of_ble_eq_true rfl⟩ (fun H locs I => ?_)
    refine lv_goto (tgt := 25) hx hb dX1_change_21 (by decide) ?_
    exact hret _ _ _ _ _ dX1_change_25 (w6_mv (so_e hf).2 I) (so_e hf).1 rfl
def x_free_j120 (p1 : Int32) (p2 : Int32) (V : Mm)  (s0 : Int32) : Option (Int32 × Mm) :=
  if (4 : Int32) ≤ s0 then (gd_ (ix_ s0 6) (lt_ (mset V (3 + 9 * p1.toNatClampNeg + 1) s0.toNatClampNeg (V.1 (3 + 9 * p1.toNatClampNeg) 13)) fun V8 => lt_ (mset V8 (3 + 9 * p1.toNatClampNeg) 14 p2) fun V9 => lt_ (mset V9 (3 + 9 * p1.toNatClampNeg) 15 (V9.1 0 6)) fun V10 => some (s0, V10))) else (some ((-1 : Int32), V))
def x_free_j119 (p1 : Int32) (p2 : Int32) (V : Mm)   : Option (Int32 × Mm) :=
  x_free_j120 p1 p2 V (-1 : Int32)
def x_free (V : Mm) (p1 : Int32) (p2 : Int32) : Option (Int32 × Mm) :=
  if (px_isTeam p1) = (0 : Int32) then (some ((-1 : Int32), V)) else (if (V.1 0 10) = (0 : Int32) then (some ((-1 : Int32), V)) else (gd_ (ix_ p1 2) (if (V.1 (3 + 9 * p1.toNatClampNeg) 13) = (-1 : Int32) then (some ((-1 : Int32), V)) else (gd_ (ix_ p1 2) (if (V.1 (3 + 9 * p1.toNatClampNeg) 15) = (V.1 0 6) then (some ((-1 : Int32), V)) else (gd_ (ix_ p1 2) (if p2 = (-1 : Int32) then (if (V.1 (3 + 9 * p1.toNatClampNeg) 14) = (-1 : Int32) then (some ((-1 : Int32), V)) else (bi_ (d_placeOf (3 + 9 * p1.toNatClampNeg) V (V.1 (3 + 9 * p1.toNatClampNeg) 13)) fun r16 V14 => gd_ (ix_ r16 6) (lt_ (mset V14 (3 + 9 * p1.toNatClampNeg + 1) r16.toNatClampNeg (V14.1 (3 + 9 * p1.toNatClampNeg) 14)) fun V18 => lt_ (mset V18 (3 + 9 * p1.toNatClampNeg) 14 (-1 : Int32)) fun V19 => lt_ (mset V19 (3 + 9 * p1.toNatClampNeg) 15 (V19.1 0 6)) fun V20 => some (r16, V20)))) else (if (px_isPlayer p2) = (0 : Int32) then (x_free_j119 p1 p2 V) else (if (V.1 (3 + 9 * p1.toNatClampNeg) 14) = (-1 : Int32) then (bi_ (d_placeOf (3 + 9 * p1.toNatClampNeg) V p2) fun r13 V11 => x_free_j120 p1 p2 V11 r13) else (x_free_j119 p1 p2 V))))))))))
theorem hdX1_free : w6_hd yX1_free 2 := by decide +kernel
abbrev rmX1_free : Room := { frames := 2, cells := 0, slots := 0, locals := 45 }
set_option maxHeartbeats 4000000 in
set_option maxRecDepth 100000 in
theorem ctx_free (l : Launch) (D : va_G) (g : Nat → ClassId) (ad : Nat → Nat) (V : Mm) (p1 : Int32) (p2 : Int32) (r : Int32) (V' : Mm) (hf : x_free V p1 p2 = some (r, V'))  : CTi l D g yX1_free cX1_free 5 .int rmX1_free [.ref (ad 0), .int p1, .int p2] (xw g ad V) (xw g ad V') r := by
  intro sz
  refine w6_starti RX1 (by decide) (Nat.le_of_ble_eq_true rfl) rfl ?_
  intro p e s m below meth c A ls Q hx hb hown hts F I hl hret
  have hl : lv_has ls 5 [(0, .ref (ad 0)), (1, .int p1), (2, .int p2)] := hl
  have hJ120 : ∀ (V : Mm) (s0 : Int32) (H : Heap) (locs : List Loc) (ls : Array Slot) (hs0 : isSide (3 + 9 * p1.toNatClampNeg)), x_free_j120 p1 p2 V s0 = some (r, V') → w6_I D (xw g ad V ++ []) A s H locs → lv_has ls 5 [(0, .ref (ad 0)), (2, .int p2), (3, .ref (ad (3 + 9 * p1.toNatClampNeg)))] → W p l e rmX1_free s m ([.ref (ad 0), .int p1, .int p2] : List Value).toArray below meth c H locs 0 0 Q (F0 m 120 ls [.int s0]) := by
    intro V s0 H locs ls hs0 hf I hl
    unfold x_free_j120 at hf
    refine lv_istore (lv' := [(4, .int s0), (0, .ref (ad 0)), (2, .int p2), (3, .ref (ad (3 + 9 * p1.toNatClampNeg)))]) hx hb dX1_free_120 hl (by decide) rfl (fun ls hl => ?_)
    refine lv_iload hx hb dX1_free_122 (lv_at hl 0 rfl) ?_
    refine lv_iconst (v := (4 : Int32)) hx hb dX1_free_124 (by decide) ?_
    refine lv_icmp_ge (tgt := 130) hx hb dX1_free_125 (by decide) (fun c => ?_) (fun c => ?_)
    · have hf := if_p c hf
      refine lv_aload_n hx hb dX1_free_130 rfl (lv_at hl 3 rfl) ?_
      refine w6_getN F I (so_ob hs0) rfl in_X2 0 (by decide) (List.mem_of_getElem? (i := 0) rfl) rfl rfl dX1_free_131 ?_
      refine lv_iload hx hb dX1_free_134 (lv_at hl 0 rfl) ?_
      refine lv_aload_n hx hb dX1_free_136 rfl (lv_at hl 3 rfl) ?_
      refine w6_getN F I (so_ob hs0) rfl in_X2 13 (by decide) (List.mem_of_getElem? (i := 10) rfl) rfl rfl dX1_free_137 ?_
      obtain ⟨g7, hf⟩ := gd_e hf
      obtain ⟨V8, eV8, hf⟩ := lt_e hf
      refine w6_iast (j := s0.toNatClampNeg) xsh_lc F I (s_ar hs0 1 6 (by decide) rfl) g7 rfl dX1_free_140 eV8 (fun H locs I => ?_)
      refine lv_aload_n hx hb dX1_free_141 rfl (lv_at hl 3 rfl) ?_
      refine lv_iload_n hx hb dX1_free_142 rfl (lv_at hl 2 rfl) ?_
      obtain ⟨V9, eV9, hf⟩ := lt_e hf
      refine w6_putN xsh_lc F I (so_ob hs0) rfl in_X2 tyX2 tyX2_ok nmX2 14 (by decide) (so_nf _ 14 (by decide)) (List.mem_of_getElem? (i := 11) rfl) rfl rfl (tyX2_ok 14 (by decide)) rfl rfl dX1_free_143 eV9 (fun H locs I => ?_)
      refine lv_aload_n hx hb dX1_free_146 rfl (lv_at hl 3 rfl) ?_
      refine lv_aload_n hx hb dX1_free_147 rfl (lv_at hl 1 rfl) ?_
      refine w6_get F I xo_ob rfl in_X1 6 (by decide) q163 rfl rfl dX1_free_148 ?_
      obtain ⟨V10, eV10, hf⟩ := lt_e hf
      refine w6_putN xsh_lc F I (so_ob hs0) rfl in_X2 tyX2 tyX2_ok nmX2 15 (by decide) (so_nf _ 15 (by decide)) (List.mem_of_getElem? (i := 12) rfl) rfl rfl (tyX2_ok 15 (by decide)) rfl rfl dX1_free_151 eV10 (fun H locs I => ?_)
      refine lv_iload hx hb dX1_free_154 (lv_at hl 0 rfl) ?_
      exact hret _ _ _ _ _ dX1_free_156 (w6_mv (so_e hf).2 I) (so_e hf).1 rfl
    · have hf := if_n c hf
      refine lv_iconst (v := (-1 : Int32)) hx hb dX1_free_128 (by decide) ?_
      exact hret _ _ _ _ _ dX1_free_129 (w6_mv (so_e hf).2 I) (so_e hf).1 rfl
  have hJ119 : ∀ (V : Mm)  (H : Heap) (locs : List Loc) (ls : Array Slot) (hs0 : isSide (3 + 9 * p1.toNatClampNeg)), x_free_j119 p1 p2 V = some (r, V') → w6_I D (xw g ad V ++ []) A s H locs → lv_has ls 5 [(0, .ref (ad 0)), (2, .int p2), (3, .ref (ad (3 + 9 * p1.toNatClampNeg)))] → W p l e rmX1_free s m ([.ref (ad 0), .int p1, .int p2] : List Value).toArray below meth c H locs 0 0 Q (F0 m 119 ls []) := by
    intro V H locs ls hs0 hf I hl
    unfold x_free_j119 at hf
    refine lv_iconst (v := (-1 : Int32)) hx hb dX1_free_119 (by decide) ?_
    exact hJ120 V (-1 : Int32) _ _ ls hs0 hf I (lv_sub hl [0, 1, 2] rfl)
  unfold x_free at hf
  refine lv_iload_n hx hb dX1_free_0 rfl (lv_at hl 1 rfl) ?_
  refine xz_Pi F I (ctpx_isTeam l D g p1 _ rfl) (lw_S q237 q238 q47 q239) hdX1_isTeam (Nat.le_of_ble_eq_true rfl) (Nat.le_of_ble_eq_true rfl) rfl hl.1 [] rfl (Nat.le_of_ble_eq_true rfl) dX1_free_1 ⟨Nat.le_of_ble_eq_true rfl, Nat.le_of_ble_eq_true rfl⟩ (fun H locs I => ?_)
  refine lv_if_eq (tgt := 43) hx hb dX1_free_4 (by decide) (fun c => ?_) (fun c => ?_)
  · have hf := if_p c hf
    refine lv_iconst (v := (-1 : Int32)) hx hb dX1_free_43 (by decide) ?_
    exact hret _ _ _ _ _ dX1_free_44 (w6_mv (so_e hf).2 I) (so_e hf).1 rfl
  · have hf := if_n c hf
    refine lv_aload_n hx hb dX1_free_7 rfl (lv_at hl 0 rfl) ?_
    refine w6_get F I xo_ob rfl in_X1 10 (by decide) q167 rfl rfl dX1_free_8 ?_
    refine lv_if_eq (tgt := 43) hx hb dX1_free_11 (by decide) (fun c => ?_) (fun c => ?_)
    · have hf := if_p c hf
      refine lv_iconst (v := (-1 : Int32)) hx hb dX1_free_43 (by decide) ?_
      exact hret _ _ _ _ _ dX1_free_44 (w6_mv (so_e hf).2 I) (so_e hf).1 rfl
    · have hf := if_n c hf
      refine lv_aload_n hx hb dX1_free_14 rfl (lv_at hl 0 rfl) ?_
      refine w6_get F I xo_ob rfl in_X1 0 (by decide) q157 rfl rfl dX1_free_15 ?_
      refine lv_iload_n hx hb dX1_free_18 rfl (lv_at hl 1 rfl) ?_
      obtain ⟨g1, hf⟩ := gd_e hf
      refine w6_aald (j := p1.toNatClampNeg) F I x_sides rfl rfl g1 rfl dX1_free_19 ?_
      have s2 : isSide (3 + 9 * p1.toNatClampNeg) := isSide_s (ix_l g1 (rfl : _ = p1.toNatClampNeg))
      refine w6_getN F I (so_ob s2) rfl in_X2 13 (by decide) (List.mem_of_getElem? (i := 10) rfl) rfl rfl dX1_free_20 ?_
      refine lv_iconst (v := (-1 : Int32)) hx hb dX1_free_23 (by decide) ?_
      refine lv_icmp_eq (tgt := 43) hx hb dX1_free_24 (by decide) (fun c => ?_) (fun c => ?_)
      · have hf := if_p c hf
        refine lv_iconst (v := (-1 : Int32)) hx hb dX1_free_43 (by decide) ?_
        exact hret _ _ _ _ _ dX1_free_44 (w6_mv (so_e hf).2 I) (so_e hf).1 rfl
      · have hf := if_n c hf
        refine lv_aload_n hx hb dX1_free_27 rfl (lv_at hl 0 rfl) ?_
        refine w6_get F I xo_ob rfl in_X1 0 (by decide) q157 rfl rfl dX1_free_28 ?_
        refine lv_iload_n hx hb dX1_free_31 rfl (lv_at hl 1 rfl) ?_
        obtain ⟨g3, hf⟩ := gd_e hf
        refine w6_aald (j := p1.toNatClampNeg) F I x_sides rfl rfl g3 rfl dX1_free_32 ?_
        have s4 : isSide (3 + 9 * p1.toNatClampNeg) := isSide_s (ix_l g3 (rfl : _ = p1.toNatClampNeg))
        refine w6_getN F I (so_ob s4) rfl in_X2 15 (by decide) (List.mem_of_getElem? (i := 12) rfl) rfl rfl dX1_free_33 ?_
        refine lv_aload_n hx hb dX1_free_36 rfl (lv_at hl 0 rfl) ?_
        refine w6_get F I xo_ob rfl in_X1 6 (by decide) q163 rfl rfl dX1_free_37 ?_
        refine lv_icmp_ne (tgt := 45) hx hb dX1_free_40 (by decide) (fun c => ?_) (fun c => ?_)
        · have hf := if_n c hf
          refine lv_aload_n hx hb dX1_free_45 rfl (lv_at hl 0 rfl) ?_
          refine w6_get F I xo_ob rfl in_X1 0 (by decide) q157 rfl rfl dX1_free_46 ?_
          refine lv_iload_n hx hb dX1_free_49 rfl (lv_at hl 1 rfl) ?_
          obtain ⟨g5, hf⟩ := gd_e hf
          refine w6_aald (j := p1.toNatClampNeg) F I x_sides rfl rfl g5 rfl dX1_free_50 ?_
          have s6 : isSide (3 + 9 * p1.toNatClampNeg) := isSide_s (ix_l g5 (rfl : _ = p1.toNatClampNeg))
          refine lv_astore_n (lv' := [(3, .ref (ad (3 + 9 * p1.toNatClampNeg))), (0, .ref (ad 0)), (1, .int p1), (2, .int p2)]) hx hb dX1_free_51 rfl hl (by decide) rfl (fun ls hl => ?_)
          refine lv_iload_n hx hb dX1_free_52 rfl (lv_at hl 3 rfl) ?_
          refine lv_iconst (v := (-1 : Int32)) hx hb dX1_free_53 (by decide) ?_
          refine lv_icmp_ne (tgt := 96) hx hb dX1_free_54 (by decide) (fun c => ?_) (fun c => ?_)
          · have hf := if_n c hf
            refine lv_iload_n hx hb dX1_free_96 rfl (lv_at hl 3 rfl) ?_
            refine xz_Pi F I (ctpx_isPlayer l D g p2 _ rfl) (lw_S q240 q241 q47 q242) hdX1_isPlayer (Nat.le_of_ble_eq_true rfl) (Nat.le_of_ble_eq_true rfl) rfl hl.1 [] rfl (Nat.le_of_ble_eq_true rfl) dX1_free_97 ⟨Nat.le_of_ble_eq_true rfl, Nat.le_of_ble_eq_true rfl⟩ (fun H locs I => ?_)
            refine lv_if_eq (tgt := 119) hx hb dX1_free_100 (by decide) (fun c => ?_) (fun c => ?_)
            · have hf := if_p c hf
              exact hJ119 V _ _ ls s6 hf I (lv_sub hl [1, 3, 0] rfl)
            · have hf := if_n c hf
              refine lv_aload_n hx hb dX1_free_103 rfl (lv_at hl 0 rfl) ?_
              refine w6_getN F I (so_ob s6) rfl in_X2 14 (by decide) (List.mem_of_getElem? (i := 11) rfl) rfl rfl dX1_free_104 ?_
              refine lv_iconst (v := (-1 : Int32)) hx hb dX1_free_107 (by decide) ?_
              refine lv_icmp_ne (tgt := 119) hx hb dX1_free_108 (by decide) (fun c => ?_) (fun c => ?_)
              · have hf := if_n c hf
                exact hJ119 V _ _ ls s6 hf I (lv_sub hl [1, 3, 0] rfl)
              · have hf := if_p c hf
                refine lv_aload_n hx hb dX1_free_111 rfl (lv_at hl 0 rfl) ?_
                refine lv_iload_n hx hb dX1_free_112 rfl (lv_at hl 3 rfl) ?_
                obtain ⟨r13, V11, h12, hf⟩ := bi_e hf
                refine xz_Vi F I (ctd_placeOf l D g ad (3 + 9 * p1.toNatClampNeg) V p2 r13 V11 h12 s6) (lw_V q319 q320 q321 q48 q322) hdX2_placeOf rfl (Nat.le_of_ble_eq_true rfl) (Nat.le_of_ble_eq_true rfl) (w6_recv F I (so_ob s6) rfl) rfl hl.1 [] rfl (Nat.le_of_ble_eq_true rfl) dX1_free_113 ⟨Nat.le_of_ble_eq_true rfl, Nat.le_of_ble_eq_true rfl⟩ (fun H locs I => ?_)
                refine lv_goto (tgt := 120) hx hb dX1_free_116 (by decide) ?_
                exact hJ120 V11 r13 _ _ ls s6 hf I (lv_sub hl [1, 3, 0] rfl)
          · have hf := if_p c hf
            refine lv_aload_n hx hb dX1_free_57 rfl (lv_at hl 0 rfl) ?_
            refine w6_getN F I (so_ob s6) rfl in_X2 14 (by decide) (List.mem_of_getElem? (i := 11) rfl) rfl rfl dX1_free_58 ?_
            refine lv_iconst (v := (-1 : Int32)) hx hb dX1_free_61 (by decide) ?_
            refine lv_icmp_ne (tgt := 67) hx hb dX1_free_62 (by decide) (fun c => ?_) (fun c => ?_)
            · have hf := if_n c hf
              refine lv_aload_n hx hb dX1_free_67 rfl (lv_at hl 0 rfl) ?_
              refine lv_aload_n hx hb dX1_free_68 rfl (lv_at hl 0 rfl) ?_
              refine w6_getN F I (so_ob s6) rfl in_X2 13 (by decide) (List.mem_of_getElem? (i := 10) rfl) rfl rfl dX1_free_69 ?_
              obtain ⟨r16, V14, h15, hf⟩ := bi_e hf
              refine xz_Vi F I (ctd_placeOf l D g ad (3 + 9 * p1.toNatClampNeg) V (V.1 (3 + 9 * p1.toNatClampNeg) 13) r16 V14 h15 s6) (lw_V q319 q320 q321 q48 q322) hdX2_placeOf rfl (Nat.le_of_ble_eq_true rfl) (Nat.le_of_ble_eq_true rfl) (w6_recv F I (so_ob s6) rfl) rfl hl.1 [] rfl (Nat.le_of_ble_eq_true rfl) dX1_free_72 ⟨Nat.le_of_ble_eq_true rfl, Nat.le_of_ble_eq_true rfl⟩ (fun H locs I => ?_)
              refine lv_istore (lv' := [(4, .int r16), (3, .ref (ad (3 + 9 * p1.toNatClampNeg))), (0, .ref (ad 0)), (1, .int p1), (2, .int p2)]) hx hb dX1_free_75 hl (by decide) rfl (fun ls hl => ?_)
              refine lv_aload_n hx hb dX1_free_77 rfl (lv_at hl 1 rfl) ?_
              refine w6_getN F I (so_ob s6) rfl in_X2 0 (by decide) (List.mem_of_getElem? (i := 0) rfl) rfl rfl dX1_free_78 ?_
              refine lv_iload hx hb dX1_free_81 (lv_at hl 0 rfl) ?_
              refine lv_aload_n hx hb dX1_free_83 rfl (lv_at hl 1 rfl) ?_
              refine w6_getN F I (so_ob s6) rfl in_X2 14 (by decide) (List.mem_of_getElem? (i := 11) rfl) rfl rfl dX1_free_84 ?_
              obtain ⟨g17, hf⟩ := gd_e hf
              obtain ⟨V18, eV18, hf⟩ := lt_e hf
              refine w6_iast (j := r16.toNatClampNeg) xsh_lc F I (s_ar s6 1 6 (by decide) rfl) g17 rfl dX1_free_87 eV18 (fun H locs I => ?_)
              refine lv_aload_n hx hb dX1_free_88 rfl (lv_at hl 1 rfl) ?_
              refine lv_iconst (v := (-1 : Int32)) hx hb dX1_free_89 (by decide) ?_
              obtain ⟨V19, eV19, hf⟩ := lt_e hf
              refine w6_putN xsh_lc F I (so_ob s6) rfl in_X2 tyX2 tyX2_ok nmX2 14 (by decide) (so_nf _ 14 (by decide)) (List.mem_of_getElem? (i := 11) rfl) rfl rfl (tyX2_ok 14 (by decide)) rfl rfl dX1_free_90 eV19 (fun H locs I => ?_)
              refine lv_goto (tgt := 146) hx hb dX1_free_93 (by decide) ?_
              refine lv_aload_n hx hb dX1_free_146 rfl (lv_at hl 1 rfl) ?_
              refine lv_aload_n hx hb dX1_free_147 rfl (lv_at hl 2 rfl) ?_
              refine w6_get F I xo_ob rfl in_X1 6 (by decide) q163 rfl rfl dX1_free_148 ?_
              obtain ⟨V20, eV20, hf⟩ := lt_e hf
              refine w6_putN xsh_lc F I (so_ob s6) rfl in_X2 tyX2 tyX2_ok nmX2 15 (by decide) (so_nf _ 15 (by decide)) (List.mem_of_getElem? (i := 12) rfl) rfl rfl (tyX2_ok 15 (by decide)) rfl rfl dX1_free_151 eV20 (fun H locs I => ?_)
              refine lv_iload hx hb dX1_free_154 (lv_at hl 0 rfl) ?_
              exact hret _ _ _ _ _ dX1_free_156 (w6_mv (so_e hf).2 I) (so_e hf).1 rfl
            · have hf := if_p c hf
              refine lv_iconst (v := (-1 : Int32)) hx hb dX1_free_65 (by decide) ?_
              exact hret _ _ _ _ _ dX1_free_66 (w6_mv (so_e hf).2 I) (so_e hf).1 rfl
        · have hf := if_p c hf
          refine lv_iconst (v := (-1 : Int32)) hx hb dX1_free_43 (by decide) ?_
          exact hret _ _ _ _ _ dX1_free_44 (w6_mv (so_e hf).2 I) (so_e hf).1 rfl
def x_pause (V : Mm) (p1 : Int32) : Option (Int32 × Mm) :=
  if (px_isTeam p1) = (0 : Int32) then (some ((-1 : Int32), V)) else (if (V.1 0 10) = (0 : Int32) then (some ((-1 : Int32), V)) else (gd_ (ix_ p1 2) (if (V.1 (3 + 9 * p1.toNatClampNeg) 11) < (V.1 66 5) then (gd_ (ix_ p1 2) (lt_ (mset V (3 + 9 * p1.toNatClampNeg) 11 ((V.1 (3 + 9 * p1.toNatClampNeg) 11) + (1 : Int32))) fun V5 => gd_ (ix_ p1 2) (some ((V5.1 (3 + 9 * p1.toNatClampNeg) 11), V5)))) else (some ((-1 : Int32), V)))))
theorem hdX1_pause : w6_hd yX1_pause 1 := by decide +kernel
abbrev rmX1_pause : Room := { frames := 1, cells := 0, slots := 0, locals := 20 }
set_option maxHeartbeats 4000000 in
set_option maxRecDepth 100000 in
theorem ctx_pause (l : Launch) (D : va_G) (g : Nat → ClassId) (ad : Nat → Nat) (V : Mm) (p1 : Int32) (r : Int32) (V' : Mm) (hf : x_pause V p1 = some (r, V'))  : CTi l D g yX1_pause cX1_pause 2 .int rmX1_pause [.ref (ad 0), .int p1] (xw g ad V) (xw g ad V') r := by
  intro sz
  refine w6_starti RX1 (by decide) (Nat.le_of_ble_eq_true rfl) rfl ?_
  intro p e s m below meth c A ls Q hx hb hown hts F I hl hret
  have hl : lv_has ls 2 [(0, .ref (ad 0)), (1, .int p1)] := hl
  unfold x_pause at hf
  refine lv_iload_n hx hb dX1_pause_0 rfl (lv_at hl 1 rfl) ?_
  refine xz_Pi F I (ctpx_isTeam l D g p1 _ rfl) (lw_S q237 q238 q47 q239) hdX1_isTeam (Nat.le_of_ble_eq_true rfl) (Nat.le_of_ble_eq_true rfl) rfl hl.1 [] rfl (Nat.le_of_ble_eq_true rfl) dX1_pause_1 ⟨Nat.le_of_ble_eq_true rfl, Nat.le_of_ble_eq_true rfl⟩ (fun H locs I => ?_)
  refine lv_if_eq (tgt := 32) hx hb dX1_pause_4 (by decide) (fun c => ?_) (fun c => ?_)
  · have hf := if_p c hf
    refine lv_iconst (v := (-1 : Int32)) hx hb dX1_pause_32 (by decide) ?_
    exact hret _ _ _ _ _ dX1_pause_33 (w6_mv (so_e hf).2 I) (so_e hf).1 rfl
  · have hf := if_n c hf
    refine lv_aload_n hx hb dX1_pause_7 rfl (lv_at hl 0 rfl) ?_
    refine w6_get F I xo_ob rfl in_X1 10 (by decide) q167 rfl rfl dX1_pause_8 ?_
    refine lv_if_eq (tgt := 32) hx hb dX1_pause_11 (by decide) (fun c => ?_) (fun c => ?_)
    · have hf := if_p c hf
      refine lv_iconst (v := (-1 : Int32)) hx hb dX1_pause_32 (by decide) ?_
      exact hret _ _ _ _ _ dX1_pause_33 (w6_mv (so_e hf).2 I) (so_e hf).1 rfl
    · have hf := if_n c hf
      refine lv_aload_n hx hb dX1_pause_14 rfl (lv_at hl 0 rfl) ?_
      refine w6_get F I xo_ob rfl in_X1 0 (by decide) q157 rfl rfl dX1_pause_15 ?_
      refine lv_iload_n hx hb dX1_pause_18 rfl (lv_at hl 1 rfl) ?_
      obtain ⟨g1, hf⟩ := gd_e hf
      refine w6_aald (j := p1.toNatClampNeg) F I x_sides rfl rfl g1 rfl dX1_pause_19 ?_
      have s2 : isSide (3 + 9 * p1.toNatClampNeg) := isSide_s (ix_l g1 (rfl : _ = p1.toNatClampNeg))
      refine w6_getN F I (so_ob s2) rfl in_X2 11 (by decide) (List.mem_of_getElem? (i := 8) rfl) rfl rfl dX1_pause_20 ?_
      refine lv_aload_n hx hb dX1_pause_23 rfl (lv_at hl 0 rfl) ?_
      refine w6_get F I xo_ob rfl in_X1 3 (by decide) q160 rfl rfl dX1_pause_24 ?_
      refine lv_iconst (v := (5 : Int32)) hx hb dX1_pause_27 (by decide) ?_
      refine w6_iald (j := 5) F I (x_ar 66 6 (by decide) rfl) (show ix_ (5 : Int32) 6 by decide) rfl dX1_pause_28 ?_
      refine lv_icmp_lt (tgt := 34) hx hb dX1_pause_29 (by decide) (fun c => ?_) (fun c => ?_)
      · have hf := if_p c hf
        refine lv_aload_n hx hb dX1_pause_34 rfl (lv_at hl 0 rfl) ?_
        refine w6_get F I xo_ob rfl in_X1 0 (by decide) q157 rfl rfl dX1_pause_35 ?_
        refine lv_iload_n hx hb dX1_pause_38 rfl (lv_at hl 1 rfl) ?_
        obtain ⟨g3, hf⟩ := gd_e hf
        refine w6_aald (j := p1.toNatClampNeg) F I x_sides rfl rfl g3 rfl dX1_pause_39 ?_
        have s4 : isSide (3 + 9 * p1.toNatClampNeg) := isSide_s (ix_l g3 (rfl : _ = p1.toNatClampNeg))
        refine lv_dup hx hb dX1_pause_40 rfl ?_
        refine w6_getN F I (so_ob s4) rfl in_X2 11 (by decide) (List.mem_of_getElem? (i := 8) rfl) rfl rfl dX1_pause_41 ?_
        refine lv_iconst (v := (1 : Int32)) hx hb dX1_pause_44 (by decide) ?_
        refine lv_iadd hx hb dX1_pause_45 ?_
        obtain ⟨V5, eV5, hf⟩ := lt_e hf
        refine w6_putN xsh_lc F I (so_ob s4) rfl in_X2 tyX2 tyX2_ok nmX2 11 (by decide) (so_nf _ 11 (by decide)) (List.mem_of_getElem? (i := 8) rfl) rfl rfl (tyX2_ok 11 (by decide)) rfl rfl dX1_pause_46 eV5 (fun H locs I => ?_)
        refine lv_aload_n hx hb dX1_pause_49 rfl (lv_at hl 0 rfl) ?_
        refine w6_get F I xo_ob rfl in_X1 0 (by decide) q157 rfl rfl dX1_pause_50 ?_
        refine lv_iload_n hx hb dX1_pause_53 rfl (lv_at hl 1 rfl) ?_
        obtain ⟨g6, hf⟩ := gd_e hf
        refine w6_aald (j := p1.toNatClampNeg) F I x_sides rfl rfl g6 rfl dX1_pause_54 ?_
        have s7 : isSide (3 + 9 * p1.toNatClampNeg) := isSide_s (ix_l g6 (rfl : _ = p1.toNatClampNeg))
        refine w6_getN F I (so_ob s7) rfl in_X2 11 (by decide) (List.mem_of_getElem? (i := 8) rfl) rfl rfl dX1_pause_55 ?_
        exact hret _ _ _ _ _ dX1_pause_58 (w6_mv (so_e hf).2 I) (so_e hf).1 rfl
      · have hf := if_n c hf
        refine lv_iconst (v := (-1 : Int32)) hx hb dX1_pause_32 (by decide) ?_
        exact hret _ _ _ _ _ dX1_pause_33 (w6_mv (so_e hf).2 I) (so_e hf).1 rfl
def x_wrong (V : Mm) (p1 : Int32) : Option (Int32 × Mm) :=
  if (V.1 0 10) = (0 : Int32) then (some ((-1 : Int32), V)) else (if (px_in (p1.toInt64) (0 : Int64) ((V.1 0 7).toInt64)) = (0 : Int32) then (some ((-1 : Int32), V)) else (gd_ (ix_ (V.1 0 5) 2) (lt_ (mset V (3 + 9 * (V.1 0 5).toNatClampNeg) 8 ((V.1 (3 + 9 * (V.1 0 5).toNatClampNeg) 8) - p1)) fun V3 => bi_ (x_won V3 ((1 : Int32) - (V3.1 0 5))) fun r6 V4 => some (r6, V4))))
theorem hdX1_wrong : w6_hd yX1_wrong 1 := by decide +kernel
abbrev rmX1_wrong : Room := { frames := 3, cells := 0, slots := 0, locals := 68 }
set_option maxHeartbeats 4000000 in
set_option maxRecDepth 100000 in
theorem ctx_wrong (l : Launch) (D : va_G) (g : Nat → ClassId) (ad : Nat → Nat) (V : Mm) (p1 : Int32) (r : Int32) (V' : Mm) (hf : x_wrong V p1 = some (r, V'))  : CTi l D g yX1_wrong cX1_wrong 2 .int rmX1_wrong [.ref (ad 0), .int p1] (xw g ad V) (xw g ad V') r := by
  intro sz
  refine w6_starti RX1 (by decide) (Nat.le_of_ble_eq_true rfl) rfl ?_
  intro p e s m below meth c A ls Q hx hb hown hts F I hl hret
  have hl : lv_has ls 2 [(0, .ref (ad 0)), (1, .int p1)] := hl
  unfold x_wrong at hf
  refine lv_aload_n hx hb dX1_wrong_0 rfl (lv_at hl 0 rfl) ?_
  refine w6_get F I xo_ob rfl in_X1 10 (by decide) q167 rfl rfl dX1_wrong_1 ?_
  refine lv_if_eq (tgt := 21) hx hb dX1_wrong_4 (by decide) (fun c => ?_) (fun c => ?_)
  · have hf := if_p c hf
    refine lv_iconst (v := (-1 : Int32)) hx hb dX1_wrong_21 (by decide) ?_
    exact hret _ _ _ _ _ dX1_wrong_22 (w6_mv (so_e hf).2 I) (so_e hf).1 rfl
  · have hf := if_n c hf
    refine lv_iload_n hx hb dX1_wrong_7 rfl (lv_at hl 1 rfl) ?_
    refine lv_i2l (v := (p1.toInt64)) hx hb dX1_wrong_8 rfl ?_
    refine lv_lconst (v := (0 : Int64)) hx hb dX1_wrong_9 (by decide) ?_
    refine lv_aload_n hx hb dX1_wrong_10 rfl (lv_at hl 0 rfl) ?_
    refine w6_get F I xo_ob rfl in_X1 7 (by decide) q164 rfl rfl dX1_wrong_11 ?_
    refine lv_i2l (v := ((V.1 0 7).toInt64)) hx hb dX1_wrong_14 rfl ?_
    refine xz_Pi F I (ctpx_in l D g (p1.toInt64) (0 : Int64) ((V.1 0 7).toInt64) _ rfl) (lw_S q244 q245 q47 q246) hdX1_in (Nat.le_of_ble_eq_true rfl) (Nat.le_of_ble_eq_true rfl) rfl hl.1 [] rfl (Nat.le_of_ble_eq_true rfl) dX1_wrong_15 ⟨Nat.le_of_ble_eq_true rfl, Nat.le_of_ble_eq_true rfl⟩ (fun H locs I => ?_)
    refine lv_if_ne (tgt := 23) hx hb dX1_wrong_18 (by decide) (fun c => ?_) (fun c => ?_)
    · have hf := if_n c hf
      refine lv_aload_n hx hb dX1_wrong_23 rfl (lv_at hl 0 rfl) ?_
      refine w6_get F I xo_ob rfl in_X1 0 (by decide) q157 rfl rfl dX1_wrong_24 ?_
      refine lv_aload_n hx hb dX1_wrong_27 rfl (lv_at hl 0 rfl) ?_
      refine w6_get F I xo_ob rfl in_X1 5 (by decide) q162 rfl rfl dX1_wrong_28 ?_
      obtain ⟨g1, hf⟩ := gd_e hf
      refine w6_aald (j := (V.1 0 5).toNatClampNeg) F I x_sides rfl rfl g1 rfl dX1_wrong_31 ?_
      have s2 : isSide (3 + 9 * (V.1 0 5).toNatClampNeg) := isSide_s (ix_l g1 (rfl : _ = (V.1 0 5).toNatClampNeg))
      refine lv_dup hx hb dX1_wrong_32 rfl ?_
      refine w6_getN F I (so_ob s2) rfl in_X2 8 (by decide) (List.mem_of_getElem? (i := 5) rfl) rfl rfl dX1_wrong_33 ?_
      refine lv_iload_n hx hb dX1_wrong_36 rfl (lv_at hl 1 rfl) ?_
      refine lv_isub hx hb dX1_wrong_37 ?_
      obtain ⟨V3, eV3, hf⟩ := lt_e hf
      refine w6_putN xsh_lc F I (so_ob s2) rfl in_X2 tyX2 tyX2_ok nmX2 8 (by decide) (so_nf _ 8 (by decide)) (List.mem_of_getElem? (i := 5) rfl) rfl rfl (tyX2_ok 8 (by decide)) rfl rfl dX1_wrong_38 eV3 (fun H locs I => ?_)
      refine lv_aload_n hx hb dX1_wrong_41 rfl (lv_at hl 0 rfl) ?_
      refine lv_iconst (v := (1 : Int32)) hx hb dX1_wrong_42 (by decide) ?_
      refine lv_aload_n hx hb dX1_wrong_43 rfl (lv_at hl 0 rfl) ?_
      refine w6_get F I xo_ob rfl in_X1 5 (by decide) q162 rfl rfl dX1_wrong_44 ?_
      refine lv_isub hx hb dX1_wrong_47 ?_
      obtain ⟨r6, V4, h5, hf⟩ := bi_e hf
      refine xz_Vi F I (ctx_won l D g ad V3 ((1 : Int32) - (V3.1 0 5)) r6 V4 h5 ) (lw_V q294 q296 qs1 q47 q297) hdX1_won rfl (Nat.le_of_ble_eq_true rfl) (Nat.le_of_ble_eq_true rfl) (w6_recv F I xo_ob rfl) rfl hl.1 [] rfl (Nat.le_of_ble_eq_true rfl) dX1_wrong_48 ⟨Nat.le_of_ble_eq_true rfl, Nat.le_of_ble_eq_true rfl⟩ (fun H locs I => ?_)
      exact hret _ _ _ _ _ dX1_wrong_51 (w6_mv (so_e hf).2 I) (so_e hf).1 rfl
    · have hf := if_p c hf
      refine lv_iconst (v := (-1 : Int32)) hx hb dX1_wrong_21 (by decide) ?_
      exact hret _ _ _ _ _ dX1_wrong_22 (w6_mv (so_e hf).2 I) (so_e hf).1 rfl
def x_at (V : Mm) (p1 : Int32) (p2 : Int32) : Option (Int32 × Mm) :=
  if (px_isTeam p1) = (0 : Int32) then (some ((-1 : Int32), V)) else (if (px_isPlace p2) = (0 : Int32) then (some ((-1 : Int32), V)) else (if (V.1 0 4) < (0 : Int32) then (some ((-1 : Int32), V)) else (gd_ (ix_ p1 2) (gd_ (ix_ p2 6) (some ((V.1 (3 + 9 * p1.toNatClampNeg + 1) p2.toNatClampNeg), V))))))
theorem hdX1_at : w6_hd yX1_at 2 := by decide +kernel
abbrev rmX1_at : Room := { frames := 2, cells := 0, slots := 0, locals := 45 }
set_option maxHeartbeats 4000000 in
set_option maxRecDepth 100000 in
theorem ctx_at (l : Launch) (D : va_G) (g : Nat → ClassId) (ad : Nat → Nat) (V : Mm) (p1 : Int32) (p2 : Int32) (r : Int32) (V' : Mm) (hf : x_at V p1 p2 = some (r, V'))  : CTi l D g yX1_at cX1_at 3 .int rmX1_at [.ref (ad 0), .int p1, .int p2] (xw g ad V) (xw g ad V') r := by
  intro sz
  refine w6_starti RX1 (by decide) (Nat.le_of_ble_eq_true rfl) rfl ?_
  intro p e s m below meth c A ls Q hx hb hown hts F I hl hret
  have hl : lv_has ls 3 [(0, .ref (ad 0)), (1, .int p1), (2, .int p2)] := hl
  unfold x_at at hf
  refine lv_iload_n hx hb dX1_at_0 rfl (lv_at hl 1 rfl) ?_
  refine xz_Pi F I (ctpx_isTeam l D g p1 _ rfl) (lw_S q237 q238 q47 q239) hdX1_isTeam (Nat.le_of_ble_eq_true rfl) (Nat.le_of_ble_eq_true rfl) rfl hl.1 [] rfl (Nat.le_of_ble_eq_true rfl) dX1_at_1 ⟨Nat.le_of_ble_eq_true rfl, Nat.le_of_ble_eq_true rfl⟩ (fun H locs I => ?_)
  refine lv_if_eq (tgt := 35) hx hb dX1_at_4 (by decide) (fun c => ?_) (fun c => ?_)
  · have hf := if_p c hf
    refine lv_iconst (v := (-1 : Int32)) hx hb dX1_at_35 (by decide) ?_
    exact hret _ _ _ _ _ dX1_at_36 (w6_mv (so_e hf).2 I) (so_e hf).1 rfl
  · have hf := if_n c hf
    refine lv_iload_n hx hb dX1_at_7 rfl (lv_at hl 2 rfl) ?_
    refine xz_Pi F I (ctpx_isPlace l D g p2 _ rfl) (lw_S q353 q354 q47 q355) hdX1_isPlace (Nat.le_of_ble_eq_true rfl) (Nat.le_of_ble_eq_true rfl) rfl hl.1 [] rfl (Nat.le_of_ble_eq_true rfl) dX1_at_8 ⟨Nat.le_of_ble_eq_true rfl, Nat.le_of_ble_eq_true rfl⟩ (fun H locs I => ?_)
    refine lv_if_eq (tgt := 35) hx hb dX1_at_11 (by decide) (fun c => ?_) (fun c => ?_)
    · have hf := if_p c hf
      refine lv_iconst (v := (-1 : Int32)) hx hb dX1_at_35 (by decide) ?_
      exact hret _ _ _ _ _ dX1_at_36 (w6_mv (so_e hf).2 I) (so_e hf).1 rfl
    · have hf := if_n c hf
      refine lv_aload_n hx hb dX1_at_14 rfl (lv_at hl 0 rfl) ?_
      refine w6_get F I xo_ob rfl in_X1 4 (by decide) q161 rfl rfl dX1_at_15 ?_
      refine lv_if_lt (tgt := 35) hx hb dX1_at_18 (by decide) (fun c => ?_) (fun c => ?_)
      · have hf := if_p c hf
        refine lv_iconst (v := (-1 : Int32)) hx hb dX1_at_35 (by decide) ?_
        exact hret _ _ _ _ _ dX1_at_36 (w6_mv (so_e hf).2 I) (so_e hf).1 rfl
      · have hf := if_n c hf
        refine lv_aload_n hx hb dX1_at_21 rfl (lv_at hl 0 rfl) ?_
        refine w6_get F I xo_ob rfl in_X1 0 (by decide) q157 rfl rfl dX1_at_22 ?_
        refine lv_iload_n hx hb dX1_at_25 rfl (lv_at hl 1 rfl) ?_
        obtain ⟨g1, hf⟩ := gd_e hf
        refine w6_aald (j := p1.toNatClampNeg) F I x_sides rfl rfl g1 rfl dX1_at_26 ?_
        have s2 : isSide (3 + 9 * p1.toNatClampNeg) := isSide_s (ix_l g1 (rfl : _ = p1.toNatClampNeg))
        refine w6_getN F I (so_ob s2) rfl in_X2 0 (by decide) (List.mem_of_getElem? (i := 0) rfl) rfl rfl dX1_at_27 ?_
        refine lv_iload_n hx hb dX1_at_30 rfl (lv_at hl 2 rfl) ?_
        obtain ⟨g3, hf⟩ := gd_e hf
        refine w6_iald (j := p2.toNatClampNeg) F I (s_ar s2 1 6 (by decide) rfl) g3 rfl dX1_at_31 ?_
        refine lv_goto (tgt := 36) hx hb dX1_at_32 (by decide) ?_
        exact hret _ _ _ _ _ dX1_at_36 (w6_mv (so_e hf).2 I) (so_e hf).1 rfl
def x_of (V : Mm) (p1 : Int32) (p2 : Int32) : Option (Int32 × Mm) :=
  if (px_isTeam p1) = (0 : Int32) then (some ((-1 : Int32), V)) else (gd_ (ix_ p1 2) (if p2.toInt = 0 then (some ((V.1 (3 + 9 * p1.toNatClampNeg) 8), V)) else (if p2.toInt = 1 then (some ((V.1 (3 + 9 * p1.toNatClampNeg) 9), V)) else (if p2.toInt = 2 then (some ((V.1 (3 + 9 * p1.toNatClampNeg) 10), V)) else (if p2.toInt = 3 then (some ((V.1 (3 + 9 * p1.toNatClampNeg) 11), V)) else (if p2.toInt = 4 then (some ((V.1 (3 + 9 * p1.toNatClampNeg) 14), V)) else (if p2.toInt = 5 then (if (V.1 0 5) = p1 then (some ((V.1 0 7), V)) else (some ((0 : Int32), V))) else (if p2.toInt = 6 then (some ((V.1 (3 + 9 * p1.toNatClampNeg) 12), V)) else (some ((-1 : Int32), V))))))))))
theorem hdX1_of : w6_hd yX1_of 2 := by decide +kernel
abbrev rmX1_of : Room := { frames := 1, cells := 0, slots := 0, locals := 20 }
set_option maxHeartbeats 4000000 in
set_option maxRecDepth 100000 in
theorem ctx_of (l : Launch) (D : va_G) (g : Nat → ClassId) (ad : Nat → Nat) (V : Mm) (p1 : Int32) (p2 : Int32) (r : Int32) (V' : Mm) (hf : x_of V p1 p2 = some (r, V'))  : CTi l D g yX1_of cX1_of 4 .int rmX1_of [.ref (ad 0), .int p1, .int p2] (xw g ad V) (xw g ad V') r := by
  intro sz
  refine w6_starti RX1 (by decide) (Nat.le_of_ble_eq_true rfl) rfl ?_
  intro p e s m below meth c A ls Q hx hb hown hts F I hl hret
  have hl : lv_has ls 4 [(0, .ref (ad 0)), (1, .int p1), (2, .int p2)] := hl
  unfold x_of at hf
  refine lv_iload_n hx hb dX1_of_0 rfl (lv_at hl 1 rfl) ?_
  refine xz_Pi F I (ctpx_isTeam l D g p1 _ rfl) (lw_S q237 q238 q47 q239) hdX1_isTeam (Nat.le_of_ble_eq_true rfl) (Nat.le_of_ble_eq_true rfl) rfl hl.1 [] rfl (Nat.le_of_ble_eq_true rfl) dX1_of_1 ⟨Nat.le_of_ble_eq_true rfl, Nat.le_of_ble_eq_true rfl⟩ (fun H locs I => ?_)
  refine lv_if_ne (tgt := 9) hx hb dX1_of_4 (by decide) (fun c => ?_) (fun c => ?_)
  · have hf := if_n c hf
    refine lv_aload_n hx hb dX1_of_9 rfl (lv_at hl 0 rfl) ?_
    refine w6_get F I xo_ob rfl in_X1 0 (by decide) q157 rfl rfl dX1_of_10 ?_
    refine lv_iload_n hx hb dX1_of_13 rfl (lv_at hl 1 rfl) ?_
    obtain ⟨g1, hf⟩ := gd_e hf
    refine w6_aald (j := p1.toNatClampNeg) F I x_sides rfl rfl g1 rfl dX1_of_14 ?_
    have s2 : isSide (3 + 9 * p1.toNatClampNeg) := isSide_s (ix_l g1 (rfl : _ = p1.toNatClampNeg))
    refine lv_astore_n (lv' := [(3, .ref (ad (3 + 9 * p1.toNatClampNeg))), (0, .ref (ad 0)), (1, .int p1), (2, .int p2)]) hx hb dX1_of_15 rfl hl (by decide) rfl (fun ls hl => ?_)
    refine lv_iload_n hx hb dX1_of_16 rfl (lv_at hl 3 rfl) ?_
    by_cases c0 : p2.toInt = 0
    · have hf := if_p c0 hf
      refine lv_tableIn (off := 43) (tgt := 60) hx hb dX1_of_17 (by omega) (by omega) (by rw [c0]; rfl) (by decide) ?_
      refine lv_aload_n hx hb dX1_of_60 rfl (lv_at hl 0 rfl) ?_
      refine w6_getN F I (so_ob s2) rfl in_X2 8 (by decide) (List.mem_of_getElem? (i := 5) rfl) rfl rfl dX1_of_61 ?_
      exact hret _ _ _ _ _ dX1_of_64 (w6_mv (so_e hf).2 I) (so_e hf).1 rfl
    · have hf := if_n c0 hf
      by_cases c1 : p2.toInt = 1
      · have hf := if_p c1 hf
        refine lv_tableIn (off := 48) (tgt := 65) hx hb dX1_of_17 (by omega) (by omega) (by rw [c1]; rfl) (by decide) ?_
        refine lv_aload_n hx hb dX1_of_65 rfl (lv_at hl 0 rfl) ?_
        refine w6_getN F I (so_ob s2) rfl in_X2 9 (by decide) (List.mem_of_getElem? (i := 6) rfl) rfl rfl dX1_of_66 ?_
        exact hret _ _ _ _ _ dX1_of_69 (w6_mv (so_e hf).2 I) (so_e hf).1 rfl
      · have hf := if_n c1 hf
        by_cases c2 : p2.toInt = 2
        · have hf := if_p c2 hf
          refine lv_tableIn (off := 53) (tgt := 70) hx hb dX1_of_17 (by omega) (by omega) (by rw [c2]; rfl) (by decide) ?_
          refine lv_aload_n hx hb dX1_of_70 rfl (lv_at hl 0 rfl) ?_
          refine w6_getN F I (so_ob s2) rfl in_X2 10 (by decide) (List.mem_of_getElem? (i := 7) rfl) rfl rfl dX1_of_71 ?_
          exact hret _ _ _ _ _ dX1_of_74 (w6_mv (so_e hf).2 I) (so_e hf).1 rfl
        · have hf := if_n c2 hf
          by_cases c3 : p2.toInt = 3
          · have hf := if_p c3 hf
            refine lv_tableIn (off := 58) (tgt := 75) hx hb dX1_of_17 (by omega) (by omega) (by rw [c3]; rfl) (by decide) ?_
            refine lv_aload_n hx hb dX1_of_75 rfl (lv_at hl 0 rfl) ?_
            refine w6_getN F I (so_ob s2) rfl in_X2 11 (by decide) (List.mem_of_getElem? (i := 8) rfl) rfl rfl dX1_of_76 ?_
            exact hret _ _ _ _ _ dX1_of_79 (w6_mv (so_e hf).2 I) (so_e hf).1 rfl
          · have hf := if_n c3 hf
            by_cases c4 : p2.toInt = 4
            · have hf := if_p c4 hf
              refine lv_tableIn (off := 63) (tgt := 80) hx hb dX1_of_17 (by omega) (by omega) (by rw [c4]; rfl) (by decide) ?_
              refine lv_aload_n hx hb dX1_of_80 rfl (lv_at hl 0 rfl) ?_
              refine w6_getN F I (so_ob s2) rfl in_X2 14 (by decide) (List.mem_of_getElem? (i := 11) rfl) rfl rfl dX1_of_81 ?_
              exact hret _ _ _ _ _ dX1_of_84 (w6_mv (so_e hf).2 I) (so_e hf).1 rfl
            · have hf := if_n c4 hf
              by_cases c5 : p2.toInt = 5
              · have hf := if_p c5 hf
                refine lv_tableIn (off := 68) (tgt := 85) hx hb dX1_of_17 (by omega) (by omega) (by rw [c5]; rfl) (by decide) ?_
                refine lv_aload_n hx hb dX1_of_85 rfl (lv_at hl 1 rfl) ?_
                refine w6_get F I xo_ob rfl in_X1 5 (by decide) q162 rfl rfl dX1_of_86 ?_
                refine lv_iload_n hx hb dX1_of_89 rfl (lv_at hl 2 rfl) ?_
                refine lv_icmp_ne (tgt := 100) hx hb dX1_of_90 (by decide) (fun c => ?_) (fun c => ?_)
                · have hf := if_n c hf
                  refine lv_iconst (v := (0 : Int32)) hx hb dX1_of_100 (by decide) ?_
                  exact hret _ _ _ _ _ dX1_of_101 (w6_mv (so_e hf).2 I) (so_e hf).1 rfl
                · have hf := if_p c hf
                  refine lv_aload_n hx hb dX1_of_93 rfl (lv_at hl 1 rfl) ?_
                  refine w6_get F I xo_ob rfl in_X1 7 (by decide) q164 rfl rfl dX1_of_94 ?_
                  refine lv_goto (tgt := 101) hx hb dX1_of_97 (by decide) ?_
                  exact hret _ _ _ _ _ dX1_of_101 (w6_mv (so_e hf).2 I) (so_e hf).1 rfl
              · have hf := if_n c5 hf
                by_cases c6 : p2.toInt = 6
                · have hf := if_p c6 hf
                  refine lv_tableIn (off := 85) (tgt := 102) hx hb dX1_of_17 (by omega) (by omega) (by rw [c6]; rfl) (by decide) ?_
                  refine lv_aload_n hx hb dX1_of_102 rfl (lv_at hl 0 rfl) ?_
                  refine w6_getN F I (so_ob s2) rfl in_X2 12 (by decide) (List.mem_of_getElem? (i := 9) rfl) rfl rfl dX1_of_103 ?_
                  exact hret _ _ _ _ _ dX1_of_106 (w6_mv (so_e hf).2 I) (so_e hf).1 rfl
                · have hf := if_n c6 hf
                  refine lv_tableOut (tgt := 107) hx hb dX1_of_17 (by omega) (by decide) ?_
                  refine lv_iconst (v := (-1 : Int32)) hx hb dX1_of_107 (by decide) ?_
                  exact hret _ _ _ _ _ dX1_of_108 (w6_mv (so_e hf).2 I) (so_e hf).1 rfl
  · have hf := if_p c hf
    refine lv_iconst (v := (-1 : Int32)) hx hb dX1_of_7 (by decide) ?_
    exact hret _ _ _ _ _ dX1_of_8 (w6_mv (so_e hf).2 I) (so_e hf).1 rfl
def x_count (V : Mm) (p1 : Int32) : Option (Int32 × Mm) :=
  if p1.toInt = 0 then (some ((V.1 0 4), V)) else (if p1.toInt = 1 then (if (V.1 0 10) = (0 : Int32) then (some ((0 : Int32), V)) else (some ((1 : Int32), V))) else (if p1.toInt = 2 then (if (V.1 0 10) = (0 : Int32) then (some ((-1 : Int32), V)) else (some ((V.1 0 5), V))) else (if p1.toInt = 3 then (some ((V.1 0 6), V)) else (if p1.toInt = 4 then (some ((V.1 0 8), V)) else (if p1.toInt = 5 then (some ((V.1 0 24), V)) else (if p1.toInt = 6 then (some ((V.1 0 12), V)) else (if p1.toInt = 7 then (some ((V.1 0 9), V)) else (some ((-1 : Int32), V)))))))))
theorem hdX1_count : w6_hd yX1_count 1 := by decide +kernel
abbrev rmX1_count : Room := { frames := 0, cells := 0, slots := 0, locals := 0 }
set_option maxHeartbeats 4000000 in
set_option maxRecDepth 100000 in
theorem ctx_count (l : Launch) (D : va_G) (g : Nat → ClassId) (ad : Nat → Nat) (V : Mm) (p1 : Int32) (r : Int32) (V' : Mm) (hf : x_count V p1 = some (r, V'))  : CTi l D g yX1_count cX1_count 2 .int rmX1_count [.ref (ad 0), .int p1] (xw g ad V) (xw g ad V') r := by
  intro sz
  refine w6_starti RX1 (by decide) (Nat.le_of_ble_eq_true rfl) rfl ?_
  intro p e s m below meth c A ls Q hx hb hown hts F I hl hret
  have hl : lv_has ls 2 [(0, .ref (ad 0)), (1, .int p1)] := hl
  unfold x_count at hf
  refine lv_iload_n hx hb dX1_count_0 rfl (lv_at hl 1 rfl) ?_
  by_cases c0 : p1.toInt = 0
  · have hf := if_p c0 hf
    refine lv_tableIn (off := 47) (tgt := 48) hx hb dX1_count_1 (by omega) (by omega) (by rw [c0]; rfl) (by decide) ?_
    refine lv_aload_n hx hb dX1_count_48 rfl (lv_at hl 0 rfl) ?_
    refine w6_get F I xo_ob rfl in_X1 4 (by decide) q161 rfl rfl dX1_count_49 ?_
    exact hret _ _ _ _ _ dX1_count_52 (w6_mv (so_e hf).2 I) (so_e hf).1 rfl
  · have hf := if_n c0 hf
    by_cases c1 : p1.toInt = 1
    · have hf := if_p c1 hf
      refine lv_tableIn (off := 52) (tgt := 53) hx hb dX1_count_1 (by omega) (by omega) (by rw [c1]; rfl) (by decide) ?_
      refine lv_aload_n hx hb dX1_count_53 rfl (lv_at hl 0 rfl) ?_
      refine w6_get F I xo_ob rfl in_X1 10 (by decide) q167 rfl rfl dX1_count_54 ?_
      refine lv_if_eq (tgt := 64) hx hb dX1_count_57 (by decide) (fun c => ?_) (fun c => ?_)
      · have hf := if_p c hf
        refine lv_iconst (v := (0 : Int32)) hx hb dX1_count_64 (by decide) ?_
        exact hret _ _ _ _ _ dX1_count_65 (w6_mv (so_e hf).2 I) (so_e hf).1 rfl
      · have hf := if_n c hf
        refine lv_iconst (v := (1 : Int32)) hx hb dX1_count_60 (by decide) ?_
        refine lv_goto (tgt := 65) hx hb dX1_count_61 (by decide) ?_
        exact hret _ _ _ _ _ dX1_count_65 (w6_mv (so_e hf).2 I) (so_e hf).1 rfl
    · have hf := if_n c1 hf
      by_cases c2 : p1.toInt = 2
      · have hf := if_p c2 hf
        refine lv_tableIn (off := 65) (tgt := 66) hx hb dX1_count_1 (by omega) (by omega) (by rw [c2]; rfl) (by decide) ?_
        refine lv_aload_n hx hb dX1_count_66 rfl (lv_at hl 0 rfl) ?_
        refine w6_get F I xo_ob rfl in_X1 10 (by decide) q167 rfl rfl dX1_count_67 ?_
        refine lv_if_eq (tgt := 80) hx hb dX1_count_70 (by decide) (fun c => ?_) (fun c => ?_)
        · have hf := if_p c hf
          refine lv_iconst (v := (-1 : Int32)) hx hb dX1_count_80 (by decide) ?_
          exact hret _ _ _ _ _ dX1_count_81 (w6_mv (so_e hf).2 I) (so_e hf).1 rfl
        · have hf := if_n c hf
          refine lv_aload_n hx hb dX1_count_73 rfl (lv_at hl 0 rfl) ?_
          refine w6_get F I xo_ob rfl in_X1 5 (by decide) q162 rfl rfl dX1_count_74 ?_
          refine lv_goto (tgt := 81) hx hb dX1_count_77 (by decide) ?_
          exact hret _ _ _ _ _ dX1_count_81 (w6_mv (so_e hf).2 I) (so_e hf).1 rfl
      · have hf := if_n c2 hf
        by_cases c3 : p1.toInt = 3
        · have hf := if_p c3 hf
          refine lv_tableIn (off := 81) (tgt := 82) hx hb dX1_count_1 (by omega) (by omega) (by rw [c3]; rfl) (by decide) ?_
          refine lv_aload_n hx hb dX1_count_82 rfl (lv_at hl 0 rfl) ?_
          refine w6_get F I xo_ob rfl in_X1 6 (by decide) q163 rfl rfl dX1_count_83 ?_
          exact hret _ _ _ _ _ dX1_count_86 (w6_mv (so_e hf).2 I) (so_e hf).1 rfl
        · have hf := if_n c3 hf
          by_cases c4 : p1.toInt = 4
          · have hf := if_p c4 hf
            refine lv_tableIn (off := 86) (tgt := 87) hx hb dX1_count_1 (by omega) (by omega) (by rw [c4]; rfl) (by decide) ?_
            refine lv_aload_n hx hb dX1_count_87 rfl (lv_at hl 0 rfl) ?_
            refine w6_get F I xo_ob rfl in_X1 8 (by decide) q165 rfl rfl dX1_count_88 ?_
            exact hret _ _ _ _ _ dX1_count_91 (w6_mv (so_e hf).2 I) (so_e hf).1 rfl
          · have hf := if_n c4 hf
            by_cases c5 : p1.toInt = 5
            · have hf := if_p c5 hf
              refine lv_tableIn (off := 91) (tgt := 92) hx hb dX1_count_1 (by omega) (by omega) (by rw [c5]; rfl) (by decide) ?_
              refine lv_aload_n hx hb dX1_count_92 rfl (lv_at hl 0 rfl) ?_
              refine w6_get F I xo_ob rfl in_X1 24 (by decide) q181 rfl rfl dX1_count_93 ?_
              exact hret _ _ _ _ _ dX1_count_96 (w6_mv (so_e hf).2 I) (so_e hf).1 rfl
            · have hf := if_n c5 hf
              by_cases c6 : p1.toInt = 6
              · have hf := if_p c6 hf
                refine lv_tableIn (off := 96) (tgt := 97) hx hb dX1_count_1 (by omega) (by omega) (by rw [c6]; rfl) (by decide) ?_
                refine lv_aload_n hx hb dX1_count_97 rfl (lv_at hl 0 rfl) ?_
                refine w6_get F I xo_ob rfl in_X1 12 (by decide) q169 rfl rfl dX1_count_98 ?_
                exact hret _ _ _ _ _ dX1_count_101 (w6_mv (so_e hf).2 I) (so_e hf).1 rfl
              · have hf := if_n c6 hf
                by_cases c7 : p1.toInt = 7
                · have hf := if_p c7 hf
                  refine lv_tableIn (off := 101) (tgt := 102) hx hb dX1_count_1 (by omega) (by omega) (by rw [c7]; rfl) (by decide) ?_
                  refine lv_aload_n hx hb dX1_count_102 rfl (lv_at hl 0 rfl) ?_
                  refine w6_get F I xo_ob rfl in_X1 9 (by decide) q166 rfl rfl dX1_count_103 ?_
                  exact hret _ _ _ _ _ dX1_count_106 (w6_mv (so_e hf).2 I) (so_e hf).1 rfl
                · have hf := if_n c7 hf
                  refine lv_tableOut (tgt := 107) hx hb dX1_count_1 (by omega) (by decide) ?_
                  refine lv_iconst (v := (-1 : Int32)) hx hb dX1_count_107 (by decide) ?_
                  exact hret _ _ _ _ _ dX1_count_108 (w6_mv (so_e hf).2 I) (so_e hf).1 rfl
def x_served (V : Mm) (p1 : Int32) (p2 : Int32) : Option (Int32 × Mm) :=
  if (px_isTeam p1) = (0 : Int32) then (some ((-1 : Int32), V)) else (if (px_isPlayer p2) = (0 : Int32) then (some ((-1 : Int32), V)) else (gd_ (ix_ p1 2) (gd_ (ix_ p2 12) (some ((V.1 (3 + 9 * p1.toNatClampNeg + 4) p2.toNatClampNeg), V)))))
theorem hdX1_served : w6_hd yX1_served 2 := by decide +kernel
abbrev rmX1_served : Room := { frames := 2, cells := 0, slots := 0, locals := 45 }
set_option maxHeartbeats 4000000 in
set_option maxRecDepth 100000 in
theorem ctx_served (l : Launch) (D : va_G) (g : Nat → ClassId) (ad : Nat → Nat) (V : Mm) (p1 : Int32) (p2 : Int32) (r : Int32) (V' : Mm) (hf : x_served V p1 p2 = some (r, V'))  : CTi l D g yX1_served cX1_served 3 .int rmX1_served [.ref (ad 0), .int p1, .int p2] (xw g ad V) (xw g ad V') r := by
  intro sz
  refine w6_starti RX1 (by decide) (Nat.le_of_ble_eq_true rfl) rfl ?_
  intro p e s m below meth c A ls Q hx hb hown hts F I hl hret
  have hl : lv_has ls 3 [(0, .ref (ad 0)), (1, .int p1), (2, .int p2)] := hl
  unfold x_served at hf
  refine lv_iload_n hx hb dX1_served_0 rfl (lv_at hl 1 rfl) ?_
  refine xz_Pi F I (ctpx_isTeam l D g p1 _ rfl) (lw_S q237 q238 q47 q239) hdX1_isTeam (Nat.le_of_ble_eq_true rfl) (Nat.le_of_ble_eq_true rfl) rfl hl.1 [] rfl (Nat.le_of_ble_eq_true rfl) dX1_served_1 ⟨Nat.le_of_ble_eq_true rfl, Nat.le_of_ble_eq_true rfl⟩ (fun H locs I => ?_)
  refine lv_if_eq (tgt := 28) hx hb dX1_served_4 (by decide) (fun c => ?_) (fun c => ?_)
  · have hf := if_p c hf
    refine lv_iconst (v := (-1 : Int32)) hx hb dX1_served_28 (by decide) ?_
    exact hret _ _ _ _ _ dX1_served_29 (w6_mv (so_e hf).2 I) (so_e hf).1 rfl
  · have hf := if_n c hf
    refine lv_iload_n hx hb dX1_served_7 rfl (lv_at hl 2 rfl) ?_
    refine xz_Pi F I (ctpx_isPlayer l D g p2 _ rfl) (lw_S q240 q241 q47 q242) hdX1_isPlayer (Nat.le_of_ble_eq_true rfl) (Nat.le_of_ble_eq_true rfl) rfl hl.1 [] rfl (Nat.le_of_ble_eq_true rfl) dX1_served_8 ⟨Nat.le_of_ble_eq_true rfl, Nat.le_of_ble_eq_true rfl⟩ (fun H locs I => ?_)
    refine lv_if_eq (tgt := 28) hx hb dX1_served_11 (by decide) (fun c => ?_) (fun c => ?_)
    · have hf := if_p c hf
      refine lv_iconst (v := (-1 : Int32)) hx hb dX1_served_28 (by decide) ?_
      exact hret _ _ _ _ _ dX1_served_29 (w6_mv (so_e hf).2 I) (so_e hf).1 rfl
    · have hf := if_n c hf
      refine lv_aload_n hx hb dX1_served_14 rfl (lv_at hl 0 rfl) ?_
      refine w6_get F I xo_ob rfl in_X1 0 (by decide) q157 rfl rfl dX1_served_15 ?_
      refine lv_iload_n hx hb dX1_served_18 rfl (lv_at hl 1 rfl) ?_
      obtain ⟨g1, hf⟩ := gd_e hf
      refine w6_aald (j := p1.toNatClampNeg) F I x_sides rfl rfl g1 rfl dX1_served_19 ?_
      have s2 : isSide (3 + 9 * p1.toNatClampNeg) := isSide_s (ix_l g1 (rfl : _ = p1.toNatClampNeg))
      refine w6_getN F I (so_ob s2) rfl in_X2 3 (by decide) (List.mem_of_getElem? (i := 2) rfl) rfl rfl dX1_served_20 ?_
      refine lv_iload_n hx hb dX1_served_23 rfl (lv_at hl 2 rfl) ?_
      obtain ⟨g3, hf⟩ := gd_e hf
      refine w6_iald (j := p2.toNatClampNeg) F I (s_ar s2 4 12 (by decide) rfl) g3 rfl dX1_served_24 ?_
      refine lv_goto (tgt := 29) hx hb dX1_served_25 (by decide) ?_
      exact hret _ _ _ _ _ dX1_served_29 (w6_mv (so_e hf).2 I) (so_e hf).1 rfl
def x_feet (V : Mm) (p1 : Int32) (p2 : Int32) (p3 : Int32) (p4 : Int32) : Option (Int32 × Mm) :=
  if (px_isTeam p1) = (0 : Int32) then (some ((0 : Int32), V)) else (if (px_isPlace p2) = (0 : Int32) then (some ((0 : Int32), V)) else (if (px_in (p3.toInt64) (0 : Int64) (999 : Int64)) = (0 : Int32) then (some ((0 : Int32), V)) else (if (px_in (p4.toInt64) (0 : Int64) (999 : Int64)) = (0 : Int32) then (some ((0 : Int32), V)) else (if (V.1 0 10) = (0 : Int32) then (some ((0 : Int32), V)) else (gd_ (ix_ p1 2) (gd_ (ix_ p2 6) (lt_ (mset V (3 + 9 * p1.toNatClampNeg + 5) p2.toNatClampNeg p3) fun V4 => gd_ (ix_ p1 2) (gd_ (ix_ p2 6) (lt_ (mset V4 (3 + 9 * p1.toNatClampNeg + 6) p2.toNatClampNeg p4) fun V8 => some ((1 : Int32), V8))))))))))
theorem hdX1_feet : w6_hd yX1_feet 4 := by decide +kernel
abbrev rmX1_feet : Room := { frames := 2, cells := 0, slots := 0, locals := 45 }
set_option maxHeartbeats 4000000 in
set_option maxRecDepth 100000 in
theorem ctx_feet (l : Launch) (D : va_G) (g : Nat → ClassId) (ad : Nat → Nat) (V : Mm) (p1 : Int32) (p2 : Int32) (p3 : Int32) (p4 : Int32) (r : Int32) (V' : Mm) (hf : x_feet V p1 p2 p3 p4 = some (r, V'))  : CTi l D g yX1_feet cX1_feet 5 .boolean rmX1_feet [.ref (ad 0), .int p1, .int p2, .int p3, .int p4] (xw g ad V) (xw g ad V') r := by
  intro sz
  refine w6_starti RX1 (by decide) (Nat.le_of_ble_eq_true rfl) rfl ?_
  intro p e s m below meth c A ls Q hx hb hown hts F I hl hret
  have hl : lv_has ls 5 [(0, .ref (ad 0)), (1, .int p1), (2, .int p2), (3, .int p3), (4, .int p4)] := hl
  unfold x_feet at hf
  refine lv_iload_n hx hb dX1_feet_0 rfl (lv_at hl 1 rfl) ?_
  refine xz_Pi F I (ctpx_isTeam l D g p1 _ rfl) (lw_S q237 q238 q47 q239) hdX1_isTeam (Nat.le_of_ble_eq_true rfl) (Nat.le_of_ble_eq_true rfl) rfl hl.1 [] rfl (Nat.le_of_ble_eq_true rfl) dX1_feet_1 ⟨Nat.le_of_ble_eq_true rfl, Nat.le_of_ble_eq_true rfl⟩ (fun H locs I => ?_)
  refine lv_if_eq (tgt := 46) hx hb dX1_feet_4 (by decide) (fun c => ?_) (fun c => ?_)
  · have hf := if_p c hf
    refine lv_iconst (v := (0 : Int32)) hx hb dX1_feet_46 (by decide) ?_
    exact hret _ _ _ _ _ dX1_feet_47 (w6_mv (so_e hf).2 I) (so_e hf).1 rfl
  · have hf := if_n c hf
    refine lv_iload_n hx hb dX1_feet_7 rfl (lv_at hl 2 rfl) ?_
    refine xz_Pi F I (ctpx_isPlace l D g p2 _ rfl) (lw_S q353 q354 q47 q355) hdX1_isPlace (Nat.le_of_ble_eq_true rfl) (Nat.le_of_ble_eq_true rfl) rfl hl.1 [] rfl (Nat.le_of_ble_eq_true rfl) dX1_feet_8 ⟨Nat.le_of_ble_eq_true rfl, Nat.le_of_ble_eq_true rfl⟩ (fun H locs I => ?_)
    refine lv_if_eq (tgt := 46) hx hb dX1_feet_11 (by decide) (fun c => ?_) (fun c => ?_)
    · have hf := if_p c hf
      refine lv_iconst (v := (0 : Int32)) hx hb dX1_feet_46 (by decide) ?_
      exact hret _ _ _ _ _ dX1_feet_47 (w6_mv (so_e hf).2 I) (so_e hf).1 rfl
    · have hf := if_n c hf
      refine lv_iload_n hx hb dX1_feet_14 rfl (lv_at hl 3 rfl) ?_
      refine lv_i2l (v := (p3.toInt64)) hx hb dX1_feet_15 rfl ?_
      refine lv_lconst (v := (0 : Int64)) hx hb dX1_feet_16 (by decide) ?_
      refine lv_ldc2 hx hb hown (hts _ q372) dX1_feet_17 ?_
      refine xz_Pi F I (ctpx_in l D g (p3.toInt64) (0 : Int64) (999 : Int64) _ rfl) (lw_S q244 q245 q47 q246) hdX1_in (Nat.le_of_ble_eq_true rfl) (Nat.le_of_ble_eq_true rfl) rfl hl.1 [] rfl (Nat.le_of_ble_eq_true rfl) dX1_feet_20 ⟨Nat.le_of_ble_eq_true rfl, Nat.le_of_ble_eq_true rfl⟩ (fun H locs I => ?_)
      refine lv_if_eq (tgt := 46) hx hb dX1_feet_23 (by decide) (fun c => ?_) (fun c => ?_)
      · have hf := if_p c hf
        refine lv_iconst (v := (0 : Int32)) hx hb dX1_feet_46 (by decide) ?_
        exact hret _ _ _ _ _ dX1_feet_47 (w6_mv (so_e hf).2 I) (so_e hf).1 rfl
      · have hf := if_n c hf
        refine lv_iload hx hb dX1_feet_26 (lv_at hl 4 rfl) ?_
        refine lv_i2l (v := (p4.toInt64)) hx hb dX1_feet_28 rfl ?_
        refine lv_lconst (v := (0 : Int64)) hx hb dX1_feet_29 (by decide) ?_
        refine lv_ldc2 hx hb hown (hts _ q372) dX1_feet_30 ?_
        refine xz_Pi F I (ctpx_in l D g (p4.toInt64) (0 : Int64) (999 : Int64) _ rfl) (lw_S q244 q245 q47 q246) hdX1_in (Nat.le_of_ble_eq_true rfl) (Nat.le_of_ble_eq_true rfl) rfl hl.1 [] rfl (Nat.le_of_ble_eq_true rfl) dX1_feet_33 ⟨Nat.le_of_ble_eq_true rfl, Nat.le_of_ble_eq_true rfl⟩ (fun H locs I => ?_)
        refine lv_if_eq (tgt := 46) hx hb dX1_feet_36 (by decide) (fun c => ?_) (fun c => ?_)
        · have hf := if_p c hf
          refine lv_iconst (v := (0 : Int32)) hx hb dX1_feet_46 (by decide) ?_
          exact hret _ _ _ _ _ dX1_feet_47 (w6_mv (so_e hf).2 I) (so_e hf).1 rfl
        · have hf := if_n c hf
          refine lv_aload_n hx hb dX1_feet_39 rfl (lv_at hl 0 rfl) ?_
          refine w6_get F I xo_ob rfl in_X1 10 (by decide) q167 rfl rfl dX1_feet_40 ?_
          refine lv_if_ne (tgt := 48) hx hb dX1_feet_43 (by decide) (fun c => ?_) (fun c => ?_)
          · have hf := if_n c hf
            refine lv_aload_n hx hb dX1_feet_48 rfl (lv_at hl 0 rfl) ?_
            refine w6_get F I xo_ob rfl in_X1 0 (by decide) q157 rfl rfl dX1_feet_49 ?_
            refine lv_iload_n hx hb dX1_feet_52 rfl (lv_at hl 1 rfl) ?_
            obtain ⟨g1, hf⟩ := gd_e hf
            refine w6_aald (j := p1.toNatClampNeg) F I x_sides rfl rfl g1 rfl dX1_feet_53 ?_
            have s2 : isSide (3 + 9 * p1.toNatClampNeg) := isSide_s (ix_l g1 (rfl : _ = p1.toNatClampNeg))
            refine w6_getN F I (so_ob s2) rfl in_X2 4 (by decide) (List.mem_of_getElem? (i := 3) rfl) rfl rfl dX1_feet_54 ?_
            refine lv_iload_n hx hb dX1_feet_57 rfl (lv_at hl 2 rfl) ?_
            refine lv_iload_n hx hb dX1_feet_58 rfl (lv_at hl 3 rfl) ?_
            obtain ⟨g3, hf⟩ := gd_e hf
            obtain ⟨V4, eV4, hf⟩ := lt_e hf
            refine w6_iast (j := p2.toNatClampNeg) xsh_lc F I (s_ar s2 5 6 (by decide) rfl) g3 rfl dX1_feet_59 eV4 (fun H locs I => ?_)
            refine lv_aload_n hx hb dX1_feet_60 rfl (lv_at hl 0 rfl) ?_
            refine w6_get F I xo_ob rfl in_X1 0 (by decide) q157 rfl rfl dX1_feet_61 ?_
            refine lv_iload_n hx hb dX1_feet_64 rfl (lv_at hl 1 rfl) ?_
            obtain ⟨g5, hf⟩ := gd_e hf
            refine w6_aald (j := p1.toNatClampNeg) F I x_sides rfl rfl g5 rfl dX1_feet_65 ?_
            have s6 : isSide (3 + 9 * p1.toNatClampNeg) := isSide_s (ix_l g5 (rfl : _ = p1.toNatClampNeg))
            refine w6_getN F I (so_ob s6) rfl in_X2 5 (by decide) (List.mem_of_getElem? (i := 4) rfl) rfl rfl dX1_feet_66 ?_
            refine lv_iload_n hx hb dX1_feet_69 rfl (lv_at hl 2 rfl) ?_
            refine lv_iload hx hb dX1_feet_70 (lv_at hl 4 rfl) ?_
            obtain ⟨g7, hf⟩ := gd_e hf
            obtain ⟨V8, eV8, hf⟩ := lt_e hf
            refine w6_iast (j := p2.toNatClampNeg) xsh_lc F I (s_ar s6 6 6 (by decide) rfl) g7 rfl dX1_feet_72 eV8 (fun H locs I => ?_)
            refine lv_iconst (v := (1 : Int32)) hx hb dX1_feet_73 (by decide) ?_
            exact hret _ _ _ _ _ dX1_feet_74 (w6_mv (so_e hf).2 I) (so_e hf).1 rfl
          · have hf := if_p c hf
            refine lv_iconst (v := (0 : Int32)) hx hb dX1_feet_46 (by decide) ?_
            exact hret _ _ _ _ _ dX1_feet_47 (w6_mv (so_e hf).2 I) (so_e hf).1 rfl
def x_overlap_j35 (p1 : Int32) (V : Mm)  (s0 : Int32) : Option (Int32 × Mm) :=
  bi_ (d_overlaps (3 + 9 * p1.toNatClampNeg) V s0) fun r5 V3 => if (0 : Int32) ≤ r5 then (some (r5, V3)) else (some ((-2 : Int32), V3))
def x_overlap (V : Mm) (p1 : Int32) : Option (Int32 × Mm) :=
  if (px_isTeam p1) = (0 : Int32) then (some ((-1 : Int32), V)) else (if (V.1 0 10) = (0 : Int32) then (some ((-1 : Int32), V)) else (gd_ (ix_ p1 2) (if (V.1 0 5) = p1 then (x_overlap_j35 p1 V (1 : Int32)) else (x_overlap_j35 p1 V (0 : Int32)))))
theorem hdX1_overlap : w6_hd yX1_overlap 1 := by decide +kernel
abbrev rmX1_overlap : Room := { frames := 1, cells := 0, slots := 0, locals := 23 }
set_option maxHeartbeats 4000000 in
set_option maxRecDepth 100000 in
theorem ctx_overlap (l : Launch) (D : va_G) (g : Nat → ClassId) (ad : Nat → Nat) (V : Mm) (p1 : Int32) (r : Int32) (V' : Mm) (hf : x_overlap V p1 = some (r, V'))  : CTi l D g yX1_overlap cX1_overlap 3 .int rmX1_overlap [.ref (ad 0), .int p1] (xw g ad V) (xw g ad V') r := by
  intro sz
  refine w6_starti RX1 (by decide) (Nat.le_of_ble_eq_true rfl) rfl ?_
  intro p e s m below meth c A ls Q hx hb hown hts F I hl hret
  have hl : lv_has ls 3 [(0, .ref (ad 0)), (1, .int p1)] := hl
  have hJ35 : ∀ (V : Mm) (s0 : Int32) (H : Heap) (locs : List Loc) (ls : Array Slot) (hs0 : isSide (3 + 9 * p1.toNatClampNeg)), x_overlap_j35 p1 V s0 = some (r, V') → w6_I D (xw g ad V ++ []) A s H locs → lv_has ls 3 [] → W p l e rmX1_overlap s m ([.ref (ad 0), .int p1] : List Value).toArray below meth c H locs 0 0 Q (F0 m 35 ls [.int s0, .ref (ad (3 + 9 * p1.toNatClampNeg))]) := by
    intro V s0 H locs ls hs0 hf I hl
    unfold x_overlap_j35 at hf
    obtain ⟨r5, V3, h4, hf⟩ := bi_e hf
    refine xz_Vi F I (ctd_overlaps l D g ad (3 + 9 * p1.toNatClampNeg) V s0 r5 V3 h4 hs0) (lw_V q377 q378 q379 q48 q380) hdX2_overlaps rfl (Nat.le_of_ble_eq_true rfl) (Nat.le_of_ble_eq_true rfl) (w6_recv F I (so_ob hs0) rfl) rfl hl.1 [] rfl (Nat.le_of_ble_eq_true rfl) dX1_overlap_35 ⟨Nat.le_of_ble_eq_true rfl, Nat.le_of_ble_eq_true rfl⟩ (fun H locs I => ?_)
    refine lv_istore_n (lv' := [(2, .int r5)]) hx hb dX1_overlap_38 rfl hl (by decide) rfl (fun ls hl => ?_)
    refine lv_iload_n hx hb dX1_overlap_39 rfl (lv_at hl 0 rfl) ?_
    refine lv_if_ge (tgt := 48) hx hb dX1_overlap_40 (by decide) (fun c => ?_) (fun c => ?_)
    · have hf := if_p c hf
      refine lv_iload_n hx hb dX1_overlap_48 rfl (lv_at hl 0 rfl) ?_
      exact hret _ _ _ _ _ dX1_overlap_49 (w6_mv (so_e hf).2 I) (so_e hf).1 rfl
    · have hf := if_n c hf
      refine lv_bipush (v := (-2 : Int32)) hx hb dX1_overlap_43 (by decide) ?_
      refine lv_goto (tgt := 49) hx hb dX1_overlap_45 (by decide) ?_
      exact hret _ _ _ _ _ dX1_overlap_49 (w6_mv (so_e hf).2 I) (so_e hf).1 rfl
  unfold x_overlap at hf
  refine lv_iload_n hx hb dX1_overlap_0 rfl (lv_at hl 1 rfl) ?_
  refine xz_Pi F I (ctpx_isTeam l D g p1 _ rfl) (lw_S q237 q238 q47 q239) hdX1_isTeam (Nat.le_of_ble_eq_true rfl) (Nat.le_of_ble_eq_true rfl) rfl hl.1 [] rfl (Nat.le_of_ble_eq_true rfl) dX1_overlap_1 ⟨Nat.le_of_ble_eq_true rfl, Nat.le_of_ble_eq_true rfl⟩ (fun H locs I => ?_)
  refine lv_if_eq (tgt := 14) hx hb dX1_overlap_4 (by decide) (fun c => ?_) (fun c => ?_)
  · have hf := if_p c hf
    refine lv_iconst (v := (-1 : Int32)) hx hb dX1_overlap_14 (by decide) ?_
    exact hret _ _ _ _ _ dX1_overlap_15 (w6_mv (so_e hf).2 I) (so_e hf).1 rfl
  · have hf := if_n c hf
    refine lv_aload_n hx hb dX1_overlap_7 rfl (lv_at hl 0 rfl) ?_
    refine w6_get F I xo_ob rfl in_X1 10 (by decide) q167 rfl rfl dX1_overlap_8 ?_
    refine lv_if_ne (tgt := 16) hx hb dX1_overlap_11 (by decide) (fun c => ?_) (fun c => ?_)
    · have hf := if_n c hf
      refine lv_aload_n hx hb dX1_overlap_16 rfl (lv_at hl 0 rfl) ?_
      refine w6_get F I xo_ob rfl in_X1 0 (by decide) q157 rfl rfl dX1_overlap_17 ?_
      refine lv_iload_n hx hb dX1_overlap_20 rfl (lv_at hl 1 rfl) ?_
      obtain ⟨g1, hf⟩ := gd_e hf
      refine w6_aald (j := p1.toNatClampNeg) F I x_sides rfl rfl g1 rfl dX1_overlap_21 ?_
      have s2 : isSide (3 + 9 * p1.toNatClampNeg) := isSide_s (ix_l g1 (rfl : _ = p1.toNatClampNeg))
      refine lv_aload_n hx hb dX1_overlap_22 rfl (lv_at hl 0 rfl) ?_
      refine w6_get F I xo_ob rfl in_X1 5 (by decide) q162 rfl rfl dX1_overlap_23 ?_
      refine lv_iload_n hx hb dX1_overlap_26 rfl (lv_at hl 1 rfl) ?_
      refine lv_icmp_ne (tgt := 34) hx hb dX1_overlap_27 (by decide) (fun c => ?_) (fun c => ?_)
      · have hf := if_n c hf
        refine lv_iconst (v := (0 : Int32)) hx hb dX1_overlap_34 (by decide) ?_
        exact hJ35 V (0 : Int32) _ _ ls s2 hf I (lv_sub hl [] rfl)
      · have hf := if_p c hf
        refine lv_iconst (v := (1 : Int32)) hx hb dX1_overlap_30 (by decide) ?_
        refine lv_goto (tgt := 35) hx hb dX1_overlap_31 (by decide) ?_
        exact hJ35 V (1 : Int32) _ _ ls s2 hf I (lv_sub hl [] rfl)
    · have hf := if_p c hf
      refine lv_iconst (v := (-1 : Int32)) hx hb dX1_overlap_14 (by decide) ?_
      exact hret _ _ _ _ _ dX1_overlap_15 (w6_mv (so_e hf).2 I) (so_e hf).1 rfl
def x_sign_j48 (p1 : Int32) (V : Mm)   : Option (Int32 × Mm) :=
  lt_ (mset V 0 12 ((V.1 0 12) + (4 : Int32))) fun V1 => some ((V1.1 0 12), V1)
def x_sign_l13 (p1 : Int32) : Nat → Mm → Int32 → Option (Int32 × Mm)
  | 0, _, _ => none
  | n13 + 1, V, a2 =>
  if (4 : Int32) ≤ a2 then (x_sign_j48 p1 V) else (gd_ (ix_ ((V.1 0 12) + a2) 100) (lt_ (mset V 67 (((V.1 0 12) + a2).toNatClampNeg) ((p1 >>> (((24 : Int32) - ((8 : Int32) * a2)) &&& 31)) &&& (255 : Int32))) fun V3 => lt_ (a2 + (1 : Int32)) fun v4 => x_sign_l13 p1 n13 V3 v4))
def x_sign (V : Mm) (p1 : Int32) : Option (Int32 × Mm) :=
  if (V.1 0 12) ≤ (96 : Int32) then (x_sign_l13 p1 200 V (0 : Int32)) else (some ((-1 : Int32), V))
theorem hdX1_sign : w6_hd yX1_sign 1 := by decide +kernel
abbrev rmX1_sign : Room := { frames := 0, cells := 0, slots := 0, locals := 0 }
set_option maxHeartbeats 4000000 in
set_option maxRecDepth 100000 in
theorem ctx_sign (l : Launch) (D : va_G) (g : Nat → ClassId) (ad : Nat → Nat) (V : Mm) (p1 : Int32) (r : Int32) (V' : Mm) (hf : x_sign V p1 = some (r, V'))  : CTi l D g yX1_sign cX1_sign 3 .int rmX1_sign [.ref (ad 0), .int p1] (xw g ad V) (xw g ad V') r := by
  intro sz
  refine w6_starti RX1 (by decide) (Nat.le_of_ble_eq_true rfl) rfl ?_
  intro p e s m below meth c A ls Q hx hb hown hts F I hl hret
  have hl : lv_has ls 3 [(0, .ref (ad 0)), (1, .int p1)] := hl
  have hJ48 : ∀ (V : Mm)  (H : Heap) (locs : List Loc) (ls : Array Slot), x_sign_j48 p1 V = some (r, V') → w6_I D (xw g ad V ++ []) A s H locs → lv_has ls 3 [(0, .ref (ad 0))] → W p l e rmX1_sign s m ([.ref (ad 0), .int p1] : List Value).toArray below meth c H locs 0 0 Q (F0 m 48 ls []) := by
    intro V H locs ls hf I hl
    unfold x_sign_j48 at hf
    refine lv_aload_n hx hb dX1_sign_48 rfl (lv_at hl 0 rfl) ?_
    refine lv_dup hx hb dX1_sign_49 rfl ?_
    refine w6_get F I xo_ob rfl in_X1 12 (by decide) q169 rfl rfl dX1_sign_50 ?_
    refine lv_iconst (v := (4 : Int32)) hx hb dX1_sign_53 (by decide) ?_
    refine lv_iadd hx hb dX1_sign_54 ?_
    obtain ⟨V1, eV1, hf⟩ := lt_e hf
    refine w6_put xsh_lc F I xo_ob rfl in_X1 tyX1 tyX1_ok nmX1 12 (by decide) (xo_nf 12 (by decide)) q169 rfl rfl (tyX1_ok 12 (by decide)) rfl rfl dX1_sign_55 eV1 (fun H locs I => ?_)
    refine lv_aload_n hx hb dX1_sign_58 rfl (lv_at hl 0 rfl) ?_
    refine w6_get F I xo_ob rfl in_X1 12 (by decide) q169 rfl rfl dX1_sign_59 ?_
    exact hret _ _ _ _ _ dX1_sign_62 (w6_mv (so_e hf).2 I) (so_e hf).1 rfl
  have hL13 : ∀ (n13 : Nat) (V : Mm) (a2 : Int32) (H : Heap) (locs : List Loc) (ls : Array Slot), x_sign_l13 p1 n13 V a2 = some (r, V') → w6_I D (xw g ad V ++ []) A s H locs → lv_has ls 3 [(0, .ref (ad 0)), (1, .int p1), (2, .int a2)] → W p l e rmX1_sign s m ([.ref (ad 0), .int p1] : List Value).toArray below meth c H locs 0 0 Q (F0 m 13 ls []) := by
    intro n13
    induction n13 with
    | zero =>
      intro V a2 H locs ls hf
      rw [x_sign_l13] at hf
      cases hf
    | succ n13 ih13 =>
      intro V a2 H locs ls hf I hl
      rw [x_sign_l13] at hf
      refine lv_iload_n hx hb dX1_sign_13 rfl (lv_at hl 2 rfl) ?_
      refine lv_iconst (v := (4 : Int32)) hx hb dX1_sign_14 (by decide) ?_
      refine lv_icmp_ge (tgt := 48) hx hb dX1_sign_15 (by decide) (fun c => ?_) (fun c => ?_)
      · have hf := if_p c hf
        exact hJ48 V _ _ ls hf I (lv_sub hl [0] rfl)
      · have hf := if_n c hf
        refine lv_aload_n hx hb dX1_sign_18 rfl (lv_at hl 0 rfl) ?_
        refine w6_get F I xo_ob rfl in_X1 11 (by decide) q168 rfl rfl dX1_sign_19 ?_
        refine lv_aload_n hx hb dX1_sign_22 rfl (lv_at hl 0 rfl) ?_
        refine w6_get F I xo_ob rfl in_X1 12 (by decide) q169 rfl rfl dX1_sign_23 ?_
        refine lv_iload_n hx hb dX1_sign_26 rfl (lv_at hl 2 rfl) ?_
        refine lv_iadd hx hb dX1_sign_27 ?_
        refine lv_iload_n hx hb dX1_sign_28 rfl (lv_at hl 1 rfl) ?_
        refine lv_bipush (v := (24 : Int32)) hx hb dX1_sign_29 (by decide) ?_
        refine lv_bipush (v := (8 : Int32)) hx hb dX1_sign_31 (by decide) ?_
        refine lv_iload_n hx hb dX1_sign_33 rfl (lv_at hl 2 rfl) ?_
        refine lv_imul hx hb dX1_sign_34 ?_
        refine lv_isub hx hb dX1_sign_35 ?_
        refine lv_ishr hx hb dX1_sign_36 ?_
        refine lv_sipush (v := (255 : Int32)) hx hb dX1_sign_37 (by decide) ?_
        refine lv_iand hx hb dX1_sign_40 ?_
        obtain ⟨g2, hf⟩ := gd_e hf
        obtain ⟨V3, eV3, hf⟩ := lt_e hf
        refine w6_iast (j := ((V.1 0 12) + a2).toNatClampNeg) xsh_lc F I (x_ar 67 100 (by decide) rfl) g2 rfl dX1_sign_41 eV3 (fun H locs I => ?_)
        obtain ⟨v4, ev4, hf⟩ := lt_e hf
        refine lv_iinc (v := v4) (lv' := [(2, .int v4), (0, .ref (ad 0)), (1, .int p1)]) hx hb dX1_sign_42 hl (k := 2) rfl (by rw [ev4]; rfl) (by decide) rfl (fun ls hl => ?_)
        refine lv_goto (tgt := 13) hx hb dX1_sign_45 (by decide) ?_
        exact ih13 V3 v4 _ _ ls hf I (lv_sub hl [1, 2, 0] rfl)
  unfold x_sign at hf
  refine lv_aload_n hx hb dX1_sign_0 rfl (lv_at hl 0 rfl) ?_
  refine w6_get F I xo_ob rfl in_X1 12 (by decide) q169 rfl rfl dX1_sign_1 ?_
  refine lv_bipush (v := (96 : Int32)) hx hb dX1_sign_4 (by decide) ?_
  refine lv_icmp_le (tgt := 11) hx hb dX1_sign_6 (by decide) (fun c => ?_) (fun c => ?_)
  · have hf := if_p c hf
    refine lv_iconst (v := (0 : Int32)) hx hb dX1_sign_11 (by decide) ?_
    refine lv_istore_n (lv' := [(2, .int (0 : Int32)), (0, .ref (ad 0)), (1, .int p1)]) hx hb dX1_sign_12 rfl hl (by decide) rfl (fun ls hl => ?_)
    exact hL13 200 V (0 : Int32) _ _ ls hf I (lv_sub hl [1, 2, 0] rfl)
  · have hf := if_n c hf
    refine lv_iconst (v := (-1 : Int32)) hx hb dX1_sign_9 (by decide) ?_
    exact hret _ _ _ _ _ dX1_sign_10 (w6_mv (so_e hf).2 I) (so_e hf).1 rfl
def x_end (V : Mm) (p1 : Int32) : Option (Int32 × Mm) :=
  if (px_in (p1.toInt64) (0 : Int64) ((V.1 0 12).toInt64)) = (0 : Int32) then (some ((0 : Int32), V)) else (lt_ (mset V 0 12 p1) fun V1 => some ((1 : Int32), V1))
theorem hdX1_end : w6_hd yX1_end 1 := by decide +kernel
abbrev rmX1_end : Room := { frames := 1, cells := 0, slots := 0, locals := 25 }
set_option maxHeartbeats 4000000 in
set_option maxRecDepth 100000 in
theorem ctx_end (l : Launch) (D : va_G) (g : Nat → ClassId) (ad : Nat → Nat) (V : Mm) (p1 : Int32) (r : Int32) (V' : Mm) (hf : x_end V p1 = some (r, V'))  : CTi l D g yX1_end cX1_end 2 .boolean rmX1_end [.ref (ad 0), .int p1] (xw g ad V) (xw g ad V') r := by
  intro sz
  refine w6_starti RX1 (by decide) (Nat.le_of_ble_eq_true rfl) rfl ?_
  intro p e s m below meth c A ls Q hx hb hown hts F I hl hret
  have hl : lv_has ls 2 [(0, .ref (ad 0)), (1, .int p1)] := hl
  unfold x_end at hf
  refine lv_iload_n hx hb dX1_end_0 rfl (lv_at hl 1 rfl) ?_
  refine lv_i2l (v := (p1.toInt64)) hx hb dX1_end_1 rfl ?_
  refine lv_lconst (v := (0 : Int64)) hx hb dX1_end_2 (by decide) ?_
  refine lv_aload_n hx hb dX1_end_3 rfl (lv_at hl 0 rfl) ?_
  refine w6_get F I xo_ob rfl in_X1 12 (by decide) q169 rfl rfl dX1_end_4 ?_
  refine lv_i2l (v := ((V.1 0 12).toInt64)) hx hb dX1_end_7 rfl ?_
  refine xz_Pi F I (ctpx_in l D g (p1.toInt64) (0 : Int64) ((V.1 0 12).toInt64) _ rfl) (lw_S q244 q245 q47 q246) hdX1_in (Nat.le_of_ble_eq_true rfl) (Nat.le_of_ble_eq_true rfl) rfl hl.1 [] rfl (Nat.le_of_ble_eq_true rfl) dX1_end_8 ⟨Nat.le_of_ble_eq_true rfl, Nat.le_of_ble_eq_true rfl⟩ (fun H locs I => ?_)
  refine lv_if_ne (tgt := 16) hx hb dX1_end_11 (by decide) (fun c => ?_) (fun c => ?_)
  · have hf := if_n c hf
    refine lv_aload_n hx hb dX1_end_16 rfl (lv_at hl 0 rfl) ?_
    refine lv_iload_n hx hb dX1_end_17 rfl (lv_at hl 1 rfl) ?_
    obtain ⟨V1, eV1, hf⟩ := lt_e hf
    refine w6_put xsh_lc F I xo_ob rfl in_X1 tyX1 tyX1_ok nmX1 12 (by decide) (xo_nf 12 (by decide)) q169 rfl rfl (tyX1_ok 12 (by decide)) rfl rfl dX1_end_18 eV1 (fun H locs I => ?_)
    refine lv_iconst (v := (1 : Int32)) hx hb dX1_end_21 (by decide) ?_
    exact hret _ _ _ _ _ dX1_end_22 (w6_mv (so_e hf).2 I) (so_e hf).1 rfl
  · have hf := if_p c hf
    refine lv_iconst (v := (0 : Int32)) hx hb dX1_end_14 (by decide) ?_
    exact hret _ _ _ _ _ dX1_end_15 (w6_mv (so_e hf).2 I) (so_e hf).1 rfl
def x_takes_j29 (p1 : Int32) (V : Mm)  (s0 : Int32) : Option (Int32 × Mm) :=
  if s0 = (0 : Int32) then (lt_ (mset V 0 13 ((V.1 0 13) + (0 : Int32))) fun V1 => gd_ (bz_ s0) (some (s0, V1))) else (lt_ (mset V 0 13 ((V.1 0 13) + (1 : Int32))) fun V3 => gd_ (bz_ s0) (some (s0, V3)))
def x_takes_j28 (p1 : Int32) (V : Mm)   : Option (Int32 × Mm) :=
  x_takes_j29 p1 V (0 : Int32)
def x_takes (V : Mm) (p1 : Int32) : Option (Int32 × Mm) :=
  if (V.1 0 14) ≤ (V.1 0 13) then (x_takes_j28 p1 V) else (gd_ (ix_ (V.1 0 13) 100) (if (V.1 67 ((V.1 0 13).toNatClampNeg)) = p1 then (x_takes_j29 p1 V (1 : Int32)) else (x_takes_j28 p1 V)))
theorem hdX1_takes : w6_hd yX1_takes 1 := by decide +kernel
abbrev rmX1_takes : Room := { frames := 0, cells := 0, slots := 0, locals := 0 }
set_option maxHeartbeats 4000000 in
set_option maxRecDepth 100000 in
theorem ctx_takes (l : Launch) (D : va_G) (g : Nat → ClassId) (ad : Nat → Nat) (V : Mm) (p1 : Int32) (r : Int32) (V' : Mm) (hf : x_takes V p1 = some (r, V'))  : CTi l D g yX1_takes cX1_takes 3 .boolean rmX1_takes [.ref (ad 0), .int p1] (xw g ad V) (xw g ad V') r := by
  intro sz
  refine w6_starti RX1 (by decide) (Nat.le_of_ble_eq_true rfl) rfl ?_
  intro p e s m below meth c A ls Q hx hb hown hts F I hl hret
  have hl : lv_has ls 3 [(0, .ref (ad 0)), (1, .int p1)] := hl
  have hJ29 : ∀ (V : Mm) (s0 : Int32) (H : Heap) (locs : List Loc) (ls : Array Slot), x_takes_j29 p1 V s0 = some (r, V') → w6_I D (xw g ad V ++ []) A s H locs → lv_has ls 3 [(0, .ref (ad 0))] → W p l e rmX1_takes s m ([.ref (ad 0), .int p1] : List Value).toArray below meth c H locs 0 0 Q (F0 m 29 ls [.int s0]) := by
    intro V s0 H locs ls hf I hl
    unfold x_takes_j29 at hf
    refine lv_istore_n (lv' := [(2, .int s0), (0, .ref (ad 0))]) hx hb dX1_takes_29 rfl hl (by decide) rfl (fun ls hl => ?_)
    refine lv_aload_n hx hb dX1_takes_30 rfl (lv_at hl 1 rfl) ?_
    refine lv_dup hx hb dX1_takes_31 rfl ?_
    refine w6_get F I xo_ob rfl in_X1 13 (by decide) q170 rfl rfl dX1_takes_32 ?_
    refine lv_iload_n hx hb dX1_takes_35 rfl (lv_at hl 0 rfl) ?_
    refine lv_if_eq (tgt := 43) hx hb dX1_takes_36 (by decide) (fun c => ?_) (fun c => ?_)
    · have hf := if_p c hf
      refine lv_iconst (v := (0 : Int32)) hx hb dX1_takes_43 (by decide) ?_
      refine lv_iadd hx hb dX1_takes_44 ?_
      obtain ⟨V1, eV1, hf⟩ := lt_e hf
      refine w6_put xsh_lc F I xo_ob rfl in_X1 tyX1 tyX1_ok nmX1 13 (by decide) (xo_nf 13 (by decide)) q170 rfl rfl (tyX1_ok 13 (by decide)) rfl rfl dX1_takes_45 eV1 (fun H locs I => ?_)
      refine lv_iload_n hx hb dX1_takes_48 rfl (lv_at hl 0 rfl) ?_
      obtain ⟨g2, hf⟩ := gd_e hf
      exact hret _ _ _ _ _ dX1_takes_49 (w6_mv (so_e hf).2 I) (so_e hf).1 (bz_n g2)
    · have hf := if_n c hf
      refine lv_iconst (v := (1 : Int32)) hx hb dX1_takes_39 (by decide) ?_
      refine lv_goto (tgt := 44) hx hb dX1_takes_40 (by decide) ?_
      refine lv_iadd hx hb dX1_takes_44 ?_
      obtain ⟨V3, eV3, hf⟩ := lt_e hf
      refine w6_put xsh_lc F I xo_ob rfl in_X1 tyX1 tyX1_ok nmX1 13 (by decide) (xo_nf 13 (by decide)) q170 rfl rfl (tyX1_ok 13 (by decide)) rfl rfl dX1_takes_45 eV3 (fun H locs I => ?_)
      refine lv_iload_n hx hb dX1_takes_48 rfl (lv_at hl 0 rfl) ?_
      obtain ⟨g4, hf⟩ := gd_e hf
      exact hret _ _ _ _ _ dX1_takes_49 (w6_mv (so_e hf).2 I) (so_e hf).1 (bz_n g4)
  have hJ28 : ∀ (V : Mm)  (H : Heap) (locs : List Loc) (ls : Array Slot), x_takes_j28 p1 V = some (r, V') → w6_I D (xw g ad V ++ []) A s H locs → lv_has ls 3 [(0, .ref (ad 0))] → W p l e rmX1_takes s m ([.ref (ad 0), .int p1] : List Value).toArray below meth c H locs 0 0 Q (F0 m 28 ls []) := by
    intro V H locs ls hf I hl
    unfold x_takes_j28 at hf
    refine lv_iconst (v := (0 : Int32)) hx hb dX1_takes_28 (by decide) ?_
    exact hJ29 V (0 : Int32) _ _ ls hf I (lv_sub hl [0] rfl)
  unfold x_takes at hf
  refine lv_aload_n hx hb dX1_takes_0 rfl (lv_at hl 0 rfl) ?_
  refine w6_get F I xo_ob rfl in_X1 13 (by decide) q170 rfl rfl dX1_takes_1 ?_
  refine lv_aload_n hx hb dX1_takes_4 rfl (lv_at hl 0 rfl) ?_
  refine w6_get F I xo_ob rfl in_X1 14 (by decide) q171 rfl rfl dX1_takes_5 ?_
  refine lv_icmp_ge (tgt := 28) hx hb dX1_takes_8 (by decide) (fun c => ?_) (fun c => ?_)
  · have hf := if_p c hf
    exact hJ28 V _ _ ls hf I (lv_sub hl [0] rfl)
  · have hf := if_n c hf
    refine lv_aload_n hx hb dX1_takes_11 rfl (lv_at hl 0 rfl) ?_
    refine w6_get F I xo_ob rfl in_X1 11 (by decide) q168 rfl rfl dX1_takes_12 ?_
    refine lv_aload_n hx hb dX1_takes_15 rfl (lv_at hl 0 rfl) ?_
    refine w6_get F I xo_ob rfl in_X1 13 (by decide) q170 rfl rfl dX1_takes_16 ?_
    obtain ⟨g5, hf⟩ := gd_e hf
    refine w6_iald (j := (V.1 0 13).toNatClampNeg) F I (x_ar 67 100 (by decide) rfl) g5 rfl dX1_takes_19 ?_
    refine lv_iload_n hx hb dX1_takes_20 rfl (lv_at hl 1 rfl) ?_
    refine lv_icmp_ne (tgt := 28) hx hb dX1_takes_21 (by decide) (fun c => ?_) (fun c => ?_)
    · have hf := if_n c hf
      exact hJ28 V _ _ ls hf I (lv_sub hl [0] rfl)
    · have hf := if_p c hf
      refine lv_iconst (v := (1 : Int32)) hx hb dX1_takes_24 (by decide) ?_
      refine lv_goto (tgt := 29) hx hb dX1_takes_25 (by decide) ?_
      exact hJ29 V (1 : Int32) _ _ ls hf I (lv_sub hl [0] rfl)
def x_keeps_j28 (V : Mm)   : Option Mm :=
  lt_ (mset V 0 16 (V.1 0 5)) fun V1 => lt_ (mset V1 0 17 (V1.1 0 6)) fun V2 => lt_ (mset V2 0 18 (V2.1 0 7)) fun V3 => lt_ (mset V3 0 19 (V3.1 0 8)) fun V4 => lt_ (mset V4 0 20 (V4.1 0 9)) fun V5 => some V5
def x_keeps_l2 : Nat → Mm → Int32 → Option Mm
  | 0, _, _ => none
  | n2 + 1, V, a1 =>
  if (2 : Int32) ≤ a1 then (x_keeps_j28 V) else (gd_ (ix_ a1 2) (gd_ (ix_ a1 2) ((d_become (21 + 9 * a1.toNatClampNeg) V (3 + 9 * a1.toNatClampNeg)).bind fun V10 => lt_ (a1 + (1 : Int32)) fun v12 => x_keeps_l2 n2 V10 v12)))
def x_keeps (V : Mm) : Option Mm :=
  x_keeps_l2 200 V (0 : Int32)
theorem hdX1_keeps : w6_hd yX1_keeps 0 := by decide +kernel
abbrev rmX1_keeps : Room := { frames := 2, cells := 0, slots := 0, locals := 47 }
set_option maxHeartbeats 4000000 in
set_option maxRecDepth 100000 in
theorem ctx_keeps (l : Launch) (D : va_G) (g : Nat → ClassId) (ad : Nat → Nat) (V : Mm) (V' : Mm) (hf : x_keeps V = some V')  : CTv l D g yX1_keeps cX1_keeps 2 rmX1_keeps [.ref (ad 0)] (xw g ad V) (xw g ad V') := by
  intro sz
  refine w6_startv RX1 (by decide) (Nat.le_of_ble_eq_true rfl) rfl ?_
  intro p e s m below meth c A ls Q hx hb hown hts F I hl hret
  have hl : lv_has ls 2 [(0, .ref (ad 0))] := hl
  have hJ28 : ∀ (V : Mm)  (H : Heap) (locs : List Loc) (ls : Array Slot), x_keeps_j28 V = some V' → w6_I D (xw g ad V ++ []) A s H locs → lv_has ls 2 [(0, .ref (ad 0))] → W p l e rmX1_keeps s m ([.ref (ad 0)] : List Value).toArray below meth c H locs 0 0 Q (F0 m 28 ls []) := by
    intro V H locs ls hf I hl
    unfold x_keeps_j28 at hf
    refine lv_aload_n hx hb dX1_keeps_28 rfl (lv_at hl 0 rfl) ?_
    refine lv_aload_n hx hb dX1_keeps_29 rfl (lv_at hl 0 rfl) ?_
    refine w6_get F I xo_ob rfl in_X1 5 (by decide) q162 rfl rfl dX1_keeps_30 ?_
    obtain ⟨V1, eV1, hf⟩ := lt_e hf
    refine w6_put xsh_lc F I xo_ob rfl in_X1 tyX1 tyX1_ok nmX1 16 (by decide) (xo_nf 16 (by decide)) q173 rfl rfl (tyX1_ok 16 (by decide)) rfl rfl dX1_keeps_33 eV1 (fun H locs I => ?_)
    refine lv_aload_n hx hb dX1_keeps_36 rfl (lv_at hl 0 rfl) ?_
    refine lv_aload_n hx hb dX1_keeps_37 rfl (lv_at hl 0 rfl) ?_
    refine w6_get F I xo_ob rfl in_X1 6 (by decide) q163 rfl rfl dX1_keeps_38 ?_
    obtain ⟨V2, eV2, hf⟩ := lt_e hf
    refine w6_put xsh_lc F I xo_ob rfl in_X1 tyX1 tyX1_ok nmX1 17 (by decide) (xo_nf 17 (by decide)) q174 rfl rfl (tyX1_ok 17 (by decide)) rfl rfl dX1_keeps_41 eV2 (fun H locs I => ?_)
    refine lv_aload_n hx hb dX1_keeps_44 rfl (lv_at hl 0 rfl) ?_
    refine lv_aload_n hx hb dX1_keeps_45 rfl (lv_at hl 0 rfl) ?_
    refine w6_get F I xo_ob rfl in_X1 7 (by decide) q164 rfl rfl dX1_keeps_46 ?_
    obtain ⟨V3, eV3, hf⟩ := lt_e hf
    refine w6_put xsh_lc F I xo_ob rfl in_X1 tyX1 tyX1_ok nmX1 18 (by decide) (xo_nf 18 (by decide)) q175 rfl rfl (tyX1_ok 18 (by decide)) rfl rfl dX1_keeps_49 eV3 (fun H locs I => ?_)
    refine lv_aload_n hx hb dX1_keeps_52 rfl (lv_at hl 0 rfl) ?_
    refine lv_aload_n hx hb dX1_keeps_53 rfl (lv_at hl 0 rfl) ?_
    refine w6_get F I xo_ob rfl in_X1 8 (by decide) q165 rfl rfl dX1_keeps_54 ?_
    obtain ⟨V4, eV4, hf⟩ := lt_e hf
    refine w6_put xsh_lc F I xo_ob rfl in_X1 tyX1 tyX1_ok nmX1 19 (by decide) (xo_nf 19 (by decide)) q176 rfl rfl (tyX1_ok 19 (by decide)) rfl rfl dX1_keeps_57 eV4 (fun H locs I => ?_)
    refine lv_aload_n hx hb dX1_keeps_60 rfl (lv_at hl 0 rfl) ?_
    refine lv_aload_n hx hb dX1_keeps_61 rfl (lv_at hl 0 rfl) ?_
    refine w6_get F I xo_ob rfl in_X1 9 (by decide) q166 rfl rfl dX1_keeps_62 ?_
    obtain ⟨V5, eV5, hf⟩ := lt_e hf
    refine w6_put xsh_lc F I xo_ob rfl in_X1 tyX1 tyX1_ok nmX1 20 (by decide) (xo_nf 20 (by decide)) q177 rfl rfl (tyX1_ok 20 (by decide)) rfl rfl dX1_keeps_65 eV5 (fun H locs I => ?_)
    exact hret _ _ _ _ dX1_keeps_68 (w6_mv (Option.some.inj hf) I)
  have hL2 : ∀ (n2 : Nat) (V : Mm) (a1 : Int32) (H : Heap) (locs : List Loc) (ls : Array Slot), x_keeps_l2 n2 V a1 = some V' → w6_I D (xw g ad V ++ []) A s H locs → lv_has ls 2 [(0, .ref (ad 0)), (1, .int a1)] → W p l e rmX1_keeps s m ([.ref (ad 0)] : List Value).toArray below meth c H locs 0 0 Q (F0 m 2 ls []) := by
    intro n2
    induction n2 with
    | zero =>
      intro V a1 H locs ls hf
      rw [x_keeps_l2] at hf
      cases hf
    | succ n2 ih2 =>
      intro V a1 H locs ls hf I hl
      rw [x_keeps_l2] at hf
      refine lv_iload_n hx hb dX1_keeps_2 rfl (lv_at hl 1 rfl) ?_
      refine lv_iconst (v := (2 : Int32)) hx hb dX1_keeps_3 (by decide) ?_
      refine lv_icmp_ge (tgt := 28) hx hb dX1_keeps_4 (by decide) (fun c => ?_) (fun c => ?_)
      · have hf := if_p c hf
        exact hJ28 V _ _ ls hf I (lv_sub hl [0] rfl)
      · have hf := if_n c hf
        refine lv_aload_n hx hb dX1_keeps_7 rfl (lv_at hl 0 rfl) ?_
        refine w6_get F I xo_ob rfl in_X1 1 (by decide) q158 rfl rfl dX1_keeps_8 ?_
        refine lv_iload_n hx hb dX1_keeps_11 rfl (lv_at hl 1 rfl) ?_
        obtain ⟨g6, hf⟩ := gd_e hf
        refine w6_aald (j := a1.toNatClampNeg) F I x_kept rfl rfl g6 rfl dX1_keeps_12 ?_
        have s7 : isSide (21 + 9 * a1.toNatClampNeg) := isSide_k (ix_l g6 (rfl : _ = a1.toNatClampNeg))
        refine lv_aload_n hx hb dX1_keeps_13 rfl (lv_at hl 0 rfl) ?_
        refine w6_get F I xo_ob rfl in_X1 0 (by decide) q157 rfl rfl dX1_keeps_14 ?_
        refine lv_iload_n hx hb dX1_keeps_17 rfl (lv_at hl 1 rfl) ?_
        obtain ⟨g8, hf⟩ := gd_e hf
        refine w6_aald (j := a1.toNatClampNeg) F I x_sides rfl rfl g8 rfl dX1_keeps_18 ?_
        have s9 : isSide (3 + 9 * a1.toNatClampNeg) := isSide_s (ix_l g8 (rfl : _ = a1.toNatClampNeg))
        obtain ⟨V10, h11, hf⟩ := bn_e hf
        refine xz_Vv F I (ctd_become l D g ad (21 + 9 * a1.toNatClampNeg) V (3 + 9 * a1.toNatClampNeg) V10 h11 s7 s9) (lw_V q592 q593 q594 q48 q595) hdX2_become rfl (Nat.le_of_ble_eq_true rfl) (Nat.le_of_ble_eq_true rfl) (w6_recv F I (so_ob s7) rfl) rfl hl.1 [] rfl (Nat.le_of_ble_eq_true rfl) dX1_keeps_19 ⟨Nat.le_of_ble_eq_true rfl, Nat.le_of_ble_eq_true rfl⟩ (fun H locs I => ?_)
        obtain ⟨v12, ev12, hf⟩ := lt_e hf
        refine lv_iinc (v := v12) (lv' := [(1, .int v12), (0, .ref (ad 0))]) hx hb dX1_keeps_22 hl (k := 1) rfl (by rw [ev12]; rfl) (by decide) rfl (fun ls hl => ?_)
        refine lv_goto (tgt := 2) hx hb dX1_keeps_25 (by decide) ?_
        exact ih2 V10 v12 _ _ ls hf I (lv_sub hl [1, 0] rfl)
  unfold x_keeps at hf
  refine lv_iconst (v := (0 : Int32)) hx hb dX1_keeps_0 (by decide) ?_
  refine lv_istore_n (lv' := [(1, .int (0 : Int32)), (0, .ref (ad 0))]) hx hb dX1_keeps_1 rfl hl (by decide) rfl (fun ls hl => ?_)
  exact hL2 200 V (0 : Int32) _ _ ls hf I (lv_sub hl [1, 0] rfl)
def x_putsBack_j28 (V : Mm)   : Option Mm :=
  lt_ (mset V 0 5 (V.1 0 16)) fun V1 => lt_ (mset V1 0 6 (V1.1 0 17)) fun V2 => lt_ (mset V2 0 7 (V2.1 0 18)) fun V3 => lt_ (mset V3 0 8 (V3.1 0 19)) fun V4 => lt_ (mset V4 0 9 (V4.1 0 20)) fun V5 => lt_ (mset V5 0 10 (1 : Int32)) fun V6 => some V6
def x_putsBack_l2 : Nat → Mm → Int32 → Option Mm
  | 0, _, _ => none
  | n2 + 1, V, a1 =>
  if (2 : Int32) ≤ a1 then (x_putsBack_j28 V) else (gd_ (ix_ a1 2) (gd_ (ix_ a1 2) ((d_become (3 + 9 * a1.toNatClampNeg) V (21 + 9 * a1.toNatClampNeg)).bind fun V11 => lt_ (a1 + (1 : Int32)) fun v13 => x_putsBack_l2 n2 V11 v13)))
def x_putsBack (V : Mm) : Option Mm :=
  x_putsBack_l2 200 V (0 : Int32)
theorem hdX1_putsBack : w6_hd yX1_putsBack 0 := by decide +kernel
abbrev rmX1_putsBack : Room := { frames := 2, cells := 0, slots := 0, locals := 47 }
set_option maxHeartbeats 4000000 in
set_option maxRecDepth 100000 in
theorem ctx_putsBack (l : Launch) (D : va_G) (g : Nat → ClassId) (ad : Nat → Nat) (V : Mm) (V' : Mm) (hf : x_putsBack V = some V')  : CTv l D g yX1_putsBack cX1_putsBack 2 rmX1_putsBack [.ref (ad 0)] (xw g ad V) (xw g ad V') := by
  intro sz
  refine w6_startv RX1 (by decide) (Nat.le_of_ble_eq_true rfl) rfl ?_
  intro p e s m below meth c A ls Q hx hb hown hts F I hl hret
  have hl : lv_has ls 2 [(0, .ref (ad 0))] := hl
  have hJ28 : ∀ (V : Mm)  (H : Heap) (locs : List Loc) (ls : Array Slot), x_putsBack_j28 V = some V' → w6_I D (xw g ad V ++ []) A s H locs → lv_has ls 2 [(0, .ref (ad 0))] → W p l e rmX1_putsBack s m ([.ref (ad 0)] : List Value).toArray below meth c H locs 0 0 Q (F0 m 28 ls []) := by
    intro V H locs ls hf I hl
    unfold x_putsBack_j28 at hf
    refine lv_aload_n hx hb dX1_putsBack_28 rfl (lv_at hl 0 rfl) ?_
    refine lv_aload_n hx hb dX1_putsBack_29 rfl (lv_at hl 0 rfl) ?_
    refine w6_get F I xo_ob rfl in_X1 16 (by decide) q173 rfl rfl dX1_putsBack_30 ?_
    obtain ⟨V1, eV1, hf⟩ := lt_e hf
    refine w6_put xsh_lc F I xo_ob rfl in_X1 tyX1 tyX1_ok nmX1 5 (by decide) (xo_nf 5 (by decide)) q162 rfl rfl (tyX1_ok 5 (by decide)) rfl rfl dX1_putsBack_33 eV1 (fun H locs I => ?_)
    refine lv_aload_n hx hb dX1_putsBack_36 rfl (lv_at hl 0 rfl) ?_
    refine lv_aload_n hx hb dX1_putsBack_37 rfl (lv_at hl 0 rfl) ?_
    refine w6_get F I xo_ob rfl in_X1 17 (by decide) q174 rfl rfl dX1_putsBack_38 ?_
    obtain ⟨V2, eV2, hf⟩ := lt_e hf
    refine w6_put xsh_lc F I xo_ob rfl in_X1 tyX1 tyX1_ok nmX1 6 (by decide) (xo_nf 6 (by decide)) q163 rfl rfl (tyX1_ok 6 (by decide)) rfl rfl dX1_putsBack_41 eV2 (fun H locs I => ?_)
    refine lv_aload_n hx hb dX1_putsBack_44 rfl (lv_at hl 0 rfl) ?_
    refine lv_aload_n hx hb dX1_putsBack_45 rfl (lv_at hl 0 rfl) ?_
    refine w6_get F I xo_ob rfl in_X1 18 (by decide) q175 rfl rfl dX1_putsBack_46 ?_
    obtain ⟨V3, eV3, hf⟩ := lt_e hf
    refine w6_put xsh_lc F I xo_ob rfl in_X1 tyX1 tyX1_ok nmX1 7 (by decide) (xo_nf 7 (by decide)) q164 rfl rfl (tyX1_ok 7 (by decide)) rfl rfl dX1_putsBack_49 eV3 (fun H locs I => ?_)
    refine lv_aload_n hx hb dX1_putsBack_52 rfl (lv_at hl 0 rfl) ?_
    refine lv_aload_n hx hb dX1_putsBack_53 rfl (lv_at hl 0 rfl) ?_
    refine w6_get F I xo_ob rfl in_X1 19 (by decide) q176 rfl rfl dX1_putsBack_54 ?_
    obtain ⟨V4, eV4, hf⟩ := lt_e hf
    refine w6_put xsh_lc F I xo_ob rfl in_X1 tyX1 tyX1_ok nmX1 8 (by decide) (xo_nf 8 (by decide)) q165 rfl rfl (tyX1_ok 8 (by decide)) rfl rfl dX1_putsBack_57 eV4 (fun H locs I => ?_)
    refine lv_aload_n hx hb dX1_putsBack_60 rfl (lv_at hl 0 rfl) ?_
    refine lv_aload_n hx hb dX1_putsBack_61 rfl (lv_at hl 0 rfl) ?_
    refine w6_get F I xo_ob rfl in_X1 20 (by decide) q177 rfl rfl dX1_putsBack_62 ?_
    obtain ⟨V5, eV5, hf⟩ := lt_e hf
    refine w6_put xsh_lc F I xo_ob rfl in_X1 tyX1 tyX1_ok nmX1 9 (by decide) (xo_nf 9 (by decide)) q166 rfl rfl (tyX1_ok 9 (by decide)) rfl rfl dX1_putsBack_65 eV5 (fun H locs I => ?_)
    refine lv_aload_n hx hb dX1_putsBack_68 rfl (lv_at hl 0 rfl) ?_
    refine lv_iconst (v := (1 : Int32)) hx hb dX1_putsBack_69 (by decide) ?_
    obtain ⟨V6, eV6, hf⟩ := lt_e hf
    refine w6_put xsh_lc F I xo_ob rfl in_X1 tyX1 tyX1_ok nmX1 10 (by decide) (xo_nf 10 (by decide)) q167 rfl rfl (tyX1_ok 10 (by decide)) rfl rfl dX1_putsBack_70 eV6 (fun H locs I => ?_)
    exact hret _ _ _ _ dX1_putsBack_73 (w6_mv (Option.some.inj hf) I)
  have hL2 : ∀ (n2 : Nat) (V : Mm) (a1 : Int32) (H : Heap) (locs : List Loc) (ls : Array Slot), x_putsBack_l2 n2 V a1 = some V' → w6_I D (xw g ad V ++ []) A s H locs → lv_has ls 2 [(0, .ref (ad 0)), (1, .int a1)] → W p l e rmX1_putsBack s m ([.ref (ad 0)] : List Value).toArray below meth c H locs 0 0 Q (F0 m 2 ls []) := by
    intro n2
    induction n2 with
    | zero =>
      intro V a1 H locs ls hf
      rw [x_putsBack_l2] at hf
      cases hf
    | succ n2 ih2 =>
      intro V a1 H locs ls hf I hl
      rw [x_putsBack_l2] at hf
      refine lv_iload_n hx hb dX1_putsBack_2 rfl (lv_at hl 1 rfl) ?_
      refine lv_iconst (v := (2 : Int32)) hx hb dX1_putsBack_3 (by decide) ?_
      refine lv_icmp_ge (tgt := 28) hx hb dX1_putsBack_4 (by decide) (fun c => ?_) (fun c => ?_)
      · have hf := if_p c hf
        exact hJ28 V _ _ ls hf I (lv_sub hl [0] rfl)
      · have hf := if_n c hf
        refine lv_aload_n hx hb dX1_putsBack_7 rfl (lv_at hl 0 rfl) ?_
        refine w6_get F I xo_ob rfl in_X1 0 (by decide) q157 rfl rfl dX1_putsBack_8 ?_
        refine lv_iload_n hx hb dX1_putsBack_11 rfl (lv_at hl 1 rfl) ?_
        obtain ⟨g7, hf⟩ := gd_e hf
        refine w6_aald (j := a1.toNatClampNeg) F I x_sides rfl rfl g7 rfl dX1_putsBack_12 ?_
        have s8 : isSide (3 + 9 * a1.toNatClampNeg) := isSide_s (ix_l g7 (rfl : _ = a1.toNatClampNeg))
        refine lv_aload_n hx hb dX1_putsBack_13 rfl (lv_at hl 0 rfl) ?_
        refine w6_get F I xo_ob rfl in_X1 1 (by decide) q158 rfl rfl dX1_putsBack_14 ?_
        refine lv_iload_n hx hb dX1_putsBack_17 rfl (lv_at hl 1 rfl) ?_
        obtain ⟨g9, hf⟩ := gd_e hf
        refine w6_aald (j := a1.toNatClampNeg) F I x_kept rfl rfl g9 rfl dX1_putsBack_18 ?_
        have s10 : isSide (21 + 9 * a1.toNatClampNeg) := isSide_k (ix_l g9 (rfl : _ = a1.toNatClampNeg))
        obtain ⟨V11, h12, hf⟩ := bn_e hf
        refine xz_Vv F I (ctd_become l D g ad (3 + 9 * a1.toNatClampNeg) V (21 + 9 * a1.toNatClampNeg) V11 h12 s8 s10) (lw_V q592 q593 q594 q48 q595) hdX2_become rfl (Nat.le_of_ble_eq_true rfl) (Nat.le_of_ble_eq_true rfl) (w6_recv F I (so_ob s8) rfl) rfl hl.1 [] rfl (Nat.le_of_ble_eq_true rfl) dX1_putsBack_19 ⟨Nat.le_of_ble_eq_true rfl, Nat.le_of_ble_eq_true rfl⟩ (fun H locs I => ?_)
        obtain ⟨v13, ev13, hf⟩ := lt_e hf
        refine lv_iinc (v := v13) (lv' := [(1, .int v13), (0, .ref (ad 0))]) hx hb dX1_putsBack_22 hl (k := 1) rfl (by rw [ev13]; rfl) (by decide) rfl (fun ls hl => ?_)
        refine lv_goto (tgt := 2) hx hb dX1_putsBack_25 (by decide) ?_
        exact ih2 V11 v13 _ _ ls hf I (lv_sub hl [1, 0] rfl)
  unfold x_putsBack at hf
  refine lv_iconst (v := (0 : Int32)) hx hb dX1_putsBack_0 (by decide) ?_
  refine lv_istore_n (lv' := [(1, .int (0 : Int32)), (0, .ref (ad 0))]) hx hb dX1_putsBack_1 rfl hl (by decide) rfl (fun ls hl => ?_)
  exact hL2 200 V (0 : Int32) _ _ ls hf I (lv_sub hl [1, 0] rfl)
