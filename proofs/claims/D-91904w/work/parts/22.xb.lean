/-! SixWhoTurn, chances: printed by gen/mk.py: each method as a function over the memory, and its contract -/
set_option maxRecDepth 100000
def x_third (V : Mm) (p1 : Int32) (p2 : Int32) (p3 : Int32) (p4 : Int32) (p5 : Int32) (p6 : Int32) : Option (Int32 × Mm) :=
  gd_ (ix_ p1 2) (gd_ (ix_ p1 2) (bi_ (d_at (3 + 9 * p1.toNatClampNeg) V p4 p2) fun r7 V5 => gd_ (ix_ r7 12) (gd_ (ix_ p3 4) (bi_ (d_at (3 + 9 * p1.toNatClampNeg) V5 p5 p2) fun r12 V10 => gd_ (ix_ r12 12) (gd_ (ix_ p3 4) (bi_ (d_at (3 + 9 * p1.toNatClampNeg) V10 p6 p2) fun r17 V15 => gd_ (ix_ r17 12) (gd_ (ix_ p3 4) (some (((((V5.1 (42 + 12 * p1.toNatClampNeg + r7.toNatClampNeg) p3.toNatClampNeg) + (V10.1 (42 + 12 * p1.toNatClampNeg + r12.toNatClampNeg) p3.toNatClampNeg)) + (V15.1 (42 + 12 * p1.toNatClampNeg + r17.toNatClampNeg) p3.toNatClampNeg)) / (3 : Int32)), V15)))))))))
theorem hdX1_third : w6_hd yX1_third 6 := by decide +kernel
abbrev rmX1_third : Room := { frames := 1, cells := 0, slots := 0, locals := 23 }
set_option maxHeartbeats 4000000 in
set_option maxRecDepth 100000 in
theorem ctx_third (l : Launch) (D : va_G) (g : Nat → ClassId) (ad : Nat → Nat) (V : Mm) (p1 : Int32) (p2 : Int32) (p3 : Int32) (p4 : Int32) (p5 : Int32) (p6 : Int32) (r : Int32) (V' : Mm) (hf : x_third V p1 p2 p3 p4 p5 p6 = some (r, V'))  : CTi l D g yX1_third cX1_third 9 .int rmX1_third [.ref (ad 0), .int p1, .int p2, .int p3, .int p4, .int p5, .int p6] (xw g ad V) (xw g ad V') r := by
  intro sz
  refine w6_starti RX1 (by decide) (Nat.le_of_ble_eq_true rfl) rfl ?_
  intro p e s m below meth c A ls Q hx hb hown hts F I hl hret
  have hl : lv_has ls 9 [(0, .ref (ad 0)), (1, .int p1), (2, .int p2), (3, .int p3), (4, .int p4), (5, .int p5), (6, .int p6)] := hl
  unfold x_third at hf
  refine lv_aload_n hx hb dX1_third_0 rfl (lv_at hl 0 rfl) ?_
  refine w6_get F I xo_ob rfl in_X1 0 (by decide) q157 rfl rfl dX1_third_1 ?_
  refine lv_iload_n hx hb dX1_third_4 rfl (lv_at hl 1 rfl) ?_
  obtain ⟨g1, hf⟩ := gd_e hf
  refine w6_aald (j := p1.toNatClampNeg) F I x_sides rfl rfl g1 rfl dX1_third_5 ?_
  have s2 : isSide (3 + 9 * p1.toNatClampNeg) := isSide_s (ix_l g1 (rfl : _ = p1.toNatClampNeg))
  refine lv_astore (lv' := [(7, .ref (ad (3 + 9 * p1.toNatClampNeg))), (0, .ref (ad 0)), (1, .int p1), (2, .int p2), (3, .int p3), (4, .int p4), (5, .int p5), (6, .int p6)]) hx hb dX1_third_6 hl (by decide) rfl (fun ls hl => ?_)
  refine lv_aload_n hx hb dX1_third_8 rfl (lv_at hl 1 rfl) ?_
  refine w6_get F I xo_ob rfl in_X1 2 (by decide) q159 rfl rfl dX1_third_9 ?_
  refine lv_iload_n hx hb dX1_third_12 rfl (lv_at hl 2 rfl) ?_
  obtain ⟨g3, hf⟩ := gd_e hf
  refine w6_aald (j := p1.toNatClampNeg) F I x_skt rfl rfl g3 rfl dX1_third_13 ?_
  have s4 : p1.toNatClampNeg < 2 := (ix_l g3 (rfl : _ = p1.toNatClampNeg))
  refine lv_astore (lv' := [(8, .ref (ad (40 + p1.toNatClampNeg))), (7, .ref (ad (3 + 9 * p1.toNatClampNeg))), (0, .ref (ad 0)), (1, .int p1), (2, .int p2), (3, .int p3), (4, .int p4), (5, .int p5), (6, .int p6)]) hx hb dX1_third_14 hl (by decide) rfl (fun ls hl => ?_)
  refine lv_aload hx hb dX1_third_16 (lv_at hl 0 rfl) ?_
  refine lv_aload hx hb dX1_third_18 (lv_at hl 1 rfl) ?_
  refine lv_iload hx hb dX1_third_20 (lv_at hl 6 rfl) ?_
  refine lv_iload_n hx hb dX1_third_22 rfl (lv_at hl 4 rfl) ?_
  obtain ⟨r7, V5, h6, hf⟩ := bi_e hf
  refine xz_Vi F I (ctd_at l D g ad (3 + 9 * p1.toNatClampNeg) V p4 p2 r7 V5 h6 s2) (lw_V q627 q628 q629 q48 q630) hdX2_at rfl (Nat.le_of_ble_eq_true rfl) (Nat.le_of_ble_eq_true rfl) (w6_recv F I (so_ob s2) rfl) rfl hl.1 [.ref (ad (40 + p1.toNatClampNeg))] rfl (Nat.le_of_ble_eq_true rfl) dX1_third_23 ⟨Nat.le_of_ble_eq_true rfl, Nat.le_of_ble_eq_true rfl⟩ (fun H locs I => ?_)
  obtain ⟨g8, hf⟩ := gd_e hf
  refine w6_aald (j := r7.toNatClampNeg) F I (x_skp s4) rfl rfl g8 rfl dX1_third_26 ?_
  refine lv_iload_n hx hb dX1_third_27 rfl (lv_at hl 5 rfl) ?_
  obtain ⟨g9, hf⟩ := gd_e hf
  refine w6_iald (j := p3.toNatClampNeg) F I (x_skl s4 (ix_l g8 (rfl : _ = r7.toNatClampNeg))) g9 rfl dX1_third_28 ?_
  refine lv_aload hx hb dX1_third_29 (lv_at hl 0 rfl) ?_
  refine lv_aload hx hb dX1_third_31 (lv_at hl 1 rfl) ?_
  refine lv_iload hx hb dX1_third_33 (lv_at hl 7 rfl) ?_
  refine lv_iload_n hx hb dX1_third_35 rfl (lv_at hl 4 rfl) ?_
  obtain ⟨r12, V10, h11, hf⟩ := bi_e hf
  refine xz_Vi F I (ctd_at l D g ad (3 + 9 * p1.toNatClampNeg) V5 p5 p2 r12 V10 h11 s2) (lw_V q627 q628 q629 q48 q630) hdX2_at rfl (Nat.le_of_ble_eq_true rfl) (Nat.le_of_ble_eq_true rfl) (w6_recv F I (so_ob s2) rfl) rfl hl.1 [.ref (ad (40 + p1.toNatClampNeg)), .int (V5.1 (42 + 12 * p1.toNatClampNeg + r7.toNatClampNeg) p3.toNatClampNeg)] rfl (Nat.le_of_ble_eq_true rfl) dX1_third_36 ⟨Nat.le_of_ble_eq_true rfl, Nat.le_of_ble_eq_true rfl⟩ (fun H locs I => ?_)
  obtain ⟨g13, hf⟩ := gd_e hf
  refine w6_aald (j := r12.toNatClampNeg) F I (x_skp s4) rfl rfl g13 rfl dX1_third_39 ?_
  refine lv_iload_n hx hb dX1_third_40 rfl (lv_at hl 5 rfl) ?_
  obtain ⟨g14, hf⟩ := gd_e hf
  refine w6_iald (j := p3.toNatClampNeg) F I (x_skl s4 (ix_l g13 (rfl : _ = r12.toNatClampNeg))) g14 rfl dX1_third_41 ?_
  refine lv_iadd hx hb dX1_third_42 ?_
  refine lv_aload hx hb dX1_third_43 (lv_at hl 0 rfl) ?_
  refine lv_aload hx hb dX1_third_45 (lv_at hl 1 rfl) ?_
  refine lv_iload hx hb dX1_third_47 (lv_at hl 8 rfl) ?_
  refine lv_iload_n hx hb dX1_third_49 rfl (lv_at hl 4 rfl) ?_
  obtain ⟨r17, V15, h16, hf⟩ := bi_e hf
  refine xz_Vi F I (ctd_at l D g ad (3 + 9 * p1.toNatClampNeg) V10 p6 p2 r17 V15 h16 s2) (lw_V q627 q628 q629 q48 q630) hdX2_at rfl (Nat.le_of_ble_eq_true rfl) (Nat.le_of_ble_eq_true rfl) (w6_recv F I (so_ob s2) rfl) rfl hl.1 [.ref (ad (40 + p1.toNatClampNeg)), .int ((V5.1 (42 + 12 * p1.toNatClampNeg + r7.toNatClampNeg) p3.toNatClampNeg) + (V10.1 (42 + 12 * p1.toNatClampNeg + r12.toNatClampNeg) p3.toNatClampNeg))] rfl (Nat.le_of_ble_eq_true rfl) dX1_third_50 ⟨Nat.le_of_ble_eq_true rfl, Nat.le_of_ble_eq_true rfl⟩ (fun H locs I => ?_)
  obtain ⟨g18, hf⟩ := gd_e hf
  refine w6_aald (j := r17.toNatClampNeg) F I (x_skp s4) rfl rfl g18 rfl dX1_third_53 ?_
  refine lv_iload_n hx hb dX1_third_54 rfl (lv_at hl 5 rfl) ?_
  obtain ⟨g19, hf⟩ := gd_e hf
  refine w6_iald (j := p3.toNatClampNeg) F I (x_skl s4 (ix_l g18 (rfl : _ = r17.toNatClampNeg))) g19 rfl dX1_third_55 ?_
  refine lv_iadd hx hb dX1_third_56 ?_
  refine lv_iconst (v := (3 : Int32)) hx hb dX1_third_57 (by decide) ?_
  refine lv_idiv hx hb dX1_third_58 (by decide) ?_
  exact hret _ _ _ _ _ dX1_third_59 (w6_mv (so_e hf).2 I) (so_e hf).1 rfl
def x_oddsOf (V : Mm) (p1 : Int32) (p2 : Int32) (p3 : Int32) : Option (Int32 × Mm) :=
  gd_ (ix_ p1 2) (gd_ (ix_ p1 2) (bi_ (d_at (3 + 9 * p1.toNatClampNeg) V (0 : Int32) p2) fun r7 V5 => gd_ (ix_ r7 12) (bi_ (x_third V5 ((1 : Int32) - p1) p3 (1 : Int32) (0 : Int32) (4 : Int32) (5 : Int32)) fun r11 V9 => bi_ (x_third V9 p1 p2 (3 : Int32) (1 : Int32) (2 : Int32) (3 : Int32)) fun r14 V12 => bi_ (x_third V12 ((1 : Int32) - p1) p3 (2 : Int32) (1 : Int32) (2 : Int32) (3 : Int32)) fun r17 V15 => lt_ ((((((380 : Int32) + (V5.1 (42 + 12 * p1.toNatClampNeg + r7.toNatClampNeg) 0)) - r11) + r14) - r17)) fun v18 => lt_ ((if v18 < (950 : Int32) then v18 else (950 : Int32))) fun v19 => lt_ ((if (50 : Int32) < v19 then v19 else (50 : Int32))) fun v20 => some (v20, V15))))
theorem hdX1_oddsOf : w6_hd yX1_oddsOf 3 := by decide +kernel
abbrev rmX1_oddsOf : Room := { frames := 2, cells := 0, slots := 0, locals := 51 }
set_option maxHeartbeats 4000000 in
set_option maxRecDepth 100000 in
theorem ctx_oddsOf (l : Launch) (D : va_G) (g : Nat → ClassId) (ad : Nat → Nat) (V : Mm) (p1 : Int32) (p2 : Int32) (p3 : Int32) (r : Int32) (V' : Mm) (hf : x_oddsOf V p1 p2 p3 = some (r, V'))  : CTi l D g yX1_oddsOf cX1_oddsOf 5 .int rmX1_oddsOf [.ref (ad 0), .int p1, .int p2, .int p3] (xw g ad V) (xw g ad V') r := by
  intro sz
  refine w6_starti RX1 (by decide) (Nat.le_of_ble_eq_true rfl) rfl ?_
  intro p e s m below meth c A ls Q hx hb hown hts F I hl hret
  have hl : lv_has ls 5 [(0, .ref (ad 0)), (1, .int p1), (2, .int p2), (3, .int p3)] := hl
  unfold x_oddsOf at hf
  refine lv_sipush (v := (380 : Int32)) hx hb dX1_oddsOf_0 (by decide) ?_
  refine lv_aload_n hx hb dX1_oddsOf_3 rfl (lv_at hl 0 rfl) ?_
  refine w6_get F I xo_ob rfl in_X1 2 (by decide) q159 rfl rfl dX1_oddsOf_4 ?_
  refine lv_iload_n hx hb dX1_oddsOf_7 rfl (lv_at hl 1 rfl) ?_
  obtain ⟨g1, hf⟩ := gd_e hf
  refine w6_aald (j := p1.toNatClampNeg) F I x_skt rfl rfl g1 rfl dX1_oddsOf_8 ?_
  have s2 : p1.toNatClampNeg < 2 := (ix_l g1 (rfl : _ = p1.toNatClampNeg))
  refine lv_aload_n hx hb dX1_oddsOf_9 rfl (lv_at hl 0 rfl) ?_
  refine w6_get F I xo_ob rfl in_X1 0 (by decide) q157 rfl rfl dX1_oddsOf_10 ?_
  refine lv_iload_n hx hb dX1_oddsOf_13 rfl (lv_at hl 1 rfl) ?_
  obtain ⟨g3, hf⟩ := gd_e hf
  refine w6_aald (j := p1.toNatClampNeg) F I x_sides rfl rfl g3 rfl dX1_oddsOf_14 ?_
  have s4 : isSide (3 + 9 * p1.toNatClampNeg) := isSide_s (ix_l g3 (rfl : _ = p1.toNatClampNeg))
  refine lv_iconst (v := (0 : Int32)) hx hb dX1_oddsOf_15 (by decide) ?_
  refine lv_iload_n hx hb dX1_oddsOf_16 rfl (lv_at hl 2 rfl) ?_
  obtain ⟨r7, V5, h6, hf⟩ := bi_e hf
  refine xz_Vi F I (ctd_at l D g ad (3 + 9 * p1.toNatClampNeg) V (0 : Int32) p2 r7 V5 h6 s4) (lw_V q627 q628 q629 q48 q630) hdX2_at rfl (Nat.le_of_ble_eq_true rfl) (Nat.le_of_ble_eq_true rfl) (w6_recv F I (so_ob s4) rfl) rfl hl.1 [.ref (ad (40 + p1.toNatClampNeg)), .int (380 : Int32)] rfl (Nat.le_of_ble_eq_true rfl) dX1_oddsOf_17 ⟨Nat.le_of_ble_eq_true rfl, Nat.le_of_ble_eq_true rfl⟩ (fun H locs I => ?_)
  obtain ⟨g8, hf⟩ := gd_e hf
  refine w6_aald (j := r7.toNatClampNeg) F I (x_skp s2) rfl rfl g8 rfl dX1_oddsOf_20 ?_
  refine lv_iconst (v := (0 : Int32)) hx hb dX1_oddsOf_21 (by decide) ?_
  refine w6_iald (j := 0) F I (x_skl s2 (ix_l g8 (rfl : _ = r7.toNatClampNeg))) (show ix_ (0 : Int32) 4 by decide) rfl dX1_oddsOf_22 ?_
  refine lv_iadd hx hb dX1_oddsOf_23 ?_
  refine lv_aload_n hx hb dX1_oddsOf_24 rfl (lv_at hl 0 rfl) ?_
  refine lv_iconst (v := (1 : Int32)) hx hb dX1_oddsOf_25 (by decide) ?_
  refine lv_iload_n hx hb dX1_oddsOf_26 rfl (lv_at hl 1 rfl) ?_
  refine lv_isub hx hb dX1_oddsOf_27 ?_
  refine lv_iload_n hx hb dX1_oddsOf_28 rfl (lv_at hl 3 rfl) ?_
  refine lv_iconst (v := (1 : Int32)) hx hb dX1_oddsOf_29 (by decide) ?_
  refine lv_iconst (v := (0 : Int32)) hx hb dX1_oddsOf_30 (by decide) ?_
  refine lv_iconst (v := (4 : Int32)) hx hb dX1_oddsOf_31 (by decide) ?_
  refine lv_iconst (v := (5 : Int32)) hx hb dX1_oddsOf_32 (by decide) ?_
  obtain ⟨r11, V9, h10, hf⟩ := bi_e hf
  refine xz_Vi F I (ctx_third l D g ad V5 ((1 : Int32) - p1) p3 (1 : Int32) (0 : Int32) (4 : Int32) (5 : Int32) r11 V9 h10 ) (lw_V q631 q633 qs13 q47 q634) hdX1_third rfl (Nat.le_of_ble_eq_true rfl) (Nat.le_of_ble_eq_true rfl) (w6_recv F I xo_ob rfl) rfl hl.1 [.int ((380 : Int32) + (V5.1 (42 + 12 * p1.toNatClampNeg + r7.toNatClampNeg) 0))] rfl (Nat.le_of_ble_eq_true rfl) dX1_oddsOf_33 ⟨Nat.le_of_ble_eq_true rfl, Nat.le_of_ble_eq_true rfl⟩ (fun H locs I => ?_)
  refine lv_isub hx hb dX1_oddsOf_36 ?_
  refine lv_aload_n hx hb dX1_oddsOf_37 rfl (lv_at hl 0 rfl) ?_
  refine lv_iload_n hx hb dX1_oddsOf_38 rfl (lv_at hl 1 rfl) ?_
  refine lv_iload_n hx hb dX1_oddsOf_39 rfl (lv_at hl 2 rfl) ?_
  refine lv_iconst (v := (3 : Int32)) hx hb dX1_oddsOf_40 (by decide) ?_
  refine lv_iconst (v := (1 : Int32)) hx hb dX1_oddsOf_41 (by decide) ?_
  refine lv_iconst (v := (2 : Int32)) hx hb dX1_oddsOf_42 (by decide) ?_
  refine lv_iconst (v := (3 : Int32)) hx hb dX1_oddsOf_43 (by decide) ?_
  obtain ⟨r14, V12, h13, hf⟩ := bi_e hf
  refine xz_Vi F I (ctx_third l D g ad V9 p1 p2 (3 : Int32) (1 : Int32) (2 : Int32) (3 : Int32) r14 V12 h13 ) (lw_V q631 q633 qs13 q47 q634) hdX1_third rfl (Nat.le_of_ble_eq_true rfl) (Nat.le_of_ble_eq_true rfl) (w6_recv F I xo_ob rfl) rfl hl.1 [.int (((380 : Int32) + (V5.1 (42 + 12 * p1.toNatClampNeg + r7.toNatClampNeg) 0)) - r11)] rfl (Nat.le_of_ble_eq_true rfl) dX1_oddsOf_44 ⟨Nat.le_of_ble_eq_true rfl, Nat.le_of_ble_eq_true rfl⟩ (fun H locs I => ?_)
  refine lv_iadd hx hb dX1_oddsOf_47 ?_
  refine lv_aload_n hx hb dX1_oddsOf_48 rfl (lv_at hl 0 rfl) ?_
  refine lv_iconst (v := (1 : Int32)) hx hb dX1_oddsOf_49 (by decide) ?_
  refine lv_iload_n hx hb dX1_oddsOf_50 rfl (lv_at hl 1 rfl) ?_
  refine lv_isub hx hb dX1_oddsOf_51 ?_
  refine lv_iload_n hx hb dX1_oddsOf_52 rfl (lv_at hl 3 rfl) ?_
  refine lv_iconst (v := (2 : Int32)) hx hb dX1_oddsOf_53 (by decide) ?_
  refine lv_iconst (v := (1 : Int32)) hx hb dX1_oddsOf_54 (by decide) ?_
  refine lv_iconst (v := (2 : Int32)) hx hb dX1_oddsOf_55 (by decide) ?_
  refine lv_iconst (v := (3 : Int32)) hx hb dX1_oddsOf_56 (by decide) ?_
  obtain ⟨r17, V15, h16, hf⟩ := bi_e hf
  refine xz_Vi F I (ctx_third l D g ad V12 ((1 : Int32) - p1) p3 (2 : Int32) (1 : Int32) (2 : Int32) (3 : Int32) r17 V15 h16 ) (lw_V q631 q633 qs13 q47 q634) hdX1_third rfl (Nat.le_of_ble_eq_true rfl) (Nat.le_of_ble_eq_true rfl) (w6_recv F I xo_ob rfl) rfl hl.1 [.int ((((380 : Int32) + (V5.1 (42 + 12 * p1.toNatClampNeg + r7.toNatClampNeg) 0)) - r11) + r14)] rfl (Nat.le_of_ble_eq_true rfl) dX1_oddsOf_57 ⟨Nat.le_of_ble_eq_true rfl, Nat.le_of_ble_eq_true rfl⟩ (fun H locs I => ?_)
  refine lv_isub hx hb dX1_oddsOf_60 ?_
  obtain ⟨v18, ev18, hf⟩ := lt_e hf
  refine w6_nmi ev18 ?_
  refine lv_istore (lv' := [(4, .int v18), (0, .ref (ad 0)), (1, .int p1), (2, .int p2), (3, .int p3)]) hx hb dX1_oddsOf_61 hl (by decide) rfl (fun ls hl => ?_)
  refine lv_bipush (v := (50 : Int32)) hx hb dX1_oddsOf_63 (by decide) ?_
  refine lv_sipush (v := (950 : Int32)) hx hb dX1_oddsOf_65 (by decide) ?_
  refine lv_iload hx hb dX1_oddsOf_68 (lv_at hl 0 rfl) ?_
  refine va_mmin hx hb (by rw [F.1.2.2.1]; exact hl.1.symm) hown (hts _ q397) (hts _ q398) (hts _ q52) (hts _ q399) (Nat.le_of_ble_eq_true rfl) (Nat.le_of_ble_eq_true rfl) (Nat.le_of_ble_eq_true rfl) (Nat.le_of_ble_eq_true rfl) dX1_oddsOf_70 ?_
  obtain ⟨v19, ev19, hf⟩ := lt_e hf
  refine w6_nmi ev19 ?_
  refine va_mmax hx hb (by rw [F.1.2.2.1]; exact hl.1.symm) hown (hts _ q635) (hts _ q510) (hts _ q52) (hts _ q511) (Nat.le_of_ble_eq_true rfl) (Nat.le_of_ble_eq_true rfl) (Nat.le_of_ble_eq_true rfl) (Nat.le_of_ble_eq_true rfl) dX1_oddsOf_73 ?_
  obtain ⟨v20, ev20, hf⟩ := lt_e hf
  refine w6_nmi ev20 ?_
  exact hret _ _ _ _ _ dX1_oddsOf_76 (w6_mv (so_e hf).2 I) (so_e hf).1 rfl
def x_weighs_j69 (rec2 : Mm → Int32 → Option Mm) (V : Mm)  (a1 : Int32) : Option Mm :=
  lt_ (a1 + (1 : Int32)) fun v1 => rec2 V v1
def x_weighs_j63 (rec2 : Mm → Int32 → Option Mm) (rec10 : Mm → Int32 → Int32 → Option Mm) (V : Mm)  (a1 : Int32) (a2 : Int32) : Option Mm :=
  lt_ (a2 + (1 : Int32)) fun v2 => rec10 V a1 v2
def x_weighs_j53 (rec2 : Mm → Int32 → Option Mm) (rec10 : Mm → Int32 → Int32 → Option Mm) (rec18 : Mm → Int32 → Int32 → Int32 → Option Mm) (V : Mm)  (a1 : Int32) (a2 : Int32) (a3 : Int32) (s0 : Int32) (s1 : Int32) (s2 : Int32) (s4 : Int32) : Option Mm :=
  bi_ (x_oddsOf V s2 s1 s0) fun r5 V3 => gd_ (ix_ s4 72) (lt_ (mset V3 68 s4.toNatClampNeg r5) fun V7 => lt_ (a3 + (1 : Int32)) fun v8 => rec18 V7 a1 a2 v8)
def x_weighs_j44 (rec2 : Mm → Int32 → Option Mm) (rec10 : Mm → Int32 → Int32 → Option Mm) (rec18 : Mm → Int32 → Int32 → Int32 → Option Mm) (V : Mm)  (a1 : Int32) (a2 : Int32) (a3 : Int32) (s0 : Int32) (s1 : Int32) (s3 : Int32) : Option Mm :=
  if a3 = (0 : Int32) then (x_weighs_j53 rec2 rec10 rec18 V a1 a2 a3 a2 s0 s1 s3) else (x_weighs_j53 rec2 rec10 rec18 V a1 a2 a3 a1 s0 s1 s3)
def x_weighs_l18 (rec2 : Mm → Int32 → Option Mm) (rec10 : Mm → Int32 → Int32 → Option Mm) : Nat → Mm → Int32 → Int32 → Int32 → Option Mm
  | 0, _, _, _, _ => none
  | n18 + 1, V, a1, a2, a3 =>
  if (2 : Int32) ≤ a3 then (x_weighs_j63 rec2 rec10 V a1 a2) else (if a3 = (0 : Int32) then (x_weighs_j44 rec2 rec10 (x_weighs_l18 rec2 rec10 n18) V a1 a2 a3 a1 a3 (px_turned a1 a2 a3)) else (x_weighs_j44 rec2 rec10 (x_weighs_l18 rec2 rec10 n18) V a1 a2 a3 a2 a3 (px_turned a1 a2 a3)))
def x_weighs_l10 (rec2 : Mm → Int32 → Option Mm) : Nat → Mm → Int32 → Int32 → Option Mm
  | 0, _, _, _ => none
  | n10 + 1, V, a1, a2 =>
  if (6 : Int32) ≤ a2 then (x_weighs_j69 rec2 V a1) else (x_weighs_l18 rec2 (x_weighs_l10 rec2 n10) 200 V a1 a2 (0 : Int32))
def x_weighs_l2 : Nat → Mm → Int32 → Option Mm
  | 0, _, _ => none
  | n2 + 1, V, a1 =>
  if (6 : Int32) ≤ a1 then (some V) else (x_weighs_l10 (x_weighs_l2 n2) 200 V a1 (0 : Int32))
def x_weighs (V : Mm) : Option Mm :=
  x_weighs_l2 200 V (0 : Int32)
theorem hdX1_weighs : w6_hd yX1_weighs 0 := by decide +kernel
abbrev rmX1_weighs : Room := { frames := 3, cells := 0, slots := 0, locals := 75 }
set_option maxHeartbeats 4000000 in
set_option maxRecDepth 100000 in
theorem ctx_weighs (l : Launch) (D : va_G) (g : Nat → ClassId) (ad : Nat → Nat) (V : Mm) (V' : Mm) (hf : x_weighs V = some V')  : CTv l D g yX1_weighs cX1_weighs 4 rmX1_weighs [.ref (ad 0)] (xw g ad V) (xw g ad V') := by
  intro sz
  refine w6_startv RX1 (by decide) (Nat.le_of_ble_eq_true rfl) rfl ?_
  intro p e s m below meth c A ls Q hx hb hown hts F I hl hret
  have hl : lv_has ls 4 [(0, .ref (ad 0))] := hl
  have hL2 : ∀ (n2 : Nat) (V : Mm) (a1 : Int32) (H : Heap) (locs : List Loc) (ls : Array Slot), x_weighs_l2 n2 V a1 = some V' → w6_I D (xw g ad V ++ []) A s H locs → lv_has ls 4 [(0, .ref (ad 0)), (1, .int a1)] → W p l e rmX1_weighs s m ([.ref (ad 0)] : List Value).toArray below meth c H locs 0 0 Q (F0 m 2 ls []) := by
    intro n2
    induction n2 with
    | zero =>
      intro V a1 H locs ls hf
      rw [x_weighs_l2] at hf
      cases hf
    | succ n2 ih2 =>
      have hJ69 : ∀ (V : Mm) (a1 : Int32) (H : Heap) (locs : List Loc) (ls : Array Slot), x_weighs_j69 (x_weighs_l2 n2) V a1 = some V' → w6_I D (xw g ad V ++ []) A s H locs → lv_has ls 4 [(0, .ref (ad 0)), (1, .int a1)] → W p l e rmX1_weighs s m ([.ref (ad 0)] : List Value).toArray below meth c H locs 0 0 Q (F0 m 69 ls []) := by
        intro V a1 H locs ls hf I hl
        unfold x_weighs_j69 at hf
        obtain ⟨v1, ev1, hf⟩ := lt_e hf
        refine lv_iinc (v := v1) (lv' := [(1, .int v1), (0, .ref (ad 0))]) hx hb dX1_weighs_69 hl (k := 1) rfl (by rw [ev1]; rfl) (by decide) rfl (fun ls hl => ?_)
        refine lv_goto (tgt := 2) hx hb dX1_weighs_72 (by decide) ?_
        exact ih2 V v1 _ _ ls hf I (lv_sub hl [1, 0] rfl)
      have hL10 : ∀ (n10 : Nat) (V : Mm) (a1 : Int32) (a2 : Int32) (H : Heap) (locs : List Loc) (ls : Array Slot), x_weighs_l10 (x_weighs_l2 n2) n10 V a1 a2 = some V' → w6_I D (xw g ad V ++ []) A s H locs → lv_has ls 4 [(0, .ref (ad 0)), (1, .int a1), (2, .int a2)] → W p l e rmX1_weighs s m ([.ref (ad 0)] : List Value).toArray below meth c H locs 0 0 Q (F0 m 10 ls []) := by
        intro n10
        induction n10 with
        | zero =>
          intro V a1 a2 H locs ls hf
          rw [x_weighs_l10] at hf
          cases hf
        | succ n10 ih10 =>
          have hJ63 : ∀ (V : Mm) (a1 : Int32) (a2 : Int32) (H : Heap) (locs : List Loc) (ls : Array Slot), x_weighs_j63 (x_weighs_l2 n2) (x_weighs_l10 (x_weighs_l2 n2) n10) V a1 a2 = some V' → w6_I D (xw g ad V ++ []) A s H locs → lv_has ls 4 [(0, .ref (ad 0)), (1, .int a1), (2, .int a2)] → W p l e rmX1_weighs s m ([.ref (ad 0)] : List Value).toArray below meth c H locs 0 0 Q (F0 m 63 ls []) := by
            intro V a1 a2 H locs ls hf I hl
            unfold x_weighs_j63 at hf
            obtain ⟨v2, ev2, hf⟩ := lt_e hf
            refine lv_iinc (v := v2) (lv' := [(2, .int v2), (0, .ref (ad 0)), (1, .int a1)]) hx hb dX1_weighs_63 hl (k := 2) rfl (by rw [ev2]; rfl) (by decide) rfl (fun ls hl => ?_)
            refine lv_goto (tgt := 10) hx hb dX1_weighs_66 (by decide) ?_
            exact ih10 V a1 v2 _ _ ls hf I (lv_sub hl [1, 2, 0] rfl)
          have hL18 : ∀ (n18 : Nat) (V : Mm) (a1 : Int32) (a2 : Int32) (a3 : Int32) (H : Heap) (locs : List Loc) (ls : Array Slot), x_weighs_l18 (x_weighs_l2 n2) (x_weighs_l10 (x_weighs_l2 n2) n10) n18 V a1 a2 a3 = some V' → w6_I D (xw g ad V ++ []) A s H locs → lv_has ls 4 [(0, .ref (ad 0)), (1, .int a1), (2, .int a2), (3, .int a3)] → W p l e rmX1_weighs s m ([.ref (ad 0)] : List Value).toArray below meth c H locs 0 0 Q (F0 m 18 ls []) := by
            intro n18
            induction n18 with
            | zero =>
              intro V a1 a2 a3 H locs ls hf
              rw [x_weighs_l18] at hf
              cases hf
            | succ n18 ih18 =>
              have hJ53 : ∀ (V : Mm) (a1 : Int32) (a2 : Int32) (a3 : Int32) (s0 : Int32) (s1 : Int32) (s2 : Int32) (s4 : Int32) (H : Heap) (locs : List Loc) (ls : Array Slot), x_weighs_j53 (x_weighs_l2 n2) (x_weighs_l10 (x_weighs_l2 n2) n10) (x_weighs_l18 (x_weighs_l2 n2) (x_weighs_l10 (x_weighs_l2 n2) n10) n18) V a1 a2 a3 s0 s1 s2 s4 = some V' → w6_I D (xw g ad V ++ []) A s H locs → lv_has ls 4 [(0, .ref (ad 0)), (1, .int a1), (2, .int a2), (3, .int a3)] → W p l e rmX1_weighs s m ([.ref (ad 0)] : List Value).toArray below meth c H locs 0 0 Q (F0 m 53 ls [.int s0, .int s1, .int s2, .ref (ad 0), .int s4, .ref (ad 68)]) := by
                intro V a1 a2 a3 s0 s1 s2 s4 H locs ls hf I hl
                unfold x_weighs_j53 at hf
                obtain ⟨r5, V3, h4, hf⟩ := bi_e hf
                refine xz_Vi F I (ctx_oddsOf l D g ad V s2 s1 s0 r5 V3 h4 ) (lw_V q623 q625 qs12 q47 q626) hdX1_oddsOf rfl (Nat.le_of_ble_eq_true rfl) (Nat.le_of_ble_eq_true rfl) (w6_recv F I xo_ob rfl) rfl hl.1 [.int s4, .ref (ad 68)] rfl (Nat.le_of_ble_eq_true rfl) dX1_weighs_53 ⟨Nat.le_of_ble_eq_true rfl, Nat.le_of_ble_eq_true rfl⟩ (fun H locs I => ?_)
                obtain ⟨g6, hf⟩ := gd_e hf
                obtain ⟨V7, eV7, hf⟩ := lt_e hf
                refine w6_iast (j := s4.toNatClampNeg) xsh_lc F I (x_ar 68 72 (by decide) rfl) g6 rfl dX1_weighs_56 eV7 (fun H locs I => ?_)
                obtain ⟨v8, ev8, hf⟩ := lt_e hf
                refine lv_iinc (v := v8) (lv' := [(3, .int v8), (0, .ref (ad 0)), (1, .int a1), (2, .int a2)]) hx hb dX1_weighs_57 hl (k := 3) rfl (by rw [ev8]; rfl) (by decide) rfl (fun ls hl => ?_)
                refine lv_goto (tgt := 18) hx hb dX1_weighs_60 (by decide) ?_
                exact ih18 V7 a1 a2 v8 _ _ ls hf I (lv_sub hl [1, 2, 3, 0] rfl)
              have hJ44 : ∀ (V : Mm) (a1 : Int32) (a2 : Int32) (a3 : Int32) (s0 : Int32) (s1 : Int32) (s3 : Int32) (H : Heap) (locs : List Loc) (ls : Array Slot), x_weighs_j44 (x_weighs_l2 n2) (x_weighs_l10 (x_weighs_l2 n2) n10) (x_weighs_l18 (x_weighs_l2 n2) (x_weighs_l10 (x_weighs_l2 n2) n10) n18) V a1 a2 a3 s0 s1 s3 = some V' → w6_I D (xw g ad V ++ []) A s H locs → lv_has ls 4 [(0, .ref (ad 0)), (1, .int a1), (2, .int a2), (3, .int a3)] → W p l e rmX1_weighs s m ([.ref (ad 0)] : List Value).toArray below meth c H locs 0 0 Q (F0 m 44 ls [.int s0, .int s1, .ref (ad 0), .int s3, .ref (ad 68)]) := by
                intro V a1 a2 a3 s0 s1 s3 H locs ls hf I hl
                unfold x_weighs_j44 at hf
                refine lv_iload_n hx hb dX1_weighs_44 rfl (lv_at hl 3 rfl) ?_
                refine lv_if_ne (tgt := 52) hx hb dX1_weighs_45 (by decide) (fun c => ?_) (fun c => ?_)
                · have hf := if_n c hf
                  refine lv_iload_n hx hb dX1_weighs_52 rfl (lv_at hl 1 rfl) ?_
                  exact hJ53 V a1 a2 a3 a1 s0 s1 s3 _ _ ls hf I (lv_sub hl [0, 1, 2, 3] rfl)
                · have hf := if_p c hf
                  refine lv_iload_n hx hb dX1_weighs_48 rfl (lv_at hl 2 rfl) ?_
                  refine lv_goto (tgt := 53) hx hb dX1_weighs_49 (by decide) ?_
                  exact hJ53 V a1 a2 a3 a2 s0 s1 s3 _ _ ls hf I (lv_sub hl [0, 1, 2, 3] rfl)
              intro V a1 a2 a3 H locs ls hf I hl
              rw [x_weighs_l18] at hf
              refine lv_iload_n hx hb dX1_weighs_18 rfl (lv_at hl 3 rfl) ?_
              refine lv_iconst (v := (2 : Int32)) hx hb dX1_weighs_19 (by decide) ?_
              refine lv_icmp_ge (tgt := 63) hx hb dX1_weighs_20 (by decide) (fun c => ?_) (fun c => ?_)
              · have hf := if_p c hf
                exact hJ63 V a1 a2 _ _ ls hf I (lv_sub hl [0, 1, 2] rfl)
              · have hf := if_n c hf
                refine lv_aload_n hx hb dX1_weighs_23 rfl (lv_at hl 0 rfl) ?_
                refine w6_get F I xo_ob rfl in_X1 21 (by decide) q178 rfl rfl dX1_weighs_24 ?_
                refine lv_iload_n hx hb dX1_weighs_27 rfl (lv_at hl 1 rfl) ?_
                refine lv_iload_n hx hb dX1_weighs_28 rfl (lv_at hl 2 rfl) ?_
                refine lv_iload_n hx hb dX1_weighs_29 rfl (lv_at hl 3 rfl) ?_
                refine xz_Pi F I (ctpx_turned l D g a1 a2 a3 _ rfl) (lw_S q648 q649 q47 q650) hdX1_turned (Nat.le_of_ble_eq_true rfl) (Nat.le_of_ble_eq_true rfl) rfl hl.1 [.ref (ad 68)] rfl (Nat.le_of_ble_eq_true rfl) dX1_weighs_30 ⟨Nat.le_of_ble_eq_true rfl, Nat.le_of_ble_eq_true rfl⟩ (fun H locs I => ?_)
                refine lv_aload_n hx hb dX1_weighs_33 rfl (lv_at hl 0 rfl) ?_
                refine lv_iload_n hx hb dX1_weighs_34 rfl (lv_at hl 3 rfl) ?_
                refine lv_iload_n hx hb dX1_weighs_35 rfl (lv_at hl 3 rfl) ?_
                refine lv_if_ne (tgt := 43) hx hb dX1_weighs_36 (by decide) (fun c => ?_) (fun c => ?_)
                · have hf := if_n c hf
                  refine lv_iload_n hx hb dX1_weighs_43 rfl (lv_at hl 2 rfl) ?_
                  exact hJ44 V a1 a2 a3 a2 a3 (px_turned a1 a2 a3) _ _ ls hf I (lv_sub hl [0, 1, 2, 3] rfl)
                · have hf := if_p c hf
                  refine lv_iload_n hx hb dX1_weighs_39 rfl (lv_at hl 1 rfl) ?_
                  refine lv_goto (tgt := 44) hx hb dX1_weighs_40 (by decide) ?_
                  exact hJ44 V a1 a2 a3 a1 a3 (px_turned a1 a2 a3) _ _ ls hf I (lv_sub hl [0, 1, 2, 3] rfl)
          intro V a1 a2 H locs ls hf I hl
          rw [x_weighs_l10] at hf
          refine lv_iload_n hx hb dX1_weighs_10 rfl (lv_at hl 2 rfl) ?_
          refine lv_bipush (v := (6 : Int32)) hx hb dX1_weighs_11 (by decide) ?_
          refine lv_icmp_ge (tgt := 69) hx hb dX1_weighs_13 (by decide) (fun c => ?_) (fun c => ?_)
          · have hf := if_p c hf
            exact hJ69 V a1 _ _ ls hf I (lv_sub hl [0, 1] rfl)
          · have hf := if_n c hf
            refine lv_iconst (v := (0 : Int32)) hx hb dX1_weighs_16 (by decide) ?_
            refine lv_istore_n (lv' := [(3, .int (0 : Int32)), (0, .ref (ad 0)), (1, .int a1), (2, .int a2)]) hx hb dX1_weighs_17 rfl hl (by decide) rfl (fun ls hl => ?_)
            exact hL18 200 V a1 a2 (0 : Int32) _ _ ls hf I (lv_sub hl [1, 2, 3, 0] rfl)
      intro V a1 H locs ls hf I hl
      rw [x_weighs_l2] at hf
      refine lv_iload_n hx hb dX1_weighs_2 rfl (lv_at hl 1 rfl) ?_
      refine lv_bipush (v := (6 : Int32)) hx hb dX1_weighs_3 (by decide) ?_
      refine lv_icmp_ge (tgt := 75) hx hb dX1_weighs_5 (by decide) (fun c => ?_) (fun c => ?_)
      · have hf := if_p c hf
        exact hret _ _ _ _ dX1_weighs_75 (w6_mv (Option.some.inj hf) I)
      · have hf := if_n c hf
        refine lv_iconst (v := (0 : Int32)) hx hb dX1_weighs_8 (by decide) ?_
        refine lv_istore_n (lv' := [(2, .int (0 : Int32)), (0, .ref (ad 0)), (1, .int a1)]) hx hb dX1_weighs_9 rfl hl (by decide) rfl (fun ls hl => ?_)
        exact hL10 200 V a1 (0 : Int32) _ _ ls hf I (lv_sub hl [1, 2, 0] rfl)
  unfold x_weighs at hf
  refine lv_iconst (v := (0 : Int32)) hx hb dX1_weighs_0 (by decide) ?_
  refine lv_istore_n (lv' := [(1, .int (0 : Int32)), (0, .ref (ad 0))]) hx hb dX1_weighs_1 rfl hl (by decide) rfl (fun ls hl => ?_)
  exact hL2 200 V (0 : Int32) _ _ ls hf I (lv_sub hl [1, 0] rfl)
def x_behind_j75 (p1 : Int32) (p2 : Int32) (p3 : Int32) (p4 : Int32) (p5 : Int32) (p6 : Int32) (V : Mm)  (a7 : Int32) (a8 : Int32) (a9 : Int32) (s0 : Int32) : Option (Int32 × Mm) :=
  gd_ (ix_ (px_spot a7 a8 (px_turned a9 s0 p6)) 69192) (some ((V.1 69 ((px_spot a7 a8 (px_turned a9 s0 p6)).toNatClampNeg)), V))
def x_behind_j73 (p1 : Int32) (p2 : Int32) (p3 : Int32) (p4 : Int32) (p5 : Int32) (p6 : Int32) (V : Mm)  (a7 : Int32) (a8 : Int32) (a9 : Int32) : Option (Int32 × Mm) :=
  x_behind_j75 p1 p2 p3 p4 p5 p6 V a7 a8 a9 p4
def x_behind_j50 (p1 : Int32) (p2 : Int32) (p3 : Int32) (p4 : Int32) (p5 : Int32) (p6 : Int32) (V : Mm)  (a7 : Int32) (a8 : Int32) (s0 : Int32) : Option (Int32 × Mm) :=
  if p6 = (1 : Int32) then (if p5 = (0 : Int32) then (x_behind_j75 p1 p2 p3 p4 p5 p6 V a7 a8 s0 ((p4 + (1 : Int32)) - (p4 + (1 : Int32)) / (6 : Int32) * (6 : Int32))) else (x_behind_j73 p1 p2 p3 p4 p5 p6 V a7 a8 s0)) else (x_behind_j73 p1 p2 p3 p4 p5 p6 V a7 a8 s0)
def x_behind_j49 (p1 : Int32) (p2 : Int32) (p3 : Int32) (p4 : Int32) (p5 : Int32) (p6 : Int32) (V : Mm)  (a7 : Int32) (a8 : Int32) : Option (Int32 × Mm) :=
  x_behind_j50 p1 p2 p3 p4 p5 p6 V a7 a8 p3
def x_behind_j27 (p1 : Int32) (p2 : Int32) (p3 : Int32) (p4 : Int32) (p5 : Int32) (p6 : Int32) (V : Mm)  (a7 : Int32) (s0 : Int32) : Option (Int32 × Mm) :=
  if p6 = (0 : Int32) then (if p5 = (1 : Int32) then (x_behind_j50 p1 p2 p3 p4 p5 p6 V a7 s0 ((p3 + (1 : Int32)) - (p3 + (1 : Int32)) / (6 : Int32) * (6 : Int32))) else (x_behind_j49 p1 p2 p3 p4 p5 p6 V a7 s0)) else (x_behind_j49 p1 p2 p3 p4 p5 p6 V a7 s0)
def x_behind_j12 (p1 : Int32) (p2 : Int32) (p3 : Int32) (p4 : Int32) (p5 : Int32) (p6 : Int32) (V : Mm)  (s0 : Int32) : Option (Int32 × Mm) :=
  if p6 = (1 : Int32) then (x_behind_j27 p1 p2 p3 p4 p5 p6 V s0 (p2 + (1 : Int32))) else (x_behind_j27 p1 p2 p3 p4 p5 p6 V s0 p2)
def x_behind (V : Mm) (p1 : Int32) (p2 : Int32) (p3 : Int32) (p4 : Int32) (p5 : Int32) (p6 : Int32) : Option (Int32 × Mm) :=
  if p6 = (0 : Int32) then (x_behind_j12 p1 p2 p3 p4 p5 p6 V (p1 + (1 : Int32))) else (x_behind_j12 p1 p2 p3 p4 p5 p6 V p1)
theorem hdX1_behind : w6_hd yX1_behind 6 := by decide +kernel
abbrev rmX1_behind : Room := { frames := 1, cells := 0, slots := 0, locals := 22 }
set_option maxHeartbeats 4000000 in
set_option maxRecDepth 100000 in
theorem ctx_behind (l : Launch) (D : va_G) (g : Nat → ClassId) (ad : Nat → Nat) (V : Mm) (p1 : Int32) (p2 : Int32) (p3 : Int32) (p4 : Int32) (p5 : Int32) (p6 : Int32) (r : Int32) (V' : Mm) (hf : x_behind V p1 p2 p3 p4 p5 p6 = some (r, V'))  : CTi l D g yX1_behind cX1_behind 11 .int rmX1_behind [.ref (ad 0), .int p1, .int p2, .int p3, .int p4, .int p5, .int p6] (xw g ad V) (xw g ad V') r := by
  intro sz
  refine w6_starti RX1 (by decide) (Nat.le_of_ble_eq_true rfl) rfl ?_
  intro p e s m below meth c A ls Q hx hb hown hts F I hl hret
  have hl : lv_has ls 11 [(0, .ref (ad 0)), (1, .int p1), (2, .int p2), (3, .int p3), (4, .int p4), (5, .int p5), (6, .int p6)] := hl
  have hJ75 : ∀ (V : Mm) (a7 : Int32) (a8 : Int32) (a9 : Int32) (s0 : Int32) (H : Heap) (locs : List Loc) (ls : Array Slot), x_behind_j75 p1 p2 p3 p4 p5 p6 V a7 a8 a9 s0 = some (r, V') → w6_I D (xw g ad V ++ []) A s H locs → lv_has ls 11 [(0, .ref (ad 0)), (6, .int p6), (7, .int a7), (8, .int a8), (9, .int a9)] → W p l e rmX1_behind s m ([.ref (ad 0), .int p1, .int p2, .int p3, .int p4, .int p5, .int p6] : List Value).toArray below meth c H locs 0 0 Q (F0 m 75 ls [.int s0]) := by
    intro V a7 a8 a9 s0 H locs ls hf I hl
    unfold x_behind_j75 at hf
    refine lv_istore (lv' := [(10, .int s0), (0, .ref (ad 0)), (6, .int p6), (7, .int a7), (8, .int a8), (9, .int a9)]) hx hb dX1_behind_75 hl (by decide) rfl (fun ls hl => ?_)
    refine lv_aload_n hx hb dX1_behind_77 rfl (lv_at hl 1 rfl) ?_
    refine w6_get F I xo_ob rfl in_X1 22 (by decide) q179 rfl rfl dX1_behind_78 ?_
    refine lv_iload hx hb dX1_behind_81 (lv_at hl 3 rfl) ?_
    refine lv_iload hx hb dX1_behind_83 (lv_at hl 4 rfl) ?_
    refine lv_iload hx hb dX1_behind_85 (lv_at hl 5 rfl) ?_
    refine lv_iload hx hb dX1_behind_87 (lv_at hl 0 rfl) ?_
    refine lv_iload hx hb dX1_behind_89 (lv_at hl 2 rfl) ?_
    refine xz_Pi F I (ctpx_turned l D g a9 s0 p6 _ rfl) (lw_S q648 q649 q47 q650) hdX1_turned (Nat.le_of_ble_eq_true rfl) (Nat.le_of_ble_eq_true rfl) rfl hl.1 [.int a8, .int a7, .ref (ad 69)] rfl (Nat.le_of_ble_eq_true rfl) dX1_behind_91 ⟨Nat.le_of_ble_eq_true rfl, Nat.le_of_ble_eq_true rfl⟩ (fun H locs I => ?_)
    refine xz_Pi F I (ctpx_spot l D g a7 a8 (px_turned a9 s0 p6) _ rfl) (lw_S q651 q652 q47 q653) hdX1_spot (Nat.le_of_ble_eq_true rfl) (Nat.le_of_ble_eq_true rfl) rfl hl.1 [.ref (ad 69)] rfl (Nat.le_of_ble_eq_true rfl) dX1_behind_94 ⟨Nat.le_of_ble_eq_true rfl, Nat.le_of_ble_eq_true rfl⟩ (fun H locs I => ?_)
    obtain ⟨g1, hf⟩ := gd_e hf
    refine w6_iald (j := (px_spot a7 a8 (px_turned a9 s0 p6)).toNatClampNeg) F I (x_ar 69 69192 (by decide) rfl) g1 rfl dX1_behind_97 ?_
    exact hret _ _ _ _ _ dX1_behind_98 (w6_mv (so_e hf).2 I) (so_e hf).1 rfl
  have hJ73 : ∀ (V : Mm) (a7 : Int32) (a8 : Int32) (a9 : Int32) (H : Heap) (locs : List Loc) (ls : Array Slot), x_behind_j73 p1 p2 p3 p4 p5 p6 V a7 a8 a9 = some (r, V') → w6_I D (xw g ad V ++ []) A s H locs → lv_has ls 11 [(0, .ref (ad 0)), (4, .int p4), (6, .int p6), (7, .int a7), (8, .int a8), (9, .int a9)] → W p l e rmX1_behind s m ([.ref (ad 0), .int p1, .int p2, .int p3, .int p4, .int p5, .int p6] : List Value).toArray below meth c H locs 0 0 Q (F0 m 73 ls []) := by
    intro V a7 a8 a9 H locs ls hf I hl
    unfold x_behind_j73 at hf
    refine lv_iload hx hb dX1_behind_73 (lv_at hl 1 rfl) ?_
    exact hJ75 V a7 a8 a9 p4 _ _ ls hf I (lv_sub hl [0, 2, 3, 4, 5] rfl)
  have hJ50 : ∀ (V : Mm) (a7 : Int32) (a8 : Int32) (s0 : Int32) (H : Heap) (locs : List Loc) (ls : Array Slot), x_behind_j50 p1 p2 p3 p4 p5 p6 V a7 a8 s0 = some (r, V') → w6_I D (xw g ad V ++ []) A s H locs → lv_has ls 11 [(0, .ref (ad 0)), (4, .int p4), (5, .int p5), (6, .int p6), (7, .int a7), (8, .int a8)] → W p l e rmX1_behind s m ([.ref (ad 0), .int p1, .int p2, .int p3, .int p4, .int p5, .int p6] : List Value).toArray below meth c H locs 0 0 Q (F0 m 50 ls [.int s0]) := by
    intro V a7 a8 s0 H locs ls hf I hl
    unfold x_behind_j50 at hf
    refine lv_istore (lv' := [(9, .int s0), (0, .ref (ad 0)), (4, .int p4), (5, .int p5), (6, .int p6), (7, .int a7), (8, .int a8)]) hx hb dX1_behind_50 hl (by decide) rfl (fun ls hl => ?_)
    refine lv_iload hx hb dX1_behind_52 (lv_at hl 4 rfl) ?_
    refine lv_iconst (v := (1 : Int32)) hx hb dX1_behind_54 (by decide) ?_
    refine lv_icmp_ne (tgt := 73) hx hb dX1_behind_55 (by decide) (fun c => ?_) (fun c => ?_)
    · have hf := if_n c hf
      exact hJ73 V a7 a8 s0 _ _ ls hf I (lv_sub hl [1, 2, 4, 5, 6, 0] rfl)
    · have hf := if_p c hf
      refine lv_iload hx hb dX1_behind_58 (lv_at hl 3 rfl) ?_
      refine lv_if_ne (tgt := 73) hx hb dX1_behind_60 (by decide) (fun c => ?_) (fun c => ?_)
      · have hf := if_n c hf
        exact hJ73 V a7 a8 s0 _ _ ls hf I (lv_sub hl [1, 2, 4, 5, 6, 0] rfl)
      · have hf := if_p c hf
        refine lv_iload hx hb dX1_behind_63 (lv_at hl 2 rfl) ?_
        refine lv_iconst (v := (1 : Int32)) hx hb dX1_behind_65 (by decide) ?_
        refine lv_iadd hx hb dX1_behind_66 ?_
        refine lv_bipush (v := (6 : Int32)) hx hb dX1_behind_67 (by decide) ?_
        refine lv_irem hx hb dX1_behind_69 (by decide) ?_
        refine lv_goto (tgt := 75) hx hb dX1_behind_70 (by decide) ?_
        exact hJ75 V a7 a8 s0 ((p4 + (1 : Int32)) - (p4 + (1 : Int32)) / (6 : Int32) * (6 : Int32)) _ _ ls hf I (lv_sub hl [1, 4, 5, 6, 0] rfl)
  have hJ49 : ∀ (V : Mm) (a7 : Int32) (a8 : Int32) (H : Heap) (locs : List Loc) (ls : Array Slot), x_behind_j49 p1 p2 p3 p4 p5 p6 V a7 a8 = some (r, V') → w6_I D (xw g ad V ++ []) A s H locs → lv_has ls 11 [(0, .ref (ad 0)), (3, .int p3), (4, .int p4), (5, .int p5), (6, .int p6), (7, .int a7), (8, .int a8)] → W p l e rmX1_behind s m ([.ref (ad 0), .int p1, .int p2, .int p3, .int p4, .int p5, .int p6] : List Value).toArray below meth c H locs 0 0 Q (F0 m 49 ls []) := by
    intro V a7 a8 H locs ls hf I hl
    unfold x_behind_j49 at hf
    refine lv_iload_n hx hb dX1_behind_49 rfl (lv_at hl 1 rfl) ?_
    exact hJ50 V a7 a8 p3 _ _ ls hf I (lv_sub hl [0, 2, 3, 4, 5, 6] rfl)
  have hJ27 : ∀ (V : Mm) (a7 : Int32) (s0 : Int32) (H : Heap) (locs : List Loc) (ls : Array Slot), x_behind_j27 p1 p2 p3 p4 p5 p6 V a7 s0 = some (r, V') → w6_I D (xw g ad V ++ []) A s H locs → lv_has ls 11 [(0, .ref (ad 0)), (3, .int p3), (4, .int p4), (5, .int p5), (6, .int p6), (7, .int a7)] → W p l e rmX1_behind s m ([.ref (ad 0), .int p1, .int p2, .int p3, .int p4, .int p5, .int p6] : List Value).toArray below meth c H locs 0 0 Q (F0 m 27 ls [.int s0]) := by
    intro V a7 s0 H locs ls hf I hl
    unfold x_behind_j27 at hf
    refine lv_istore (lv' := [(8, .int s0), (0, .ref (ad 0)), (3, .int p3), (4, .int p4), (5, .int p5), (6, .int p6), (7, .int a7)]) hx hb dX1_behind_27 hl (by decide) rfl (fun ls hl => ?_)
    refine lv_iload hx hb dX1_behind_29 (lv_at hl 5 rfl) ?_
    refine lv_if_ne (tgt := 49) hx hb dX1_behind_31 (by decide) (fun c => ?_) (fun c => ?_)
    · have hf := if_n c hf
      exact hJ49 V a7 s0 _ _ ls hf I (lv_sub hl [1, 2, 3, 4, 5, 6, 0] rfl)
    · have hf := if_p c hf
      refine lv_iload hx hb dX1_behind_34 (lv_at hl 4 rfl) ?_
      refine lv_iconst (v := (1 : Int32)) hx hb dX1_behind_36 (by decide) ?_
      refine lv_icmp_ne (tgt := 49) hx hb dX1_behind_37 (by decide) (fun c => ?_) (fun c => ?_)
      · have hf := if_n c hf
        exact hJ49 V a7 s0 _ _ ls hf I (lv_sub hl [1, 2, 3, 4, 5, 6, 0] rfl)
      · have hf := if_p c hf
        refine lv_iload_n hx hb dX1_behind_40 rfl (lv_at hl 2 rfl) ?_
        refine lv_iconst (v := (1 : Int32)) hx hb dX1_behind_41 (by decide) ?_
        refine lv_iadd hx hb dX1_behind_42 ?_
        refine lv_bipush (v := (6 : Int32)) hx hb dX1_behind_43 (by decide) ?_
        refine lv_irem hx hb dX1_behind_45 (by decide) ?_
        refine lv_goto (tgt := 50) hx hb dX1_behind_46 (by decide) ?_
        exact hJ50 V a7 s0 ((p3 + (1 : Int32)) - (p3 + (1 : Int32)) / (6 : Int32) * (6 : Int32)) _ _ ls hf I (lv_sub hl [1, 3, 4, 5, 6, 0] rfl)
  have hJ12 : ∀ (V : Mm) (s0 : Int32) (H : Heap) (locs : List Loc) (ls : Array Slot), x_behind_j12 p1 p2 p3 p4 p5 p6 V s0 = some (r, V') → w6_I D (xw g ad V ++ []) A s H locs → lv_has ls 11 [(0, .ref (ad 0)), (2, .int p2), (3, .int p3), (4, .int p4), (5, .int p5), (6, .int p6)] → W p l e rmX1_behind s m ([.ref (ad 0), .int p1, .int p2, .int p3, .int p4, .int p5, .int p6] : List Value).toArray below meth c H locs 0 0 Q (F0 m 12 ls [.int s0]) := by
    intro V s0 H locs ls hf I hl
    unfold x_behind_j12 at hf
    refine lv_istore (lv' := [(7, .int s0), (0, .ref (ad 0)), (2, .int p2), (3, .int p3), (4, .int p4), (5, .int p5), (6, .int p6)]) hx hb dX1_behind_12 hl (by decide) rfl (fun ls hl => ?_)
    refine lv_iload hx hb dX1_behind_14 (lv_at hl 6 rfl) ?_
    refine lv_iconst (v := (1 : Int32)) hx hb dX1_behind_16 (by decide) ?_
    refine lv_icmp_ne (tgt := 26) hx hb dX1_behind_17 (by decide) (fun c => ?_) (fun c => ?_)
    · have hf := if_n c hf
      refine lv_iload_n hx hb dX1_behind_26 rfl (lv_at hl 2 rfl) ?_
      exact hJ27 V s0 p2 _ _ ls hf I (lv_sub hl [1, 3, 4, 5, 6, 0] rfl)
    · have hf := if_p c hf
      refine lv_iload_n hx hb dX1_behind_20 rfl (lv_at hl 2 rfl) ?_
      refine lv_iconst (v := (1 : Int32)) hx hb dX1_behind_21 (by decide) ?_
      refine lv_iadd hx hb dX1_behind_22 ?_
      refine lv_goto (tgt := 27) hx hb dX1_behind_23 (by decide) ?_
      exact hJ27 V s0 (p2 + (1 : Int32)) _ _ ls hf I (lv_sub hl [1, 3, 4, 5, 6, 0] rfl)
  unfold x_behind at hf
  refine lv_iload hx hb dX1_behind_0 (lv_at hl 6 rfl) ?_
  refine lv_if_ne (tgt := 11) hx hb dX1_behind_2 (by decide) (fun c => ?_) (fun c => ?_)
  · have hf := if_n c hf
    refine lv_iload_n hx hb dX1_behind_11 rfl (lv_at hl 1 rfl) ?_
    exact hJ12 V p1 _ _ ls hf I (lv_sub hl [0, 2, 3, 4, 5, 6] rfl)
  · have hf := if_p c hf
    refine lv_iload_n hx hb dX1_behind_5 rfl (lv_at hl 1 rfl) ?_
    refine lv_iconst (v := (1 : Int32)) hx hb dX1_behind_6 (by decide) ?_
    refine lv_iadd hx hb dX1_behind_7 ?_
    refine lv_goto (tgt := 12) hx hb dX1_behind_8 (by decide) ?_
    exact hJ12 V (p1 + (1 : Int32)) _ _ ls hf I (lv_sub hl [0, 2, 3, 4, 5, 6] rfl)
def x_expected (V : Mm) (p1 : Int32) (p2 : Int32) (p3 : Int32) : Option (Int32 × Mm) :=
  lt_ ((p3 - p3 / (2 : Int32) * (2 : Int32))) fun v1 => lt_ (((p3 / (2 : Int32)) / (6 : Int32))) fun v2 => lt_ (((p3 / (2 : Int32)) - (p3 / (2 : Int32)) / (6 : Int32) * (6 : Int32))) fun v3 => gd_ (ix_ p3 72) (lt_ (((V.1 68 p3.toNatClampNeg).toInt64)) fun v5 => bi_ (x_behind V p1 p2 v2 v3 v1 v1) fun r8 V6 => lt_ ((r8.toInt64)) fun v9 => bi_ (x_behind V6 p1 p2 v2 v3 v1 ((1 : Int32) - v1)) fun r12 V10 => lt_ ((r12.toInt64)) fun v13 => some (((((v5 * v9) + (((1000 : Int64) - v5) * v13)) / (1000 : Int64)).toInt32), V10))
theorem hdX1_expected : w6_hd yX1_expected 3 := by decide +kernel
abbrev rmX1_expected : Room := { frames := 2, cells := 0, slots := 0, locals := 52 }
set_option maxHeartbeats 4000000 in
set_option maxRecDepth 100000 in
theorem ctx_expected (l : Launch) (D : va_G) (g : Nat → ClassId) (ad : Nat → Nat) (V : Mm) (p1 : Int32) (p2 : Int32) (p3 : Int32) (r : Int32) (V' : Mm) (hf : x_expected V p1 p2 p3 = some (r, V'))  : CTi l D g yX1_expected cX1_expected 13 .int rmX1_expected [.ref (ad 0), .int p1, .int p2, .int p3] (xw g ad V) (xw g ad V') r := by
  intro sz
  refine w6_starti RX1 (by decide) (Nat.le_of_ble_eq_true rfl) rfl ?_
  intro p e s m below meth c A ls Q hx hb hown hts F I hl hret
  have hl : lv_has ls 13 [(0, .ref (ad 0)), (1, .int p1), (2, .int p2), (3, .int p3)] := hl
  unfold x_expected at hf
  refine lv_iload_n hx hb dX1_expected_0 rfl (lv_at hl 3 rfl) ?_
  refine lv_iconst (v := (2 : Int32)) hx hb dX1_expected_1 (by decide) ?_
  refine lv_irem hx hb dX1_expected_2 (by decide) ?_
  obtain ⟨v1, ev1, hf⟩ := lt_e hf
  refine w6_nmi ev1 ?_
  refine lv_istore (lv' := [(4, .int v1), (0, .ref (ad 0)), (1, .int p1), (2, .int p2), (3, .int p3)]) hx hb dX1_expected_3 hl (by decide) rfl (fun ls hl => ?_)
  refine lv_iload_n hx hb dX1_expected_5 rfl (lv_at hl 4 rfl) ?_
  refine lv_iconst (v := (2 : Int32)) hx hb dX1_expected_6 (by decide) ?_
  refine lv_idiv hx hb dX1_expected_7 (by decide) ?_
  refine lv_bipush (v := (6 : Int32)) hx hb dX1_expected_8 (by decide) ?_
  refine lv_idiv hx hb dX1_expected_10 (by decide) ?_
  obtain ⟨v2, ev2, hf⟩ := lt_e hf
  refine w6_nmi ev2 ?_
  refine lv_istore (lv' := [(5, .int v2), (4, .int v1), (0, .ref (ad 0)), (1, .int p1), (2, .int p2), (3, .int p3)]) hx hb dX1_expected_11 hl (by decide) rfl (fun ls hl => ?_)
  refine lv_iload_n hx hb dX1_expected_13 rfl (lv_at hl 5 rfl) ?_
  refine lv_iconst (v := (2 : Int32)) hx hb dX1_expected_14 (by decide) ?_
  refine lv_idiv hx hb dX1_expected_15 (by decide) ?_
  refine lv_bipush (v := (6 : Int32)) hx hb dX1_expected_16 (by decide) ?_
  refine lv_irem hx hb dX1_expected_18 (by decide) ?_
  obtain ⟨v3, ev3, hf⟩ := lt_e hf
  refine w6_nmi ev3 ?_
  refine lv_istore (lv' := [(6, .int v3), (5, .int v2), (4, .int v1), (0, .ref (ad 0)), (1, .int p1), (2, .int p2), (3, .int p3)]) hx hb dX1_expected_19 hl (by decide) rfl (fun ls hl => ?_)
  refine lv_aload_n hx hb dX1_expected_21 rfl (lv_at hl 3 rfl) ?_
  refine w6_get F I xo_ob rfl in_X1 21 (by decide) q178 rfl rfl dX1_expected_22 ?_
  refine lv_iload_n hx hb dX1_expected_25 rfl (lv_at hl 6 rfl) ?_
  obtain ⟨g4, hf⟩ := gd_e hf
  refine w6_iald (j := p3.toNatClampNeg) F I (x_ar 68 72 (by decide) rfl) g4 rfl dX1_expected_26 ?_
  refine lv_i2l (v := ((V.1 68 p3.toNatClampNeg).toInt64)) hx hb dX1_expected_27 rfl ?_
  obtain ⟨v5, ev5, hf⟩ := lt_e hf
  refine w6_nml ev5 ?_
  refine lv_lstore (lv' := [(7, .long v5), (6, .int v3), (5, .int v2), (4, .int v1), (0, .ref (ad 0)), (1, .int p1), (2, .int p2), (3, .int p3)]) hx hb dX1_expected_28 hl (by decide) rfl (fun ls hl => ?_)
  refine lv_aload_n hx hb dX1_expected_30 rfl (lv_at hl 4 rfl) ?_
  refine lv_iload_n hx hb dX1_expected_31 rfl (lv_at hl 5 rfl) ?_
  refine lv_iload_n hx hb dX1_expected_32 rfl (lv_at hl 6 rfl) ?_
  refine lv_iload hx hb dX1_expected_33 (lv_at hl 2 rfl) ?_
  refine lv_iload hx hb dX1_expected_35 (lv_at hl 1 rfl) ?_
  refine lv_iload hx hb dX1_expected_37 (lv_at hl 3 rfl) ?_
  refine lv_iload hx hb dX1_expected_39 (lv_at hl 3 rfl) ?_
  obtain ⟨r8, V6, h7, hf⟩ := bi_e hf
  refine xz_Vi F I (ctx_behind l D g ad V p1 p2 v2 v3 v1 v1 r8 V6 h7 ) (lw_V q659 q661 qs17 q47 q662) hdX1_behind rfl (Nat.le_of_ble_eq_true rfl) (Nat.le_of_ble_eq_true rfl) (w6_recv F I xo_ob rfl) rfl hl.1 [] rfl (Nat.le_of_ble_eq_true rfl) dX1_expected_41 ⟨Nat.le_of_ble_eq_true rfl, Nat.le_of_ble_eq_true rfl⟩ (fun H locs I => ?_)
  refine lv_i2l (v := (r8.toInt64)) hx hb dX1_expected_44 rfl ?_
  obtain ⟨v9, ev9, hf⟩ := lt_e hf
  refine w6_nml ev9 ?_
  refine lv_lstore (lv' := [(9, .long v9), (7, .long v5), (6, .int v3), (5, .int v2), (4, .int v1), (0, .ref (ad 0)), (1, .int p1), (2, .int p2), (3, .int p3)]) hx hb dX1_expected_45 hl (by decide) rfl (fun ls hl => ?_)
  refine lv_aload_n hx hb dX1_expected_47 rfl (lv_at hl 5 rfl) ?_
  refine lv_iload_n hx hb dX1_expected_48 rfl (lv_at hl 6 rfl) ?_
  refine lv_iload_n hx hb dX1_expected_49 rfl (lv_at hl 7 rfl) ?_
  refine lv_iload hx hb dX1_expected_50 (lv_at hl 3 rfl) ?_
  refine lv_iload hx hb dX1_expected_52 (lv_at hl 2 rfl) ?_
  refine lv_iload hx hb dX1_expected_54 (lv_at hl 4 rfl) ?_
  refine lv_iconst (v := (1 : Int32)) hx hb dX1_expected_56 (by decide) ?_
  refine lv_iload hx hb dX1_expected_57 (lv_at hl 4 rfl) ?_
  refine lv_isub hx hb dX1_expected_59 ?_
  obtain ⟨r12, V10, h11, hf⟩ := bi_e hf
  refine xz_Vi F I (ctx_behind l D g ad V6 p1 p2 v2 v3 v1 ((1 : Int32) - v1) r12 V10 h11 ) (lw_V q659 q661 qs17 q47 q662) hdX1_behind rfl (Nat.le_of_ble_eq_true rfl) (Nat.le_of_ble_eq_true rfl) (w6_recv F I xo_ob rfl) rfl hl.1 [] rfl (Nat.le_of_ble_eq_true rfl) dX1_expected_60 ⟨Nat.le_of_ble_eq_true rfl, Nat.le_of_ble_eq_true rfl⟩ (fun H locs I => ?_)
  refine lv_i2l (v := (r12.toInt64)) hx hb dX1_expected_63 rfl ?_
  obtain ⟨v13, ev13, hf⟩ := lt_e hf
  refine w6_nml ev13 ?_
  refine lv_lstore (lv' := [(11, .long v13), (9, .long v9), (7, .long v5), (6, .int v3), (5, .int v2), (4, .int v1), (0, .ref (ad 0)), (1, .int p1), (2, .int p2), (3, .int p3)]) hx hb dX1_expected_64 hl (by decide) rfl (fun ls hl => ?_)
  refine lv_lload hx hb dX1_expected_66 (lv_at hl 2 rfl) ?_
  refine lv_lload hx hb dX1_expected_68 (lv_at hl 1 rfl) ?_
  refine lv_lmul hx hb dX1_expected_70 ?_
  refine lv_ldc2 hx hb hown (hts _ q663) dX1_expected_71 ?_
  refine lv_lload hx hb dX1_expected_74 (lv_at hl 2 rfl) ?_
  refine lv_lsub hx hb dX1_expected_76 ?_
  refine lv_lload hx hb dX1_expected_77 (lv_at hl 0 rfl) ?_
  refine lv_lmul hx hb dX1_expected_79 ?_
  refine lv_ladd hx hb dX1_expected_80 ?_
  refine lv_ldc2 hx hb hown (hts _ q663) dX1_expected_81 ?_
  refine lv_ldiv hx hb dX1_expected_84 (by decide) ?_
  refine lv_l2i (v := ((((v5 * v9) + (((1000 : Int64) - v5) * v13)) / (1000 : Int64)).toInt32)) hx hb dX1_expected_85 rfl ?_
  exact hret _ _ _ _ _ dX1_expected_86 (w6_mv (so_e hf).2 I) (so_e hf).1 rfl
def x_fills_j124 (rec15 : Mm → Int32 → Int32 → Option Mm) (p1 : Int32) (V : Mm)  (a2 : Int32) (a3 : Int32) : Option Mm :=
  lt_ (a3 + (-1 : Int32)) fun v7 => rec15 V a2 v7
def x_fills_j118 (rec15 : Mm → Int32 → Int32 → Option Mm) (rec28 : Mm → Int32 → Int32 → Int32 → Option Mm) (p1 : Int32) (V : Mm)  (a2 : Int32) (a3 : Int32) (a4 : Int32) : Option Mm :=
  lt_ (a4 + (1 : Int32)) fun v9 => rec28 V a2 a3 v9
def x_fills_j111 (rec15 : Mm → Int32 → Int32 → Option Mm) (rec28 : Mm → Int32 → Int32 → Int32 → Option Mm) (rec47 : Mm → Int32 → Int32 → Int32 → Int32 → Int32 → Option Mm) (p1 : Int32) (V : Mm)  (a2 : Int32) (a3 : Int32) (a4 : Int32) (a5 : Int32) (a6 : Int32) (s0 : Int32) (s1 : Int32) : Option Mm :=
  gd_ (ix_ s1 69192) (lt_ (mset V 69 s1.toNatClampNeg s0) fun V20 => lt_ (a6 + (1 : Int32)) fun v21 => rec47 V20 a2 a3 a4 a5 v21)
def x_fills_l47 (rec15 : Mm → Int32 → Int32 → Option Mm) (rec28 : Mm → Int32 → Int32 → Int32 → Option Mm) (p1 : Int32) : Nat → Mm → Int32 → Int32 → Int32 → Int32 → Int32 → Option Mm
  | 0, _, _, _, _, _, _ => none
  | n47 + 1, V, a2, a3, a4, a5, a6 =>
  if (72 : Int32) ≤ a6 then (x_fills_j118 rec15 rec28 p1 V a2 a3 a4) else (bi_ (x_wins V p1 a4 a5) fun r12 V10 => if r12 = (0 : Int32) then (bi_ (x_wins V10 p1 a5 a4) fun r15 V13 => if r15 = (0 : Int32) then (bi_ (x_expected V13 a4 a5 a6) fun r18 V16 => x_fills_j111 rec15 rec28 (x_fills_l47 rec15 rec28 p1 n47) p1 V16 a2 a3 a4 a5 a6 r18 (px_spot a4 a5 a6)) else (x_fills_j111 rec15 rec28 (x_fills_l47 rec15 rec28 p1 n47) p1 V13 a2 a3 a4 a5 a6 (0 : Int32) (px_spot a4 a5 a6))) else (x_fills_j111 rec15 rec28 (x_fills_l47 rec15 rec28 p1 n47) p1 V10 a2 a3 a4 a5 a6 (1000000000 : Int32) (px_spot a4 a5 a6)))
def x_fills_l28 (rec15 : Mm → Int32 → Int32 → Option Mm) (p1 : Int32) : Nat → Mm → Int32 → Int32 → Int32 → Option Mm
  | 0, _, _, _, _ => none
  | n28 + 1, V, a2, a3, a4 =>
  lt_ ((if a3 < a2 then a3 else a2)) fun v6 => if v6 < a4 then (x_fills_j124 rec15 p1 V a2 a3) else (lt_ ((a3 - a4)) fun v8 => x_fills_l47 rec15 (x_fills_l28 rec15 p1 n28) p1 200 V a2 a3 a4 v8 (0 : Int32))
def x_fills_l15 (p1 : Int32) : Nat → Mm → Int32 → Int32 → Option Mm
  | 0, _, _, _ => none
  | n15 + 1, V, a2, a3 =>
  if a3 < (0 : Int32) then (some V) else (lt_ ((if (0 : Int32) < (a3 - a2) then (a3 - a2) else (0 : Int32))) fun v5 => x_fills_l28 (x_fills_l15 p1 n15) p1 200 V a2 a3 v5)
def x_fills (V : Mm) (p1 : Int32) : Option Mm :=
  (x_weighs V).bind fun V1 => lt_ ((V1.1 66 1)) fun v3 => lt_ (((2 : Int32) * v3)) fun v4 => x_fills_l15 p1 200 V1 v3 v4
theorem hdX1_fills : w6_hd yX1_fills 1 := by decide +kernel
abbrev rmX1_fills : Room := { frames := 4, cells := 0, slots := 0, locals := 98 }
set_option maxHeartbeats 4000000 in
set_option maxRecDepth 100000 in
theorem ctx_fills (l : Launch) (D : va_G) (g : Nat → ClassId) (ad : Nat → Nat) (V : Mm) (p1 : Int32) (V' : Mm) (hf : x_fills V p1 = some V')  : CTv l D g yX1_fills cX1_fills 7 rmX1_fills [.ref (ad 0), .int p1] (xw g ad V) (xw g ad V') := by
  intro sz
  refine w6_startv RX1 (by decide) (Nat.le_of_ble_eq_true rfl) rfl ?_
  intro p e s m below meth c A ls Q hx hb hown hts F I hl hret
  have hl : lv_has ls 7 [(0, .ref (ad 0)), (1, .int p1)] := hl
  have hL15 : ∀ (n15 : Nat) (V : Mm) (a2 : Int32) (a3 : Int32) (H : Heap) (locs : List Loc) (ls : Array Slot), x_fills_l15 p1 n15 V a2 a3 = some V' → w6_I D (xw g ad V ++ []) A s H locs → lv_has ls 7 [(0, .ref (ad 0)), (1, .int p1), (2, .int a2), (3, .int a3)] → W p l e rmX1_fills s m ([.ref (ad 0), .int p1] : List Value).toArray below meth c H locs 0 0 Q (F0 m 15 ls []) := by
    intro n15
    induction n15 with
    | zero =>
      intro V a2 a3 H locs ls hf
      rw [x_fills_l15] at hf
      cases hf
    | succ n15 ih15 =>
      have hJ124 : ∀ (V : Mm) (a2 : Int32) (a3 : Int32) (H : Heap) (locs : List Loc) (ls : Array Slot), x_fills_j124 (x_fills_l15 p1 n15) p1 V a2 a3 = some V' → w6_I D (xw g ad V ++ []) A s H locs → lv_has ls 7 [(0, .ref (ad 0)), (1, .int p1), (2, .int a2), (3, .int a3)] → W p l e rmX1_fills s m ([.ref (ad 0), .int p1] : List Value).toArray below meth c H locs 0 0 Q (F0 m 124 ls []) := by
        intro V a2 a3 H locs ls hf I hl
        unfold x_fills_j124 at hf
        obtain ⟨v7, ev7, hf⟩ := lt_e hf
        refine lv_iinc (v := v7) (lv' := [(3, .int v7), (0, .ref (ad 0)), (1, .int p1), (2, .int a2)]) hx hb dX1_fills_124 hl (k := 3) rfl (by rw [ev7]; rfl) (by decide) rfl (fun ls hl => ?_)
        refine lv_goto (tgt := 15) hx hb dX1_fills_127 (by decide) ?_
        exact ih15 V a2 v7 _ _ ls hf I (lv_sub hl [1, 2, 3, 0] rfl)
      have hL28 : ∀ (n28 : Nat) (V : Mm) (a2 : Int32) (a3 : Int32) (a4 : Int32) (H : Heap) (locs : List Loc) (ls : Array Slot), x_fills_l28 (x_fills_l15 p1 n15) p1 n28 V a2 a3 a4 = some V' → w6_I D (xw g ad V ++ []) A s H locs → lv_has ls 7 [(0, .ref (ad 0)), (1, .int p1), (2, .int a2), (3, .int a3), (4, .int a4)] → W p l e rmX1_fills s m ([.ref (ad 0), .int p1] : List Value).toArray below meth c H locs 0 0 Q (F0 m 28 ls []) := by
        intro n28
        induction n28 with
        | zero =>
          intro V a2 a3 a4 H locs ls hf
          rw [x_fills_l28] at hf
          cases hf
        | succ n28 ih28 =>
          have hJ118 : ∀ (V : Mm) (a2 : Int32) (a3 : Int32) (a4 : Int32) (H : Heap) (locs : List Loc) (ls : Array Slot), x_fills_j118 (x_fills_l15 p1 n15) (x_fills_l28 (x_fills_l15 p1 n15) p1 n28) p1 V a2 a3 a4 = some V' → w6_I D (xw g ad V ++ []) A s H locs → lv_has ls 7 [(0, .ref (ad 0)), (1, .int p1), (2, .int a2), (3, .int a3), (4, .int a4)] → W p l e rmX1_fills s m ([.ref (ad 0), .int p1] : List Value).toArray below meth c H locs 0 0 Q (F0 m 118 ls []) := by
            intro V a2 a3 a4 H locs ls hf I hl
            unfold x_fills_j118 at hf
            obtain ⟨v9, ev9, hf⟩ := lt_e hf
            refine lv_iinc (v := v9) (lv' := [(4, .int v9), (0, .ref (ad 0)), (1, .int p1), (2, .int a2), (3, .int a3)]) hx hb dX1_fills_118 hl (k := 4) rfl (by rw [ev9]; rfl) (by decide) rfl (fun ls hl => ?_)
            refine lv_goto (tgt := 28) hx hb dX1_fills_121 (by decide) ?_
            exact ih28 V a2 a3 v9 _ _ ls hf I (lv_sub hl [1, 2, 3, 4, 0] rfl)
          have hL47 : ∀ (n47 : Nat) (V : Mm) (a2 : Int32) (a3 : Int32) (a4 : Int32) (a5 : Int32) (a6 : Int32) (H : Heap) (locs : List Loc) (ls : Array Slot), x_fills_l47 (x_fills_l15 p1 n15) (x_fills_l28 (x_fills_l15 p1 n15) p1 n28) p1 n47 V a2 a3 a4 a5 a6 = some V' → w6_I D (xw g ad V ++ []) A s H locs → lv_has ls 7 [(0, .ref (ad 0)), (1, .int p1), (2, .int a2), (3, .int a3), (4, .int a4), (5, .int a5), (6, .int a6)] → W p l e rmX1_fills s m ([.ref (ad 0), .int p1] : List Value).toArray below meth c H locs 0 0 Q (F0 m 47 ls []) := by
            intro n47
            induction n47 with
            | zero =>
              intro V a2 a3 a4 a5 a6 H locs ls hf
              rw [x_fills_l47] at hf
              cases hf
            | succ n47 ih47 =>
              have hJ111 : ∀ (V : Mm) (a2 : Int32) (a3 : Int32) (a4 : Int32) (a5 : Int32) (a6 : Int32) (s0 : Int32) (s1 : Int32) (H : Heap) (locs : List Loc) (ls : Array Slot), x_fills_j111 (x_fills_l15 p1 n15) (x_fills_l28 (x_fills_l15 p1 n15) p1 n28) (x_fills_l47 (x_fills_l15 p1 n15) (x_fills_l28 (x_fills_l15 p1 n15) p1 n28) p1 n47) p1 V a2 a3 a4 a5 a6 s0 s1 = some V' → w6_I D (xw g ad V ++ []) A s H locs → lv_has ls 7 [(0, .ref (ad 0)), (1, .int p1), (2, .int a2), (3, .int a3), (4, .int a4), (5, .int a5), (6, .int a6)] → W p l e rmX1_fills s m ([.ref (ad 0), .int p1] : List Value).toArray below meth c H locs 0 0 Q (F0 m 111 ls [.int s0, .int s1, .ref (ad 69)]) := by
                intro V a2 a3 a4 a5 a6 s0 s1 H locs ls hf I hl
                unfold x_fills_j111 at hf
                obtain ⟨g19, hf⟩ := gd_e hf
                obtain ⟨V20, eV20, hf⟩ := lt_e hf
                refine w6_iast (j := s1.toNatClampNeg) xsh_lc F I (x_ar 69 69192 (by decide) rfl) g19 rfl dX1_fills_111 eV20 (fun H locs I => ?_)
                obtain ⟨v21, ev21, hf⟩ := lt_e hf
                refine lv_iinc (v := v21) (lv' := [(6, .int v21), (0, .ref (ad 0)), (1, .int p1), (2, .int a2), (3, .int a3), (4, .int a4), (5, .int a5)]) hx hb dX1_fills_112 hl (k := 6) rfl (by rw [ev21]; rfl) (by decide) rfl (fun ls hl => ?_)
                refine lv_goto (tgt := 47) hx hb dX1_fills_115 (by decide) ?_
                exact ih47 V20 a2 a3 a4 a5 v21 _ _ ls hf I (lv_sub hl [1, 2, 3, 4, 5, 6, 0] rfl)
              intro V a2 a3 a4 a5 a6 H locs ls hf I hl
              rw [x_fills_l47] at hf
              refine lv_iload hx hb dX1_fills_47 (lv_at hl 6 rfl) ?_
              refine lv_bipush (v := (72 : Int32)) hx hb dX1_fills_49 (by decide) ?_
              refine lv_icmp_ge (tgt := 118) hx hb dX1_fills_51 (by decide) (fun c => ?_) (fun c => ?_)
              · have hf := if_p c hf
                exact hJ118 V a2 a3 a4 _ _ ls hf I (lv_sub hl [0, 1, 2, 3, 4] rfl)
              · have hf := if_n c hf
                refine lv_aload_n hx hb dX1_fills_54 rfl (lv_at hl 0 rfl) ?_
                refine w6_get F I xo_ob rfl in_X1 22 (by decide) q179 rfl rfl dX1_fills_55 ?_
                refine lv_iload hx hb dX1_fills_58 (lv_at hl 4 rfl) ?_
                refine lv_iload hx hb dX1_fills_60 (lv_at hl 5 rfl) ?_
                refine lv_iload hx hb dX1_fills_62 (lv_at hl 6 rfl) ?_
                refine xz_Pi F I (ctpx_spot l D g a4 a5 a6 _ rfl) (lw_S q651 q652 q47 q653) hdX1_spot (Nat.le_of_ble_eq_true rfl) (Nat.le_of_ble_eq_true rfl) rfl hl.1 [.ref (ad 69)] rfl (Nat.le_of_ble_eq_true rfl) dX1_fills_64 ⟨Nat.le_of_ble_eq_true rfl, Nat.le_of_ble_eq_true rfl⟩ (fun H locs I => ?_)
                refine lv_aload_n hx hb dX1_fills_67 rfl (lv_at hl 0 rfl) ?_
                refine lv_iload_n hx hb dX1_fills_68 rfl (lv_at hl 1 rfl) ?_
                refine lv_iload hx hb dX1_fills_69 (lv_at hl 4 rfl) ?_
                refine lv_iload hx hb dX1_fills_71 (lv_at hl 5 rfl) ?_
                obtain ⟨r12, V10, h11, hf⟩ := bi_e hf
                refine xz_Vi F I (ctx_wins l D g ad V p1 a4 a5 r12 V10 h11 ) (lw_V q311 q313 qs4 q47 q314) hdX1_wins rfl (Nat.le_of_ble_eq_true rfl) (Nat.le_of_ble_eq_true rfl) (w6_recv F I xo_ob rfl) rfl hl.1 [.int (px_spot a4 a5 a6), .ref (ad 69)] rfl (Nat.le_of_ble_eq_true rfl) dX1_fills_73 ⟨Nat.le_of_ble_eq_true rfl, Nat.le_of_ble_eq_true rfl⟩ (fun H locs I => ?_)
                refine lv_if_eq (tgt := 85) hx hb dX1_fills_76 (by decide) (fun c => ?_) (fun c => ?_)
                · have hf := if_p c hf
                  refine lv_aload_n hx hb dX1_fills_85 rfl (lv_at hl 0 rfl) ?_
                  refine lv_iload_n hx hb dX1_fills_86 rfl (lv_at hl 1 rfl) ?_
                  refine lv_iload hx hb dX1_fills_87 (lv_at hl 5 rfl) ?_
                  refine lv_iload hx hb dX1_fills_89 (lv_at hl 4 rfl) ?_
                  obtain ⟨r15, V13, h14, hf⟩ := bi_e hf
                  refine xz_Vi F I (ctx_wins l D g ad V10 p1 a5 a4 r15 V13 h14 ) (lw_V q311 q313 qs4 q47 q314) hdX1_wins rfl (Nat.le_of_ble_eq_true rfl) (Nat.le_of_ble_eq_true rfl) (w6_recv F I xo_ob rfl) rfl hl.1 [.int (px_spot a4 a5 a6), .ref (ad 69)] rfl (Nat.le_of_ble_eq_true rfl) dX1_fills_91 ⟨Nat.le_of_ble_eq_true rfl, Nat.le_of_ble_eq_true rfl⟩ (fun H locs I => ?_)
                  refine lv_if_eq (tgt := 101) hx hb dX1_fills_94 (by decide) (fun c => ?_) (fun c => ?_)
                  · have hf := if_p c hf
                    refine lv_aload_n hx hb dX1_fills_101 rfl (lv_at hl 0 rfl) ?_
                    refine lv_iload hx hb dX1_fills_102 (lv_at hl 4 rfl) ?_
                    refine lv_iload hx hb dX1_fills_104 (lv_at hl 5 rfl) ?_
                    refine lv_iload hx hb dX1_fills_106 (lv_at hl 6 rfl) ?_
                    obtain ⟨r18, V16, h17, hf⟩ := bi_e hf
                    refine xz_Vi F I (ctx_expected l D g ad V13 a4 a5 a6 r18 V16 h17 ) (lw_V q655 q657 qs16 q47 q658) hdX1_expected rfl (Nat.le_of_ble_eq_true rfl) (Nat.le_of_ble_eq_true rfl) (w6_recv F I xo_ob rfl) rfl hl.1 [.int (px_spot a4 a5 a6), .ref (ad 69)] rfl (Nat.le_of_ble_eq_true rfl) dX1_fills_108 ⟨Nat.le_of_ble_eq_true rfl, Nat.le_of_ble_eq_true rfl⟩ (fun H locs I => ?_)
                    exact hJ111 V16 a2 a3 a4 a5 a6 r18 (px_spot a4 a5 a6) _ _ ls hf I (lv_sub hl [0, 1, 2, 3, 4, 5, 6] rfl)
                  · have hf := if_n c hf
                    refine lv_iconst (v := (0 : Int32)) hx hb dX1_fills_97 (by decide) ?_
                    refine lv_goto (tgt := 111) hx hb dX1_fills_98 (by decide) ?_
                    exact hJ111 V13 a2 a3 a4 a5 a6 (0 : Int32) (px_spot a4 a5 a6) _ _ ls hf I (lv_sub hl [0, 1, 2, 3, 4, 5, 6] rfl)
                · have hf := if_n c hf
                  refine lv_ldcw hx hb hown (hts _ q654) dX1_fills_79 ?_
                  refine lv_goto (tgt := 111) hx hb dX1_fills_82 (by decide) ?_
                  exact hJ111 V10 a2 a3 a4 a5 a6 (1000000000 : Int32) (px_spot a4 a5 a6) _ _ ls hf I (lv_sub hl [0, 1, 2, 3, 4, 5, 6] rfl)
          intro V a2 a3 a4 H locs ls hf I hl
          rw [x_fills_l28] at hf
          refine lv_iload hx hb dX1_fills_28 (lv_at hl 4 rfl) ?_
          refine lv_iload_n hx hb dX1_fills_30 rfl (lv_at hl 2 rfl) ?_
          refine lv_iload_n hx hb dX1_fills_31 rfl (lv_at hl 3 rfl) ?_
          refine va_mmin hx hb (by rw [F.1.2.2.1]; exact hl.1.symm) hown (hts _ q397) (hts _ q398) (hts _ q52) (hts _ q399) (Nat.le_of_ble_eq_true rfl) (Nat.le_of_ble_eq_true rfl) (Nat.le_of_ble_eq_true rfl) (Nat.le_of_ble_eq_true rfl) dX1_fills_32 ?_
          obtain ⟨v6, ev6, hf⟩ := lt_e hf
          refine w6_nmi ev6 ?_
          refine lv_icmp_gt (tgt := 124) hx hb dX1_fills_35 (by decide) (fun c => ?_) (fun c => ?_)
          · have hf := if_p c hf
            exact hJ124 V a2 a3 _ _ ls hf I (lv_sub hl [0, 1, 2, 3] rfl)
          · have hf := if_n c hf
            refine lv_iload_n hx hb dX1_fills_38 rfl (lv_at hl 3 rfl) ?_
            refine lv_iload hx hb dX1_fills_39 (lv_at hl 4 rfl) ?_
            refine lv_isub hx hb dX1_fills_41 ?_
            obtain ⟨v8, ev8, hf⟩ := lt_e hf
            refine w6_nmi ev8 ?_
            refine lv_istore (lv' := [(5, .int v8), (0, .ref (ad 0)), (1, .int p1), (2, .int a2), (3, .int a3), (4, .int a4)]) hx hb dX1_fills_42 hl (by decide) rfl (fun ls hl => ?_)
            refine lv_iconst (v := (0 : Int32)) hx hb dX1_fills_44 (by decide) ?_
            refine lv_istore (lv' := [(6, .int (0 : Int32)), (5, .int v8), (0, .ref (ad 0)), (1, .int p1), (2, .int a2), (3, .int a3), (4, .int a4)]) hx hb dX1_fills_45 hl (by decide) rfl (fun ls hl => ?_)
            exact hL47 200 V a2 a3 a4 v8 (0 : Int32) _ _ ls hf I (lv_sub hl [2, 3, 4, 5, 6, 1, 0] rfl)
      intro V a2 a3 H locs ls hf I hl
      rw [x_fills_l15] at hf
      refine lv_iload_n hx hb dX1_fills_15 rfl (lv_at hl 3 rfl) ?_
      refine lv_if_lt (tgt := 130) hx hb dX1_fills_16 (by decide) (fun c => ?_) (fun c => ?_)
      · have hf := if_p c hf
        exact hret _ _ _ _ dX1_fills_130 (w6_mv (Option.some.inj hf) I)
      · have hf := if_n c hf
        refine lv_iconst (v := (0 : Int32)) hx hb dX1_fills_19 (by decide) ?_
        refine lv_iload_n hx hb dX1_fills_20 rfl (lv_at hl 3 rfl) ?_
        refine lv_iload_n hx hb dX1_fills_21 rfl (lv_at hl 2 rfl) ?_
        refine lv_isub hx hb dX1_fills_22 ?_
        refine va_mmax hx hb (by rw [F.1.2.2.1]; exact hl.1.symm) hown (hts _ q635) (hts _ q510) (hts _ q52) (hts _ q511) (Nat.le_of_ble_eq_true rfl) (Nat.le_of_ble_eq_true rfl) (Nat.le_of_ble_eq_true rfl) (Nat.le_of_ble_eq_true rfl) dX1_fills_23 ?_
        obtain ⟨v5, ev5, hf⟩ := lt_e hf
        refine w6_nmi ev5 ?_
        refine lv_istore (lv' := [(4, .int v5), (0, .ref (ad 0)), (1, .int p1), (2, .int a2), (3, .int a3)]) hx hb dX1_fills_26 hl (by decide) rfl (fun ls hl => ?_)
        exact hL28 200 V a2 a3 v5 _ _ ls hf I (lv_sub hl [1, 2, 3, 4, 0] rfl)
  unfold x_fills at hf
  refine lv_aload_n hx hb dX1_fills_0 rfl (lv_at hl 0 rfl) ?_
  obtain ⟨V1, h2, hf⟩ := bn_e hf
  refine xz_Vv F I (ctx_weighs l D g ad V V1 h2 ) (lw_V q644 q646 qs15 q47 q647) hdX1_weighs rfl (Nat.le_of_ble_eq_true rfl) (Nat.le_of_ble_eq_true rfl) (w6_recv F I xo_ob rfl) rfl hl.1 [] rfl (Nat.le_of_ble_eq_true rfl) dX1_fills_1 ⟨Nat.le_of_ble_eq_true rfl, Nat.le_of_ble_eq_true rfl⟩ (fun H locs I => ?_)
  refine lv_aload_n hx hb dX1_fills_4 rfl (lv_at hl 0 rfl) ?_
  refine w6_get F I xo_ob rfl in_X1 3 (by decide) q160 rfl rfl dX1_fills_5 ?_
  refine lv_iconst (v := (1 : Int32)) hx hb dX1_fills_8 (by decide) ?_
  refine w6_iald (j := 1) F I (x_ar 66 6 (by decide) rfl) (show ix_ (1 : Int32) 6 by decide) rfl dX1_fills_9 ?_
  obtain ⟨v3, ev3, hf⟩ := lt_e hf
  refine w6_nmi ev3 ?_
  refine lv_istore_n (lv' := [(2, .int v3), (0, .ref (ad 0)), (1, .int p1)]) hx hb dX1_fills_10 rfl hl (by decide) rfl (fun ls hl => ?_)
  refine lv_iconst (v := (2 : Int32)) hx hb dX1_fills_11 (by decide) ?_
  refine lv_iload_n hx hb dX1_fills_12 rfl (lv_at hl 0 rfl) ?_
  refine lv_imul hx hb dX1_fills_13 ?_
  obtain ⟨v4, ev4, hf⟩ := lt_e hf
  refine w6_nmi ev4 ?_
  refine lv_istore_n (lv' := [(3, .int v4), (2, .int v3), (0, .ref (ad 0)), (1, .int p1)]) hx hb dX1_fills_14 rfl hl (by decide) rfl (fun ls hl => ?_)
  exact hL15 200 V1 v3 v4 _ _ ls hf I (lv_sub hl [2, 3, 1, 0] rfl)
def x_odds_j58 (p1 : Int32) (p2 : Int32) (p3 : Int32) (V : Mm)  (s0 : Int32) (s1 : Int32) (s2 : Int32) : Option (Int32 × Mm) :=
  bi_ (x_oddsOf V s2 s1 s0) fun r3 V1 => some (r3, V1)
def x_odds_j49 (p1 : Int32) (p2 : Int32) (p3 : Int32) (V : Mm)  (s0 : Int32) (s1 : Int32) : Option (Int32 × Mm) :=
  if p3 = (0 : Int32) then (x_odds_j58 p1 p2 p3 V p2 s0 s1) else (x_odds_j58 p1 p2 p3 V p1 s0 s1)
def x_odds (V : Mm) (p1 : Int32) (p2 : Int32) (p3 : Int32) : Option (Int32 × Mm) :=
  if (V.1 0 10) = (0 : Int32) then (some ((-1 : Int32), V)) else (if (px_in (p1.toInt64) (0 : Int64) (5 : Int64)) = (0 : Int32) then (some ((-1 : Int32), V)) else (if (px_in (p2.toInt64) (0 : Int64) (5 : Int64)) = (0 : Int32) then (some ((-1 : Int32), V)) else (if (px_isTeam p3) = (0 : Int32) then (some ((-1 : Int32), V)) else (if p3 = (0 : Int32) then (x_odds_j49 p1 p2 p3 V p1 p3) else (x_odds_j49 p1 p2 p3 V p2 p3)))))
theorem hdX1_odds : w6_hd yX1_odds 3 := by decide +kernel
abbrev rmX1_odds : Room := { frames := 3, cells := 0, slots := 0, locals := 75 }
set_option maxHeartbeats 4000000 in
set_option maxRecDepth 100000 in
theorem ctx_odds (l : Launch) (D : va_G) (g : Nat → ClassId) (ad : Nat → Nat) (V : Mm) (p1 : Int32) (p2 : Int32) (p3 : Int32) (r : Int32) (V' : Mm) (hf : x_odds V p1 p2 p3 = some (r, V'))  : CTi l D g yX1_odds cX1_odds 4 .int rmX1_odds [.ref (ad 0), .int p1, .int p2, .int p3] (xw g ad V) (xw g ad V') r := by
  intro sz
  refine w6_starti RX1 (by decide) (Nat.le_of_ble_eq_true rfl) rfl ?_
  intro p e s m below meth c A ls Q hx hb hown hts F I hl hret
  have hl : lv_has ls 4 [(0, .ref (ad 0)), (1, .int p1), (2, .int p2), (3, .int p3)] := hl
  have hJ58 : ∀ (V : Mm) (s0 : Int32) (s1 : Int32) (s2 : Int32) (H : Heap) (locs : List Loc) (ls : Array Slot), x_odds_j58 p1 p2 p3 V s0 s1 s2 = some (r, V') → w6_I D (xw g ad V ++ []) A s H locs → lv_has ls 4 [] → W p l e rmX1_odds s m ([.ref (ad 0), .int p1, .int p2, .int p3] : List Value).toArray below meth c H locs 0 0 Q (F0 m 58 ls [.int s0, .int s1, .int s2, .ref (ad 0)]) := by
    intro V s0 s1 s2 H locs ls hf I hl
    unfold x_odds_j58 at hf
    obtain ⟨r3, V1, h2, hf⟩ := bi_e hf
    refine xz_Vi F I (ctx_oddsOf l D g ad V s2 s1 s0 r3 V1 h2 ) (lw_V q623 q625 qs12 q47 q626) hdX1_oddsOf rfl (Nat.le_of_ble_eq_true rfl) (Nat.le_of_ble_eq_true rfl) (w6_recv F I xo_ob rfl) rfl hl.1 [] rfl (Nat.le_of_ble_eq_true rfl) dX1_odds_58 ⟨Nat.le_of_ble_eq_true rfl, Nat.le_of_ble_eq_true rfl⟩ (fun H locs I => ?_)
    refine lv_goto (tgt := 65) hx hb dX1_odds_61 (by decide) ?_
    exact hret _ _ _ _ _ dX1_odds_65 (w6_mv (so_e hf).2 I) (so_e hf).1 rfl
  have hJ49 : ∀ (V : Mm) (s0 : Int32) (s1 : Int32) (H : Heap) (locs : List Loc) (ls : Array Slot), x_odds_j49 p1 p2 p3 V s0 s1 = some (r, V') → w6_I D (xw g ad V ++ []) A s H locs → lv_has ls 4 [(1, .int p1), (2, .int p2), (3, .int p3)] → W p l e rmX1_odds s m ([.ref (ad 0), .int p1, .int p2, .int p3] : List Value).toArray below meth c H locs 0 0 Q (F0 m 49 ls [.int s0, .int s1, .ref (ad 0)]) := by
    intro V s0 s1 H locs ls hf I hl
    unfold x_odds_j49 at hf
    refine lv_iload_n hx hb dX1_odds_49 rfl (lv_at hl 2 rfl) ?_
    refine lv_if_ne (tgt := 57) hx hb dX1_odds_50 (by decide) (fun c => ?_) (fun c => ?_)
    · have hf := if_n c hf
      refine lv_iload_n hx hb dX1_odds_57 rfl (lv_at hl 0 rfl) ?_
      exact hJ58 V p1 s0 s1 _ _ ls hf I (lv_sub hl [] rfl)
    · have hf := if_p c hf
      refine lv_iload_n hx hb dX1_odds_53 rfl (lv_at hl 1 rfl) ?_
      refine lv_goto (tgt := 58) hx hb dX1_odds_54 (by decide) ?_
      exact hJ58 V p2 s0 s1 _ _ ls hf I (lv_sub hl [] rfl)
  unfold x_odds at hf
  refine lv_aload_n hx hb dX1_odds_0 rfl (lv_at hl 0 rfl) ?_
  refine w6_get F I xo_ob rfl in_X1 10 (by decide) q167 rfl rfl dX1_odds_1 ?_
  refine lv_if_eq (tgt := 64) hx hb dX1_odds_4 (by decide) (fun c => ?_) (fun c => ?_)
  · have hf := if_p c hf
    refine lv_iconst (v := (-1 : Int32)) hx hb dX1_odds_64 (by decide) ?_
    exact hret _ _ _ _ _ dX1_odds_65 (w6_mv (so_e hf).2 I) (so_e hf).1 rfl
  · have hf := if_n c hf
    refine lv_iload_n hx hb dX1_odds_7 rfl (lv_at hl 1 rfl) ?_
    refine lv_i2l (v := (p1.toInt64)) hx hb dX1_odds_8 rfl ?_
    refine lv_lconst (v := (0 : Int64)) hx hb dX1_odds_9 (by decide) ?_
    refine lv_ldc2 hx hb hown (hts _ q258) dX1_odds_10 ?_
    refine xz_Pi F I (ctpx_in l D g (p1.toInt64) (0 : Int64) (5 : Int64) _ rfl) (lw_S q244 q245 q47 q246) hdX1_in (Nat.le_of_ble_eq_true rfl) (Nat.le_of_ble_eq_true rfl) rfl hl.1 [] rfl (Nat.le_of_ble_eq_true rfl) dX1_odds_13 ⟨Nat.le_of_ble_eq_true rfl, Nat.le_of_ble_eq_true rfl⟩ (fun H locs I => ?_)
    refine lv_if_eq (tgt := 64) hx hb dX1_odds_16 (by decide) (fun c => ?_) (fun c => ?_)
    · have hf := if_p c hf
      refine lv_iconst (v := (-1 : Int32)) hx hb dX1_odds_64 (by decide) ?_
      exact hret _ _ _ _ _ dX1_odds_65 (w6_mv (so_e hf).2 I) (so_e hf).1 rfl
    · have hf := if_n c hf
      refine lv_iload_n hx hb dX1_odds_19 rfl (lv_at hl 2 rfl) ?_
      refine lv_i2l (v := (p2.toInt64)) hx hb dX1_odds_20 rfl ?_
      refine lv_lconst (v := (0 : Int64)) hx hb dX1_odds_21 (by decide) ?_
      refine lv_ldc2 hx hb hown (hts _ q258) dX1_odds_22 ?_
      refine xz_Pi F I (ctpx_in l D g (p2.toInt64) (0 : Int64) (5 : Int64) _ rfl) (lw_S q244 q245 q47 q246) hdX1_in (Nat.le_of_ble_eq_true rfl) (Nat.le_of_ble_eq_true rfl) rfl hl.1 [] rfl (Nat.le_of_ble_eq_true rfl) dX1_odds_25 ⟨Nat.le_of_ble_eq_true rfl, Nat.le_of_ble_eq_true rfl⟩ (fun H locs I => ?_)
      refine lv_if_eq (tgt := 64) hx hb dX1_odds_28 (by decide) (fun c => ?_) (fun c => ?_)
      · have hf := if_p c hf
        refine lv_iconst (v := (-1 : Int32)) hx hb dX1_odds_64 (by decide) ?_
        exact hret _ _ _ _ _ dX1_odds_65 (w6_mv (so_e hf).2 I) (so_e hf).1 rfl
      · have hf := if_n c hf
        refine lv_iload_n hx hb dX1_odds_31 rfl (lv_at hl 3 rfl) ?_
        refine xz_Pi F I (ctpx_isTeam l D g p3 _ rfl) (lw_S q237 q238 q47 q239) hdX1_isTeam (Nat.le_of_ble_eq_true rfl) (Nat.le_of_ble_eq_true rfl) rfl hl.1 [] rfl (Nat.le_of_ble_eq_true rfl) dX1_odds_32 ⟨Nat.le_of_ble_eq_true rfl, Nat.le_of_ble_eq_true rfl⟩ (fun H locs I => ?_)
        refine lv_if_eq (tgt := 64) hx hb dX1_odds_35 (by decide) (fun c => ?_) (fun c => ?_)
        · have hf := if_p c hf
          refine lv_iconst (v := (-1 : Int32)) hx hb dX1_odds_64 (by decide) ?_
          exact hret _ _ _ _ _ dX1_odds_65 (w6_mv (so_e hf).2 I) (so_e hf).1 rfl
        · have hf := if_n c hf
          refine lv_aload_n hx hb dX1_odds_38 rfl (lv_at hl 0 rfl) ?_
          refine lv_iload_n hx hb dX1_odds_39 rfl (lv_at hl 3 rfl) ?_
          refine lv_iload_n hx hb dX1_odds_40 rfl (lv_at hl 3 rfl) ?_
          refine lv_if_ne (tgt := 48) hx hb dX1_odds_41 (by decide) (fun c => ?_) (fun c => ?_)
          · have hf := if_n c hf
            refine lv_iload_n hx hb dX1_odds_48 rfl (lv_at hl 2 rfl) ?_
            exact hJ49 V p2 p3 _ _ ls hf I (lv_sub hl [1, 2, 3] rfl)
          · have hf := if_p c hf
            refine lv_iload_n hx hb dX1_odds_44 rfl (lv_at hl 1 rfl) ?_
            refine lv_goto (tgt := 49) hx hb dX1_odds_45 (by decide) ?_
            exact hJ49 V p1 p3 _ _ ls hf I (lv_sub hl [1, 2, 3] rfl)
def x_now (V : Mm) : Option (Int32 × Mm) :=
  gd_ (ix_ (px_spot (V.1 (3 + 9 * 0) 8) (V.1 (3 + 9 * 1) 8) (px_turned (0 : Int32) (0 : Int32) (V.1 0 5))) 69192) (some ((V.1 69 ((px_spot (V.1 (3 + 9 * 0) 8) (V.1 (3 + 9 * 1) 8) (px_turned (0 : Int32) (0 : Int32) (V.1 0 5))).toNatClampNeg)), V))
theorem hdX1_now : w6_hd yX1_now 0 := by decide +kernel
abbrev rmX1_now : Room := { frames := 1, cells := 0, slots := 0, locals := 22 }
set_option maxHeartbeats 4000000 in
set_option maxRecDepth 100000 in
theorem ctx_now (l : Launch) (D : va_G) (g : Nat → ClassId) (ad : Nat → Nat) (V : Mm) (r : Int32) (V' : Mm) (hf : x_now V = some (r, V'))  : CTi l D g yX1_now cX1_now 1 .int rmX1_now [.ref (ad 0)] (xw g ad V) (xw g ad V') r := by
  intro sz
  refine w6_starti RX1 (by decide) (Nat.le_of_ble_eq_true rfl) rfl ?_
  intro p e s m below meth c A ls Q hx hb hown hts F I hl hret
  have hl : lv_has ls 1 [(0, .ref (ad 0))] := hl
  unfold x_now at hf
  refine lv_aload_n hx hb dX1_now_0 rfl (lv_at hl 0 rfl) ?_
  refine w6_get F I xo_ob rfl in_X1 22 (by decide) q179 rfl rfl dX1_now_1 ?_
  refine lv_aload_n hx hb dX1_now_4 rfl (lv_at hl 0 rfl) ?_
  refine w6_get F I xo_ob rfl in_X1 0 (by decide) q157 rfl rfl dX1_now_5 ?_
  refine lv_iconst (v := (0 : Int32)) hx hb dX1_now_8 (by decide) ?_
  refine w6_aald (j := 0) F I x_sides rfl rfl (show ix_ (0 : Int32) 2 by decide) rfl dX1_now_9 ?_
  have s1 : isSide (3 + 9 * 0) := isSide_s (ix_l (show ix_ (0 : Int32) 2 by decide) (rfl : _ = 0))
  refine w6_getN F I (so_ob s1) rfl in_X2 8 (by decide) (List.mem_of_getElem? (i := 5) rfl) rfl rfl dX1_now_10 ?_
  refine lv_aload_n hx hb dX1_now_13 rfl (lv_at hl 0 rfl) ?_
  refine w6_get F I xo_ob rfl in_X1 0 (by decide) q157 rfl rfl dX1_now_14 ?_
  refine lv_iconst (v := (1 : Int32)) hx hb dX1_now_17 (by decide) ?_
  refine w6_aald (j := 1) F I x_sides rfl rfl (show ix_ (1 : Int32) 2 by decide) rfl dX1_now_18 ?_
  have s2 : isSide (3 + 9 * 1) := isSide_s (ix_l (show ix_ (1 : Int32) 2 by decide) (rfl : _ = 1))
  refine w6_getN F I (so_ob s2) rfl in_X2 8 (by decide) (List.mem_of_getElem? (i := 5) rfl) rfl rfl dX1_now_19 ?_
  refine lv_iconst (v := (0 : Int32)) hx hb dX1_now_22 (by decide) ?_
  refine lv_iconst (v := (0 : Int32)) hx hb dX1_now_23 (by decide) ?_
  refine lv_aload_n hx hb dX1_now_24 rfl (lv_at hl 0 rfl) ?_
  refine w6_get F I xo_ob rfl in_X1 5 (by decide) q162 rfl rfl dX1_now_25 ?_
  refine xz_Pi F I (ctpx_turned l D g (0 : Int32) (0 : Int32) (V.1 0 5) _ rfl) (lw_S q648 q649 q47 q650) hdX1_turned (Nat.le_of_ble_eq_true rfl) (Nat.le_of_ble_eq_true rfl) rfl hl.1 [.int (V.1 (3 + 9 * 1) 8), .int (V.1 (3 + 9 * 0) 8), .ref (ad 69)] rfl (Nat.le_of_ble_eq_true rfl) dX1_now_28 ⟨Nat.le_of_ble_eq_true rfl, Nat.le_of_ble_eq_true rfl⟩ (fun H locs I => ?_)
  refine xz_Pi F I (ctpx_spot l D g (V.1 (3 + 9 * 0) 8) (V.1 (3 + 9 * 1) 8) (px_turned (0 : Int32) (0 : Int32) (V.1 0 5)) _ rfl) (lw_S q651 q652 q47 q653) hdX1_spot (Nat.le_of_ble_eq_true rfl) (Nat.le_of_ble_eq_true rfl) rfl hl.1 [.ref (ad 69)] rfl (Nat.le_of_ble_eq_true rfl) dX1_now_31 ⟨Nat.le_of_ble_eq_true rfl, Nat.le_of_ble_eq_true rfl⟩ (fun H locs I => ?_)
  obtain ⟨g3, hf⟩ := gd_e hf
  refine w6_iald (j := (px_spot (V.1 (3 + 9 * 0) 8) (V.1 (3 + 9 * 1) 8) (px_turned (0 : Int32) (0 : Int32) (V.1 0 5))).toNatClampNeg) F I (x_ar 69 69192 (by decide) rfl) g3 rfl dX1_now_34 ?_
  exact hret _ _ _ _ _ dX1_now_35 (w6_mv (so_e hf).2 I) (so_e hf).1 rfl
def x_chance (V : Mm) : Option (Int32 × Mm) :=
  if (V.1 0 10) = (0 : Int32) then (some ((-1 : Int32), V)) else (bi_ (x_goal V) fun r3 V1 => (x_fills V1 r3).bind fun V4 => bi_ (x_now V4) fun r8 V6 => some (r8, V6))
theorem hdX1_chance : w6_hd yX1_chance 0 := by decide +kernel
abbrev rmX1_chance : Room := { frames := 5, cells := 0, slots := 0, locals := 124 }
set_option maxHeartbeats 4000000 in
set_option maxRecDepth 100000 in
theorem ctx_chance (l : Launch) (D : va_G) (g : Nat → ClassId) (ad : Nat → Nat) (V : Mm) (r : Int32) (V' : Mm) (hf : x_chance V = some (r, V'))  : CTi l D g yX1_chance cX1_chance 1 .int rmX1_chance [.ref (ad 0)] (xw g ad V) (xw g ad V') r := by
  intro sz
  refine w6_starti RX1 (by decide) (Nat.le_of_ble_eq_true rfl) rfl ?_
  intro p e s m below meth c A ls Q hx hb hown hts F I hl hret
  have hl : lv_has ls 1 [(0, .ref (ad 0))] := hl
  unfold x_chance at hf
  refine lv_aload_n hx hb dX1_chance_0 rfl (lv_at hl 0 rfl) ?_
  refine w6_get F I xo_ob rfl in_X1 10 (by decide) q167 rfl rfl dX1_chance_1 ?_
  refine lv_if_ne (tgt := 9) hx hb dX1_chance_4 (by decide) (fun c => ?_) (fun c => ?_)
  · have hf := if_n c hf
    refine lv_aload_n hx hb dX1_chance_9 rfl (lv_at hl 0 rfl) ?_
    refine lv_aload_n hx hb dX1_chance_10 rfl (lv_at hl 0 rfl) ?_
    obtain ⟨r3, V1, h2, hf⟩ := bi_e hf
    refine xz_Vi F I (ctx_goal l D g ad V r3 V1 h2 ) (lw_V q307 q309 qs3 q47 q310) hdX1_goal rfl (Nat.le_of_ble_eq_true rfl) (Nat.le_of_ble_eq_true rfl) (w6_recv F I xo_ob rfl) rfl hl.1 [.ref (ad 0)] rfl (Nat.le_of_ble_eq_true rfl) dX1_chance_11 ⟨Nat.le_of_ble_eq_true rfl, Nat.le_of_ble_eq_true rfl⟩ (fun H locs I => ?_)
    obtain ⟨V4, h5, hf⟩ := bn_e hf
    refine xz_Vv F I (ctx_fills l D g ad V1 r3 V4 h5 ) (lw_V q640 q642 qs14 q47 q643) hdX1_fills rfl (Nat.le_of_ble_eq_true rfl) (Nat.le_of_ble_eq_true rfl) (w6_recv F I xo_ob rfl) rfl hl.1 [] rfl (Nat.le_of_ble_eq_true rfl) dX1_chance_14 ⟨Nat.le_of_ble_eq_true rfl, Nat.le_of_ble_eq_true rfl⟩ (fun H locs I => ?_)
    refine lv_aload_n hx hb dX1_chance_17 rfl (lv_at hl 0 rfl) ?_
    obtain ⟨r8, V6, h7, hf⟩ := bi_e hf
    refine xz_Vi F I (ctx_now l D g ad V4 r8 V6 h7 ) (lw_V q664 q666 qs18 q47 q667) hdX1_now rfl (Nat.le_of_ble_eq_true rfl) (Nat.le_of_ble_eq_true rfl) (w6_recv F I xo_ob rfl) rfl hl.1 [] rfl (Nat.le_of_ble_eq_true rfl) dX1_chance_18 ⟨Nat.le_of_ble_eq_true rfl, Nat.le_of_ble_eq_true rfl⟩ (fun H locs I => ?_)
    exact hret _ _ _ _ _ dX1_chance_21 (w6_mv (so_e hf).2 I) (so_e hf).1 rfl
  · have hf := if_p c hf
    refine lv_iconst (v := (-1 : Int32)) hx hb dX1_chance_7 (by decide) ?_
    exact hret _ _ _ _ _ dX1_chance_8 (w6_mv (so_e hf).2 I) (so_e hf).1 rfl
def x_weight (V : Mm) : Option (Int32 × Mm) :=
  if (V.1 0 10) = (0 : Int32) then (some ((-1 : Int32), V)) else (bi_ (x_goal V) fun r3 V1 => (x_fills V1 r3).bind fun V4 => bi_ (x_behind V4 (V4.1 (3 + 9 * 0) 8) (V4.1 (3 + 9 * 1) 8) (0 : Int32) (0 : Int32) (V4.1 0 5) (0 : Int32)) fun r10 V8 => bi_ (x_behind V8 (V8.1 (3 + 9 * 0) 8) (V8.1 (3 + 9 * 1) 8) (0 : Int32) (0 : Int32) (V8.1 0 5) (1 : Int32)) fun r15 V13 => some ((r10 - r15), V13))
theorem hdX1_weight : w6_hd yX1_weight 0 := by decide +kernel
abbrev rmX1_weight : Room := { frames := 5, cells := 0, slots := 0, locals := 124 }
set_option maxHeartbeats 4000000 in
set_option maxRecDepth 100000 in
theorem ctx_weight (l : Launch) (D : va_G) (g : Nat → ClassId) (ad : Nat → Nat) (V : Mm) (r : Int32) (V' : Mm) (hf : x_weight V = some (r, V'))  : CTi l D g yX1_weight cX1_weight 1 .int rmX1_weight [.ref (ad 0)] (xw g ad V) (xw g ad V') r := by
  intro sz
  refine w6_starti RX1 (by decide) (Nat.le_of_ble_eq_true rfl) rfl ?_
  intro p e s m below meth c A ls Q hx hb hown hts F I hl hret
  have hl : lv_has ls 1 [(0, .ref (ad 0))] := hl
  unfold x_weight at hf
  refine lv_aload_n hx hb dX1_weight_0 rfl (lv_at hl 0 rfl) ?_
  refine w6_get F I xo_ob rfl in_X1 10 (by decide) q167 rfl rfl dX1_weight_1 ?_
  refine lv_if_ne (tgt := 9) hx hb dX1_weight_4 (by decide) (fun c => ?_) (fun c => ?_)
  · have hf := if_n c hf
    refine lv_aload_n hx hb dX1_weight_9 rfl (lv_at hl 0 rfl) ?_
    refine lv_aload_n hx hb dX1_weight_10 rfl (lv_at hl 0 rfl) ?_
    obtain ⟨r3, V1, h2, hf⟩ := bi_e hf
    refine xz_Vi F I (ctx_goal l D g ad V r3 V1 h2 ) (lw_V q307 q309 qs3 q47 q310) hdX1_goal rfl (Nat.le_of_ble_eq_true rfl) (Nat.le_of_ble_eq_true rfl) (w6_recv F I xo_ob rfl) rfl hl.1 [.ref (ad 0)] rfl (Nat.le_of_ble_eq_true rfl) dX1_weight_11 ⟨Nat.le_of_ble_eq_true rfl, Nat.le_of_ble_eq_true rfl⟩ (fun H locs I => ?_)
    obtain ⟨V4, h5, hf⟩ := bn_e hf
    refine xz_Vv F I (ctx_fills l D g ad V1 r3 V4 h5 ) (lw_V q640 q642 qs14 q47 q643) hdX1_fills rfl (Nat.le_of_ble_eq_true rfl) (Nat.le_of_ble_eq_true rfl) (w6_recv F I xo_ob rfl) rfl hl.1 [] rfl (Nat.le_of_ble_eq_true rfl) dX1_weight_14 ⟨Nat.le_of_ble_eq_true rfl, Nat.le_of_ble_eq_true rfl⟩ (fun H locs I => ?_)
    refine lv_aload_n hx hb dX1_weight_17 rfl (lv_at hl 0 rfl) ?_
    refine lv_aload_n hx hb dX1_weight_18 rfl (lv_at hl 0 rfl) ?_
    refine w6_get F I xo_ob rfl in_X1 0 (by decide) q157 rfl rfl dX1_weight_19 ?_
    refine lv_iconst (v := (0 : Int32)) hx hb dX1_weight_22 (by decide) ?_
    refine w6_aald (j := 0) F I x_sides rfl rfl (show ix_ (0 : Int32) 2 by decide) rfl dX1_weight_23 ?_
    have s6 : isSide (3 + 9 * 0) := isSide_s (ix_l (show ix_ (0 : Int32) 2 by decide) (rfl : _ = 0))
    refine w6_getN F I (so_ob s6) rfl in_X2 8 (by decide) (List.mem_of_getElem? (i := 5) rfl) rfl rfl dX1_weight_24 ?_
    refine lv_aload_n hx hb dX1_weight_27 rfl (lv_at hl 0 rfl) ?_
    refine w6_get F I xo_ob rfl in_X1 0 (by decide) q157 rfl rfl dX1_weight_28 ?_
    refine lv_iconst (v := (1 : Int32)) hx hb dX1_weight_31 (by decide) ?_
    refine w6_aald (j := 1) F I x_sides rfl rfl (show ix_ (1 : Int32) 2 by decide) rfl dX1_weight_32 ?_
    have s7 : isSide (3 + 9 * 1) := isSide_s (ix_l (show ix_ (1 : Int32) 2 by decide) (rfl : _ = 1))
    refine w6_getN F I (so_ob s7) rfl in_X2 8 (by decide) (List.mem_of_getElem? (i := 5) rfl) rfl rfl dX1_weight_33 ?_
    refine lv_iconst (v := (0 : Int32)) hx hb dX1_weight_36 (by decide) ?_
    refine lv_iconst (v := (0 : Int32)) hx hb dX1_weight_37 (by decide) ?_
    refine lv_aload_n hx hb dX1_weight_38 rfl (lv_at hl 0 rfl) ?_
    refine w6_get F I xo_ob rfl in_X1 5 (by decide) q162 rfl rfl dX1_weight_39 ?_
    refine lv_iconst (v := (0 : Int32)) hx hb dX1_weight_42 (by decide) ?_
    obtain ⟨r10, V8, h9, hf⟩ := bi_e hf
    refine xz_Vi F I (ctx_behind l D g ad V4 (V4.1 (3 + 9 * 0) 8) (V4.1 (3 + 9 * 1) 8) (0 : Int32) (0 : Int32) (V4.1 0 5) (0 : Int32) r10 V8 h9 ) (lw_V q659 q661 qs17 q47 q662) hdX1_behind rfl (Nat.le_of_ble_eq_true rfl) (Nat.le_of_ble_eq_true rfl) (w6_recv F I xo_ob rfl) rfl hl.1 [] rfl (Nat.le_of_ble_eq_true rfl) dX1_weight_43 ⟨Nat.le_of_ble_eq_true rfl, Nat.le_of_ble_eq_true rfl⟩ (fun H locs I => ?_)
    refine lv_aload_n hx hb dX1_weight_46 rfl (lv_at hl 0 rfl) ?_
    refine lv_aload_n hx hb dX1_weight_47 rfl (lv_at hl 0 rfl) ?_
    refine w6_get F I xo_ob rfl in_X1 0 (by decide) q157 rfl rfl dX1_weight_48 ?_
    refine lv_iconst (v := (0 : Int32)) hx hb dX1_weight_51 (by decide) ?_
    refine w6_aald (j := 0) F I x_sides rfl rfl (show ix_ (0 : Int32) 2 by decide) rfl dX1_weight_52 ?_
    have s11 : isSide (3 + 9 * 0) := isSide_s (ix_l (show ix_ (0 : Int32) 2 by decide) (rfl : _ = 0))
    refine w6_getN F I (so_ob s11) rfl in_X2 8 (by decide) (List.mem_of_getElem? (i := 5) rfl) rfl rfl dX1_weight_53 ?_
    refine lv_aload_n hx hb dX1_weight_56 rfl (lv_at hl 0 rfl) ?_
    refine w6_get F I xo_ob rfl in_X1 0 (by decide) q157 rfl rfl dX1_weight_57 ?_
    refine lv_iconst (v := (1 : Int32)) hx hb dX1_weight_60 (by decide) ?_
    refine w6_aald (j := 1) F I x_sides rfl rfl (show ix_ (1 : Int32) 2 by decide) rfl dX1_weight_61 ?_
    have s12 : isSide (3 + 9 * 1) := isSide_s (ix_l (show ix_ (1 : Int32) 2 by decide) (rfl : _ = 1))
    refine w6_getN F I (so_ob s12) rfl in_X2 8 (by decide) (List.mem_of_getElem? (i := 5) rfl) rfl rfl dX1_weight_62 ?_
    refine lv_iconst (v := (0 : Int32)) hx hb dX1_weight_65 (by decide) ?_
    refine lv_iconst (v := (0 : Int32)) hx hb dX1_weight_66 (by decide) ?_
    refine lv_aload_n hx hb dX1_weight_67 rfl (lv_at hl 0 rfl) ?_
    refine w6_get F I xo_ob rfl in_X1 5 (by decide) q162 rfl rfl dX1_weight_68 ?_
    refine lv_iconst (v := (1 : Int32)) hx hb dX1_weight_71 (by decide) ?_
    obtain ⟨r15, V13, h14, hf⟩ := bi_e hf
    refine xz_Vi F I (ctx_behind l D g ad V8 (V8.1 (3 + 9 * 0) 8) (V8.1 (3 + 9 * 1) 8) (0 : Int32) (0 : Int32) (V8.1 0 5) (1 : Int32) r15 V13 h14 ) (lw_V q659 q661 qs17 q47 q662) hdX1_behind rfl (Nat.le_of_ble_eq_true rfl) (Nat.le_of_ble_eq_true rfl) (w6_recv F I xo_ob rfl) rfl hl.1 [.int r10] rfl (Nat.le_of_ble_eq_true rfl) dX1_weight_72 ⟨Nat.le_of_ble_eq_true rfl, Nat.le_of_ble_eq_true rfl⟩ (fun H locs I => ?_)
    refine lv_isub hx hb dX1_weight_75 ?_
    exact hret _ _ _ _ _ dX1_weight_76 (w6_mv (so_e hf).2 I) (so_e hf).1 rfl
  · have hf := if_p c hf
    refine lv_iconst (v := (-1 : Int32)) hx hb dX1_weight_7 (by decide) ?_
    exact hret _ _ _ _ _ dX1_weight_8 (w6_mv (so_e hf).2 I) (so_e hf).1 rfl
def x_turn_j233 (p1 : Int32) (p2 : Int32) (V : Mm)  (a3 : Int32) (a4 : Int32) : Option (Int32 × Mm) :=
  lt_ (mset V 70 0 a4) fun V9 => lt_ (mset V9 0 24 (1 : Int32)) fun V10 => some (a3, V10)
def x_turn_l204 (p1 : Int32) (p2 : Int32) : Nat → Mm → Int32 → Int32 → Int32 → Option (Int32 × Mm)
  | 0, _, _, _, _ => none
  | n204 + 1, V, a3, a4, a5 =>
  if (2 : Int32) ≤ a5 then (x_turn_j233 p1 p2 V a3 a4) else (gd_ (ix_ a5 2) (gd_ (ix_ a5 2) ((d_become (3 + 9 * a5.toNatClampNeg) V (21 + 9 * a5.toNatClampNeg)).bind fun V15 => lt_ (a5 + (1 : Int32)) fun v17 => x_turn_l204 p1 p2 n204 V15 a3 a4 v17)))
def x_turn_j201 (p1 : Int32) (p2 : Int32) (V : Mm)  (a3 : Int32) (a4 : Int32) : Option (Int32 × Mm) :=
  x_turn_l204 p1 p2 200 V a3 a4 (0 : Int32)
def x_turn_j195 (rec116 : Mm → Int32 → Int32 → Int32 → Option (Int32 × Mm)) (p1 : Int32) (p2 : Int32) (V : Mm)  (a3 : Int32) (a4 : Int32) (a5 : Int32) : Option (Int32 × Mm) :=
  lt_ (a5 + (1 : Int32)) fun v20 => rec116 V a3 a4 v20
def x_turn_j188 (rec116 : Mm → Int32 → Int32 → Int32 → Option (Int32 × Mm)) (p1 : Int32) (p2 : Int32) (V : Mm)  (a5 : Int32) (a6 : Int32) : Option (Int32 × Mm) :=
  x_turn_j195 rec116 p1 p2 V a5 a6 a5
def x_turn_j150 (rec116 : Mm → Int32 → Int32 → Int32 → Option (Int32 × Mm)) (p1 : Int32) (p2 : Int32) (V : Mm)  (a3 : Int32) (a4 : Int32) (a5 : Int32) (s0 : Int32) (s1 : Int32) (s2 : Int32) (s3 : Int32) : Option (Int32 × Mm) :=
  gd_ (ix_ (px_spot s3 s2 (px_turned s1 s0 p2)) 69192) (lt_ ((V.1 69 ((px_spot s3 s2 (px_turned s1 s0 p2)).toNatClampNeg))) fun v19 => if a3 < (0 : Int32) then (x_turn_j188 rec116 p1 p2 V a5 v19) else (if p1 = (0 : Int32) then (if a4 < v19 then (x_turn_j188 rec116 p1 p2 V a5 v19) else (x_turn_j195 rec116 p1 p2 V a3 a4 a5)) else (if v19 < a4 then (x_turn_j188 rec116 p1 p2 V a5 v19) else (x_turn_j195 rec116 p1 p2 V a3 a4 a5))))
def x_turn_j139 (rec116 : Mm → Int32 → Int32 → Int32 → Option (Int32 × Mm)) (p1 : Int32) (p2 : Int32) (V : Mm)  (a3 : Int32) (a4 : Int32) (a5 : Int32) (s0 : Int32) (s1 : Int32) (s2 : Int32) : Option (Int32 × Mm) :=
  if p1 = (1 : Int32) then (x_turn_j150 rec116 p1 p2 V a3 a4 a5 a5 s0 s1 s2) else (x_turn_j150 rec116 p1 p2 V a3 a4 a5 (0 : Int32) s0 s1 s2)
def x_turn_l116 (p1 : Int32) (p2 : Int32) : Nat → Mm → Int32 → Int32 → Int32 → Option (Int32 × Mm)
  | 0, _, _, _, _ => none
  | n116 + 1, V, a3, a4, a5 =>
  if (6 : Int32) ≤ a5 then (x_turn_j201 p1 p2 V a3 a4) else (if p1 = (0 : Int32) then (x_turn_j139 (x_turn_l116 p1 p2 n116) p1 p2 V a3 a4 a5 a5 (0 : Int32) (0 : Int32)) else (x_turn_j139 (x_turn_l116 p1 p2 n116) p1 p2 V a3 a4 a5 (0 : Int32) (0 : Int32) (0 : Int32)))
def x_turn_j100 (p1 : Int32) (p2 : Int32) (V : Mm)   : Option (Int32 × Mm) :=
  bi_ (x_goal V) fun r6 V4 => (x_fills V4 r6).bind fun V7 => x_turn_l116 p1 p2 200 V7 (-1 : Int32) (0 : Int32) (0 : Int32)
def x_turn_l39 (p1 : Int32) (p2 : Int32) : Nat → Mm → Int32 → Option (Int32 × Mm)
  | 0, _, _ => none
  | n39 + 1, V, a3 =>
  if (2 : Int32) ≤ a3 then (x_turn_j100 p1 p2 V) else (gd_ (ix_ a3 2) (gd_ (ix_ a3 2) ((d_become (21 + 9 * a3.toNatClampNeg) V (3 + 9 * a3.toNatClampNeg)).bind fun V25 => gd_ (ix_ a3 2) (gd_ (ix_ a3 2) (lt_ (mrow V25 (3 + 9 * a3.toNatClampNeg + 1) (va_cpy (V25.1 (3 + 9 * a3.toNatClampNeg + 2)) (V25.1 (3 + 9 * a3.toNatClampNeg + 1)) 0 0 6)) fun V31 => gd_ (ix_ a3 2) (lt_ (mset V31 (3 + 9 * a3.toNatClampNeg) 14 (-1 : Int32)) fun V34 => lt_ (a3 + (1 : Int32)) fun v35 => x_turn_l39 p1 p2 n39 V34 v35))))))
def x_turn (V : Mm) (p1 : Int32) (p2 : Int32) : Option (Int32 × Mm) :=
  if (px_isTeam p1) = (0 : Int32) then (some ((-1 : Int32), V)) else (if (px_isTeam p2) = (0 : Int32) then (some ((-1 : Int32), V)) else (if (V.1 0 10) = (0 : Int32) then (if (0 : Int32) ≤ (V.1 0 8) then (some ((-1 : Int32), V)) else (bi_ (x_areTold V) fun r3 V1 => if r3 = (0 : Int32) then (some ((-1 : Int32), V1)) else (x_turn_l39 p1 p2 200 V1 (0 : Int32)))) else (some ((-1 : Int32), V))))
theorem hdX1_turn : w6_hd yX1_turn 2 := by decide +kernel
abbrev rmX1_turn : Room := { frames := 5, cells := 0, slots := 0, locals := 124 }
set_option maxHeartbeats 4000000 in
set_option maxRecDepth 100000 in
theorem ctx_turn (l : Launch) (D : va_G) (g : Nat → ClassId) (ad : Nat → Nat) (V : Mm) (p1 : Int32) (p2 : Int32) (r : Int32) (V' : Mm) (hf : x_turn V p1 p2 = some (r, V'))  : CTi l D g yX1_turn cX1_turn 7 .int rmX1_turn [.ref (ad 0), .int p1, .int p2] (xw g ad V) (xw g ad V') r := by
  intro sz
  refine w6_starti RX1 (by decide) (Nat.le_of_ble_eq_true rfl) rfl ?_
  intro p e s m below meth c A ls Q hx hb hown hts F I hl hret
  have hl : lv_has ls 7 [(0, .ref (ad 0)), (1, .int p1), (2, .int p2)] := hl
  have hJ233 : ∀ (V : Mm) (a3 : Int32) (a4 : Int32) (H : Heap) (locs : List Loc) (ls : Array Slot), x_turn_j233 p1 p2 V a3 a4 = some (r, V') → w6_I D (xw g ad V ++ []) A s H locs → lv_has ls 7 [(0, .ref (ad 0)), (3, .int a3), (4, .int a4)] → W p l e rmX1_turn s m ([.ref (ad 0), .int p1, .int p2] : List Value).toArray below meth c H locs 0 0 Q (F0 m 233 ls []) := by
    intro V a3 a4 H locs ls hf I hl
    unfold x_turn_j233 at hf
    refine lv_aload_n hx hb dX1_turn_233 rfl (lv_at hl 0 rfl) ?_
    refine w6_get F I xo_ob rfl in_X1 23 (by decide) q180 rfl rfl dX1_turn_234 ?_
    refine lv_iconst (v := (0 : Int32)) hx hb dX1_turn_237 (by decide) ?_
    refine lv_iload hx hb dX1_turn_238 (lv_at hl 2 rfl) ?_
    obtain ⟨V9, eV9, hf⟩ := lt_e hf
    refine w6_iast (j := 0) xsh_lc F I (x_ar 70 1 (by decide) rfl) (show ix_ (0 : Int32) 1 by decide) rfl dX1_turn_240 eV9 (fun H locs I => ?_)
    refine lv_aload_n hx hb dX1_turn_241 rfl (lv_at hl 0 rfl) ?_
    refine lv_iconst (v := (1 : Int32)) hx hb dX1_turn_242 (by decide) ?_
    obtain ⟨V10, eV10, hf⟩ := lt_e hf
    refine w6_put xsh_lc F I xo_ob rfl in_X1 tyX1 tyX1_ok nmX1 24 (by decide) (xo_nf 24 (by decide)) q181 rfl rfl (tyX1_ok 24 (by decide)) rfl rfl dX1_turn_243 eV10 (fun H locs I => ?_)
    refine lv_iload_n hx hb dX1_turn_246 rfl (lv_at hl 1 rfl) ?_
    exact hret _ _ _ _ _ dX1_turn_247 (w6_mv (so_e hf).2 I) (so_e hf).1 rfl
  have hL204 : ∀ (n204 : Nat) (V : Mm) (a3 : Int32) (a4 : Int32) (a5 : Int32) (H : Heap) (locs : List Loc) (ls : Array Slot), x_turn_l204 p1 p2 n204 V a3 a4 a5 = some (r, V') → w6_I D (xw g ad V ++ []) A s H locs → lv_has ls 7 [(0, .ref (ad 0)), (3, .int a3), (4, .int a4), (5, .int a5)] → W p l e rmX1_turn s m ([.ref (ad 0), .int p1, .int p2] : List Value).toArray below meth c H locs 0 0 Q (F0 m 204 ls []) := by
    intro n204
    induction n204 with
    | zero =>
      intro V a3 a4 a5 H locs ls hf
      rw [x_turn_l204] at hf
      cases hf
    | succ n204 ih204 =>
      intro V a3 a4 a5 H locs ls hf I hl
      rw [x_turn_l204] at hf
      refine lv_iload hx hb dX1_turn_204 (lv_at hl 3 rfl) ?_
      refine lv_iconst (v := (2 : Int32)) hx hb dX1_turn_206 (by decide) ?_
      refine lv_icmp_ge (tgt := 233) hx hb dX1_turn_207 (by decide) (fun c => ?_) (fun c => ?_)
      · have hf := if_p c hf
        exact hJ233 V a3 a4 _ _ ls hf I (lv_sub hl [0, 1, 2] rfl)
      · have hf := if_n c hf
        refine lv_aload_n hx hb dX1_turn_210 rfl (lv_at hl 0 rfl) ?_
        refine w6_get F I xo_ob rfl in_X1 0 (by decide) q157 rfl rfl dX1_turn_211 ?_
        refine lv_iload hx hb dX1_turn_214 (lv_at hl 3 rfl) ?_
        obtain ⟨g11, hf⟩ := gd_e hf
        refine w6_aald (j := a5.toNatClampNeg) F I x_sides rfl rfl g11 rfl dX1_turn_216 ?_
        have s12 : isSide (3 + 9 * a5.toNatClampNeg) := isSide_s (ix_l g11 (rfl : _ = a5.toNatClampNeg))
        refine lv_aload_n hx hb dX1_turn_217 rfl (lv_at hl 0 rfl) ?_
        refine w6_get F I xo_ob rfl in_X1 1 (by decide) q158 rfl rfl dX1_turn_218 ?_
        refine lv_iload hx hb dX1_turn_221 (lv_at hl 3 rfl) ?_
        obtain ⟨g13, hf⟩ := gd_e hf
        refine w6_aald (j := a5.toNatClampNeg) F I x_kept rfl rfl g13 rfl dX1_turn_223 ?_
        have s14 : isSide (21 + 9 * a5.toNatClampNeg) := isSide_k (ix_l g13 (rfl : _ = a5.toNatClampNeg))
        obtain ⟨V15, h16, hf⟩ := bn_e hf
        refine xz_Vv F I (ctd_become l D g ad (3 + 9 * a5.toNatClampNeg) V (21 + 9 * a5.toNatClampNeg) V15 h16 s12 s14) (lw_V q592 q593 q594 q48 q595) hdX2_become rfl (Nat.le_of_ble_eq_true rfl) (Nat.le_of_ble_eq_true rfl) (w6_recv F I (so_ob s12) rfl) rfl hl.1 [] rfl (Nat.le_of_ble_eq_true rfl) dX1_turn_224 ⟨Nat.le_of_ble_eq_true rfl, Nat.le_of_ble_eq_true rfl⟩ (fun H locs I => ?_)
        obtain ⟨v17, ev17, hf⟩ := lt_e hf
        refine lv_iinc (v := v17) (lv' := [(5, .int v17), (0, .ref (ad 0)), (3, .int a3), (4, .int a4)]) hx hb dX1_turn_227 hl (k := 3) rfl (by rw [ev17]; rfl) (by decide) rfl (fun ls hl => ?_)
        refine lv_goto (tgt := 204) hx hb dX1_turn_230 (by decide) ?_
        exact ih204 V15 a3 a4 v17 _ _ ls hf I (lv_sub hl [1, 2, 3, 0] rfl)
  have hJ201 : ∀ (V : Mm) (a3 : Int32) (a4 : Int32) (H : Heap) (locs : List Loc) (ls : Array Slot), x_turn_j201 p1 p2 V a3 a4 = some (r, V') → w6_I D (xw g ad V ++ []) A s H locs → lv_has ls 7 [(0, .ref (ad 0)), (3, .int a3), (4, .int a4)] → W p l e rmX1_turn s m ([.ref (ad 0), .int p1, .int p2] : List Value).toArray below meth c H locs 0 0 Q (F0 m 201 ls []) := by
    intro V a3 a4 H locs ls hf I hl
    unfold x_turn_j201 at hf
    refine lv_iconst (v := (0 : Int32)) hx hb dX1_turn_201 (by decide) ?_
    refine lv_istore (lv' := [(5, .int (0 : Int32)), (0, .ref (ad 0)), (3, .int a3), (4, .int a4)]) hx hb dX1_turn_202 hl (by decide) rfl (fun ls hl => ?_)
    exact hL204 200 V a3 a4 (0 : Int32) _ _ ls hf I (lv_sub hl [1, 2, 3, 0] rfl)
  have hL116 : ∀ (n116 : Nat) (V : Mm) (a3 : Int32) (a4 : Int32) (a5 : Int32) (H : Heap) (locs : List Loc) (ls : Array Slot), x_turn_l116 p1 p2 n116 V a3 a4 a5 = some (r, V') → w6_I D (xw g ad V ++ []) A s H locs → lv_has ls 7 [(0, .ref (ad 0)), (1, .int p1), (2, .int p2), (3, .int a3), (4, .int a4), (5, .int a5)] → W p l e rmX1_turn s m ([.ref (ad 0), .int p1, .int p2] : List Value).toArray below meth c H locs 0 0 Q (F0 m 116 ls []) := by
    intro n116
    induction n116 with
    | zero =>
      intro V a3 a4 a5 H locs ls hf
      rw [x_turn_l116] at hf
      cases hf
    | succ n116 ih116 =>
      have hJ195 : ∀ (V : Mm) (a3 : Int32) (a4 : Int32) (a5 : Int32) (H : Heap) (locs : List Loc) (ls : Array Slot), x_turn_j195 (x_turn_l116 p1 p2 n116) p1 p2 V a3 a4 a5 = some (r, V') → w6_I D (xw g ad V ++ []) A s H locs → lv_has ls 7 [(0, .ref (ad 0)), (1, .int p1), (2, .int p2), (3, .int a3), (4, .int a4), (5, .int a5)] → W p l e rmX1_turn s m ([.ref (ad 0), .int p1, .int p2] : List Value).toArray below meth c H locs 0 0 Q (F0 m 195 ls []) := by
        intro V a3 a4 a5 H locs ls hf I hl
        unfold x_turn_j195 at hf
        obtain ⟨v20, ev20, hf⟩ := lt_e hf
        refine lv_iinc (v := v20) (lv' := [(5, .int v20), (0, .ref (ad 0)), (1, .int p1), (2, .int p2), (3, .int a3), (4, .int a4)]) hx hb dX1_turn_195 hl (k := 5) rfl (by rw [ev20]; rfl) (by decide) rfl (fun ls hl => ?_)
        refine lv_goto (tgt := 116) hx hb dX1_turn_198 (by decide) ?_
        exact ih116 V a3 a4 v20 _ _ ls hf I (lv_sub hl [1, 2, 3, 4, 5, 0] rfl)
      have hJ188 : ∀ (V : Mm) (a5 : Int32) (a6 : Int32) (H : Heap) (locs : List Loc) (ls : Array Slot), x_turn_j188 (x_turn_l116 p1 p2 n116) p1 p2 V a5 a6 = some (r, V') → w6_I D (xw g ad V ++ []) A s H locs → lv_has ls 7 [(0, .ref (ad 0)), (1, .int p1), (2, .int p2), (5, .int a5), (6, .int a6)] → W p l e rmX1_turn s m ([.ref (ad 0), .int p1, .int p2] : List Value).toArray below meth c H locs 0 0 Q (F0 m 188 ls []) := by
        intro V a5 a6 H locs ls hf I hl
        unfold x_turn_j188 at hf
        refine lv_iload hx hb dX1_turn_188 (lv_at hl 3 rfl) ?_
        refine lv_istore_n (lv' := [(3, .int a5), (0, .ref (ad 0)), (1, .int p1), (2, .int p2), (5, .int a5), (6, .int a6)]) hx hb dX1_turn_190 rfl hl (by decide) rfl (fun ls hl => ?_)
        refine lv_iload hx hb dX1_turn_191 (lv_at hl 5 rfl) ?_
        refine lv_istore (lv' := [(4, .int a6), (3, .int a5), (0, .ref (ad 0)), (1, .int p1), (2, .int p2), (5, .int a5), (6, .int a6)]) hx hb dX1_turn_193 hl (by decide) rfl (fun ls hl => ?_)
        exact hJ195 V a5 a6 a5 _ _ ls hf I (lv_sub hl [2, 3, 4, 1, 0, 5] rfl)
      have hJ150 : ∀ (V : Mm) (a3 : Int32) (a4 : Int32) (a5 : Int32) (s0 : Int32) (s1 : Int32) (s2 : Int32) (s3 : Int32) (H : Heap) (locs : List Loc) (ls : Array Slot), x_turn_j150 (x_turn_l116 p1 p2 n116) p1 p2 V a3 a4 a5 s0 s1 s2 s3 = some (r, V') → w6_I D (xw g ad V ++ []) A s H locs → lv_has ls 7 [(0, .ref (ad 0)), (1, .int p1), (2, .int p2), (3, .int a3), (4, .int a4), (5, .int a5)] → W p l e rmX1_turn s m ([.ref (ad 0), .int p1, .int p2] : List Value).toArray below meth c H locs 0 0 Q (F0 m 150 ls [.int s0, .int s1, .int s2, .int s3, .ref (ad 69)]) := by
        intro V a3 a4 a5 s0 s1 s2 s3 H locs ls hf I hl
        unfold x_turn_j150 at hf
        refine lv_iload_n hx hb dX1_turn_150 rfl (lv_at hl 2 rfl) ?_
        refine xz_Pi F I (ctpx_turned l D g s1 s0 p2 _ rfl) (lw_S q648 q649 q47 q650) hdX1_turned (Nat.le_of_ble_eq_true rfl) (Nat.le_of_ble_eq_true rfl) rfl hl.1 [.int s2, .int s3, .ref (ad 69)] rfl (Nat.le_of_ble_eq_true rfl) dX1_turn_151 ⟨Nat.le_of_ble_eq_true rfl, Nat.le_of_ble_eq_true rfl⟩ (fun H locs I => ?_)
        refine xz_Pi F I (ctpx_spot l D g s3 s2 (px_turned s1 s0 p2) _ rfl) (lw_S q651 q652 q47 q653) hdX1_spot (Nat.le_of_ble_eq_true rfl) (Nat.le_of_ble_eq_true rfl) rfl hl.1 [.ref (ad 69)] rfl (Nat.le_of_ble_eq_true rfl) dX1_turn_154 ⟨Nat.le_of_ble_eq_true rfl, Nat.le_of_ble_eq_true rfl⟩ (fun H locs I => ?_)
        obtain ⟨g18, hf⟩ := gd_e hf
        refine w6_iald (j := (px_spot s3 s2 (px_turned s1 s0 p2)).toNatClampNeg) F I (x_ar 69 69192 (by decide) rfl) g18 rfl dX1_turn_157 ?_
        obtain ⟨v19, ev19, hf⟩ := lt_e hf
        refine w6_nmi ev19 ?_
        refine lv_istore (lv' := [(6, .int v19), (0, .ref (ad 0)), (1, .int p1), (2, .int p2), (3, .int a3), (4, .int a4), (5, .int a5)]) hx hb dX1_turn_158 hl (by decide) rfl (fun ls hl => ?_)
        refine lv_iload_n hx hb dX1_turn_160 rfl (lv_at hl 4 rfl) ?_
        refine lv_if_lt (tgt := 188) hx hb dX1_turn_161 (by decide) (fun c => ?_) (fun c => ?_)
        · have hf := if_p c hf
          exact hJ188 V a5 v19 _ _ ls hf I (lv_sub hl [1, 2, 3, 6, 0] rfl)
        · have hf := if_n c hf
          refine lv_iload_n hx hb dX1_turn_164 rfl (lv_at hl 2 rfl) ?_
          refine lv_if_ne (tgt := 178) hx hb dX1_turn_165 (by decide) (fun c => ?_) (fun c => ?_)
          · have hf := if_n c hf
            refine lv_iload hx hb dX1_turn_178 (lv_at hl 0 rfl) ?_
            refine lv_iload hx hb dX1_turn_180 (lv_at hl 5 rfl) ?_
            refine lv_icmp_lt (tgt := 188) hx hb dX1_turn_182 (by decide) (fun c => ?_) (fun c => ?_)
            · have hf := if_p c hf
              exact hJ188 V a5 v19 _ _ ls hf I (lv_sub hl [1, 2, 3, 6, 0] rfl)
            · have hf := if_n c hf
              refine lv_goto (tgt := 195) hx hb dX1_turn_185 (by decide) ?_
              exact hJ195 V a3 a4 a5 _ _ ls hf I (lv_sub hl [1, 2, 3, 4, 5, 6] rfl)
          · have hf := if_p c hf
            refine lv_iload hx hb dX1_turn_168 (lv_at hl 0 rfl) ?_
            refine lv_iload hx hb dX1_turn_170 (lv_at hl 5 rfl) ?_
            refine lv_icmp_gt (tgt := 188) hx hb dX1_turn_172 (by decide) (fun c => ?_) (fun c => ?_)
            · have hf := if_p c hf
              exact hJ188 V a5 v19 _ _ ls hf I (lv_sub hl [1, 2, 3, 6, 0] rfl)
            · have hf := if_n c hf
              refine lv_goto (tgt := 195) hx hb dX1_turn_175 (by decide) ?_
              exact hJ195 V a3 a4 a5 _ _ ls hf I (lv_sub hl [1, 2, 3, 4, 5, 6] rfl)
      have hJ139 : ∀ (V : Mm) (a3 : Int32) (a4 : Int32) (a5 : Int32) (s0 : Int32) (s1 : Int32) (s2 : Int32) (H : Heap) (locs : List Loc) (ls : Array Slot), x_turn_j139 (x_turn_l116 p1 p2 n116) p1 p2 V a3 a4 a5 s0 s1 s2 = some (r, V') → w6_I D (xw g ad V ++ []) A s H locs → lv_has ls 7 [(0, .ref (ad 0)), (1, .int p1), (2, .int p2), (3, .int a3), (4, .int a4), (5, .int a5)] → W p l e rmX1_turn s m ([.ref (ad 0), .int p1, .int p2] : List Value).toArray below meth c H locs 0 0 Q (F0 m 139 ls [.int s0, .int s1, .int s2, .ref (ad 69)]) := by
        intro V a3 a4 a5 s0 s1 s2 H locs ls hf I hl
        unfold x_turn_j139 at hf
        refine lv_iload_n hx hb dX1_turn_139 rfl (lv_at hl 1 rfl) ?_
        refine lv_iconst (v := (1 : Int32)) hx hb dX1_turn_140 (by decide) ?_
        refine lv_icmp_ne (tgt := 149) hx hb dX1_turn_141 (by decide) (fun c => ?_) (fun c => ?_)
        · have hf := if_n c hf
          refine lv_iconst (v := (0 : Int32)) hx hb dX1_turn_149 (by decide) ?_
          exact hJ150 V a3 a4 a5 (0 : Int32) s0 s1 s2 _ _ ls hf I (lv_sub hl [0, 1, 2, 3, 4, 5] rfl)
        · have hf := if_p c hf
          refine lv_iload hx hb dX1_turn_144 (lv_at hl 5 rfl) ?_
          refine lv_goto (tgt := 150) hx hb dX1_turn_146 (by decide) ?_
          exact hJ150 V a3 a4 a5 a5 s0 s1 s2 _ _ ls hf I (lv_sub hl [0, 1, 2, 3, 4, 5] rfl)
      intro V a3 a4 a5 H locs ls hf I hl
      rw [x_turn_l116] at hf
      refine lv_iload hx hb dX1_turn_116 (lv_at hl 5 rfl) ?_
      refine lv_bipush (v := (6 : Int32)) hx hb dX1_turn_118 (by decide) ?_
      refine lv_icmp_ge (tgt := 201) hx hb dX1_turn_120 (by decide) (fun c => ?_) (fun c => ?_)
      · have hf := if_p c hf
        exact hJ201 V a3 a4 _ _ ls hf I (lv_sub hl [0, 3, 4] rfl)
      · have hf := if_n c hf
        refine lv_aload_n hx hb dX1_turn_123 rfl (lv_at hl 0 rfl) ?_
        refine w6_get F I xo_ob rfl in_X1 22 (by decide) q179 rfl rfl dX1_turn_124 ?_
        refine lv_iconst (v := (0 : Int32)) hx hb dX1_turn_127 (by decide) ?_
        refine lv_iconst (v := (0 : Int32)) hx hb dX1_turn_128 (by decide) ?_
        refine lv_iload_n hx hb dX1_turn_129 rfl (lv_at hl 1 rfl) ?_
        refine lv_if_ne (tgt := 138) hx hb dX1_turn_130 (by decide) (fun c => ?_) (fun c => ?_)
        · have hf := if_n c hf
          refine lv_iconst (v := (0 : Int32)) hx hb dX1_turn_138 (by decide) ?_
          exact hJ139 V a3 a4 a5 (0 : Int32) (0 : Int32) (0 : Int32) _ _ ls hf I (lv_sub hl [0, 1, 2, 3, 4, 5] rfl)
        · have hf := if_p c hf
          refine lv_iload hx hb dX1_turn_133 (lv_at hl 5 rfl) ?_
          refine lv_goto (tgt := 139) hx hb dX1_turn_135 (by decide) ?_
          exact hJ139 V a3 a4 a5 a5 (0 : Int32) (0 : Int32) _ _ ls hf I (lv_sub hl [0, 1, 2, 3, 4, 5] rfl)
  have hJ100 : ∀ (V : Mm)  (H : Heap) (locs : List Loc) (ls : Array Slot), x_turn_j100 p1 p2 V = some (r, V') → w6_I D (xw g ad V ++ []) A s H locs → lv_has ls 7 [(0, .ref (ad 0)), (1, .int p1), (2, .int p2)] → W p l e rmX1_turn s m ([.ref (ad 0), .int p1, .int p2] : List Value).toArray below meth c H locs 0 0 Q (F0 m 100 ls []) := by
    intro V H locs ls hf I hl
    unfold x_turn_j100 at hf
    refine lv_aload_n hx hb dX1_turn_100 rfl (lv_at hl 0 rfl) ?_
    refine lv_aload_n hx hb dX1_turn_101 rfl (lv_at hl 0 rfl) ?_
    obtain ⟨r6, V4, h5, hf⟩ := bi_e hf
    refine xz_Vi F I (ctx_goal l D g ad V r6 V4 h5 ) (lw_V q307 q309 qs3 q47 q310) hdX1_goal rfl (Nat.le_of_ble_eq_true rfl) (Nat.le_of_ble_eq_true rfl) (w6_recv F I xo_ob rfl) rfl hl.1 [.ref (ad 0)] rfl (Nat.le_of_ble_eq_true rfl) dX1_turn_102 ⟨Nat.le_of_ble_eq_true rfl, Nat.le_of_ble_eq_true rfl⟩ (fun H locs I => ?_)
    obtain ⟨V7, h8, hf⟩ := bn_e hf
    refine xz_Vv F I (ctx_fills l D g ad V4 r6 V7 h8 ) (lw_V q640 q642 qs14 q47 q643) hdX1_fills rfl (Nat.le_of_ble_eq_true rfl) (Nat.le_of_ble_eq_true rfl) (w6_recv F I xo_ob rfl) rfl hl.1 [] rfl (Nat.le_of_ble_eq_true rfl) dX1_turn_105 ⟨Nat.le_of_ble_eq_true rfl, Nat.le_of_ble_eq_true rfl⟩ (fun H locs I => ?_)
    refine lv_iconst (v := (-1 : Int32)) hx hb dX1_turn_108 (by decide) ?_
    refine lv_istore_n (lv' := [(3, .int (-1 : Int32)), (0, .ref (ad 0)), (1, .int p1), (2, .int p2)]) hx hb dX1_turn_109 rfl hl (by decide) rfl (fun ls hl => ?_)
    refine lv_iconst (v := (0 : Int32)) hx hb dX1_turn_110 (by decide) ?_
    refine lv_istore (lv' := [(4, .int (0 : Int32)), (3, .int (-1 : Int32)), (0, .ref (ad 0)), (1, .int p1), (2, .int p2)]) hx hb dX1_turn_111 hl (by decide) rfl (fun ls hl => ?_)
    refine lv_iconst (v := (0 : Int32)) hx hb dX1_turn_113 (by decide) ?_
    refine lv_istore (lv' := [(5, .int (0 : Int32)), (4, .int (0 : Int32)), (3, .int (-1 : Int32)), (0, .ref (ad 0)), (1, .int p1), (2, .int p2)]) hx hb dX1_turn_114 hl (by decide) rfl (fun ls hl => ?_)
    exact hL116 200 V7 (-1 : Int32) (0 : Int32) (0 : Int32) _ _ ls hf I (lv_sub hl [3, 4, 5, 2, 1, 0] rfl)
  have hL39 : ∀ (n39 : Nat) (V : Mm) (a3 : Int32) (H : Heap) (locs : List Loc) (ls : Array Slot), x_turn_l39 p1 p2 n39 V a3 = some (r, V') → w6_I D (xw g ad V ++ []) A s H locs → lv_has ls 7 [(0, .ref (ad 0)), (1, .int p1), (2, .int p2), (3, .int a3)] → W p l e rmX1_turn s m ([.ref (ad 0), .int p1, .int p2] : List Value).toArray below meth c H locs 0 0 Q (F0 m 39 ls []) := by
    intro n39
    induction n39 with
    | zero =>
      intro V a3 H locs ls hf
      rw [x_turn_l39] at hf
      cases hf
    | succ n39 ih39 =>
      intro V a3 H locs ls hf I hl
      rw [x_turn_l39] at hf
      refine lv_iload_n hx hb dX1_turn_39 rfl (lv_at hl 3 rfl) ?_
      refine lv_iconst (v := (2 : Int32)) hx hb dX1_turn_40 (by decide) ?_
      refine lv_icmp_ge (tgt := 100) hx hb dX1_turn_41 (by decide) (fun c => ?_) (fun c => ?_)
      · have hf := if_p c hf
        exact hJ100 V _ _ ls hf I (lv_sub hl [0, 1, 2] rfl)
      · have hf := if_n c hf
        refine lv_aload_n hx hb dX1_turn_44 rfl (lv_at hl 0 rfl) ?_
        refine w6_get F I xo_ob rfl in_X1 1 (by decide) q158 rfl rfl dX1_turn_45 ?_
        refine lv_iload_n hx hb dX1_turn_48 rfl (lv_at hl 3 rfl) ?_
        obtain ⟨g21, hf⟩ := gd_e hf
        refine w6_aald (j := a3.toNatClampNeg) F I x_kept rfl rfl g21 rfl dX1_turn_49 ?_
        have s22 : isSide (21 + 9 * a3.toNatClampNeg) := isSide_k (ix_l g21 (rfl : _ = a3.toNatClampNeg))
        refine lv_aload_n hx hb dX1_turn_50 rfl (lv_at hl 0 rfl) ?_
        refine w6_get F I xo_ob rfl in_X1 0 (by decide) q157 rfl rfl dX1_turn_51 ?_
        refine lv_iload_n hx hb dX1_turn_54 rfl (lv_at hl 3 rfl) ?_
        obtain ⟨g23, hf⟩ := gd_e hf
        refine w6_aald (j := a3.toNatClampNeg) F I x_sides rfl rfl g23 rfl dX1_turn_55 ?_
        have s24 : isSide (3 + 9 * a3.toNatClampNeg) := isSide_s (ix_l g23 (rfl : _ = a3.toNatClampNeg))
        obtain ⟨V25, h26, hf⟩ := bn_e hf
        refine xz_Vv F I (ctd_become l D g ad (21 + 9 * a3.toNatClampNeg) V (3 + 9 * a3.toNatClampNeg) V25 h26 s22 s24) (lw_V q592 q593 q594 q48 q595) hdX2_become rfl (Nat.le_of_ble_eq_true rfl) (Nat.le_of_ble_eq_true rfl) (w6_recv F I (so_ob s22) rfl) rfl hl.1 [] rfl (Nat.le_of_ble_eq_true rfl) dX1_turn_56 ⟨Nat.le_of_ble_eq_true rfl, Nat.le_of_ble_eq_true rfl⟩ (fun H locs I => ?_)
        refine lv_aload_n hx hb dX1_turn_59 rfl (lv_at hl 0 rfl) ?_
        refine w6_get F I xo_ob rfl in_X1 0 (by decide) q157 rfl rfl dX1_turn_60 ?_
        refine lv_iload_n hx hb dX1_turn_63 rfl (lv_at hl 3 rfl) ?_
        obtain ⟨g27, hf⟩ := gd_e hf
        refine w6_aald (j := a3.toNatClampNeg) F I x_sides rfl rfl g27 rfl dX1_turn_64 ?_
        have s28 : isSide (3 + 9 * a3.toNatClampNeg) := isSide_s (ix_l g27 (rfl : _ = a3.toNatClampNeg))
        refine w6_getN F I (so_ob s28) rfl in_X2 1 (by decide) (List.mem_of_getElem? (i := 1) rfl) rfl rfl dX1_turn_65 ?_
        refine lv_iconst (v := (0 : Int32)) hx hb dX1_turn_68 (by decide) ?_
        refine lv_aload_n hx hb dX1_turn_69 rfl (lv_at hl 0 rfl) ?_
        refine w6_get F I xo_ob rfl in_X1 0 (by decide) q157 rfl rfl dX1_turn_70 ?_
        refine lv_iload_n hx hb dX1_turn_73 rfl (lv_at hl 3 rfl) ?_
        obtain ⟨g29, hf⟩ := gd_e hf
        refine w6_aald (j := a3.toNatClampNeg) F I x_sides rfl rfl g29 rfl dX1_turn_74 ?_
        have s30 : isSide (3 + 9 * a3.toNatClampNeg) := isSide_s (ix_l g29 (rfl : _ = a3.toNatClampNeg))
        refine w6_getN F I (so_ob s30) rfl in_X2 0 (by decide) (List.mem_of_getElem? (i := 0) rfl) rfl rfl dX1_turn_75 ?_
        refine lv_iconst (v := (0 : Int32)) hx hb dX1_turn_78 (by decide) ?_
        refine lv_bipush (v := (6 : Int32)) hx hb dX1_turn_79 (by decide) ?_
        obtain ⟨V31, eV31, hf⟩ := lt_e hf
        refine w6_cpy (sp' := 0) (dp' := 0) (n' := 6) xsh_lc F I hl.1 q267 (s_ar s28 2 6 (by decide) rfl) (s_ar s30 1 6 (by decide) rfl) rfl rfl (by decide) (by decide) (by decide) rfl rfl rfl (by decide) (by decide) (fun _ _ => rfl) (Nat.le_of_ble_eq_true rfl) (Nat.le_of_ble_eq_true rfl) dX1_turn_81 eV31 (fun H locs I => ?_)
        refine lv_aload_n hx hb dX1_turn_84 rfl (lv_at hl 0 rfl) ?_
        refine w6_get F I xo_ob rfl in_X1 0 (by decide) q157 rfl rfl dX1_turn_85 ?_
        refine lv_iload_n hx hb dX1_turn_88 rfl (lv_at hl 3 rfl) ?_
        obtain ⟨g32, hf⟩ := gd_e hf
        refine w6_aald (j := a3.toNatClampNeg) F I x_sides rfl rfl g32 rfl dX1_turn_89 ?_
        have s33 : isSide (3 + 9 * a3.toNatClampNeg) := isSide_s (ix_l g32 (rfl : _ = a3.toNatClampNeg))
        refine lv_iconst (v := (-1 : Int32)) hx hb dX1_turn_90 (by decide) ?_
        obtain ⟨V34, eV34, hf⟩ := lt_e hf
        refine w6_putN xsh_lc F I (so_ob s33) rfl in_X2 tyX2 tyX2_ok nmX2 14 (by decide) (so_nf _ 14 (by decide)) (List.mem_of_getElem? (i := 11) rfl) rfl rfl (tyX2_ok 14 (by decide)) rfl rfl dX1_turn_91 eV34 (fun H locs I => ?_)
        obtain ⟨v35, ev35, hf⟩ := lt_e hf
        refine lv_iinc (v := v35) (lv' := [(3, .int v35), (0, .ref (ad 0)), (1, .int p1), (2, .int p2)]) hx hb dX1_turn_94 hl (k := 3) rfl (by rw [ev35]; rfl) (by decide) rfl (fun ls hl => ?_)
        refine lv_goto (tgt := 39) hx hb dX1_turn_97 (by decide) ?_
        exact ih39 V34 v35 _ _ ls hf I (lv_sub hl [1, 2, 3, 0] rfl)
  unfold x_turn at hf
  refine lv_iload_n hx hb dX1_turn_0 rfl (lv_at hl 1 rfl) ?_
  refine xz_Pi F I (ctpx_isTeam l D g p1 _ rfl) (lw_S q237 q238 q47 q239) hdX1_isTeam (Nat.le_of_ble_eq_true rfl) (Nat.le_of_ble_eq_true rfl) rfl hl.1 [] rfl (Nat.le_of_ble_eq_true rfl) dX1_turn_1 ⟨Nat.le_of_ble_eq_true rfl, Nat.le_of_ble_eq_true rfl⟩ (fun H locs I => ?_)
  refine lv_if_eq (tgt := 35) hx hb dX1_turn_4 (by decide) (fun c => ?_) (fun c => ?_)
  · have hf := if_p c hf
    refine lv_iconst (v := (-1 : Int32)) hx hb dX1_turn_35 (by decide) ?_
    exact hret _ _ _ _ _ dX1_turn_36 (w6_mv (so_e hf).2 I) (so_e hf).1 rfl
  · have hf := if_n c hf
    refine lv_iload_n hx hb dX1_turn_7 rfl (lv_at hl 2 rfl) ?_
    refine xz_Pi F I (ctpx_isTeam l D g p2 _ rfl) (lw_S q237 q238 q47 q239) hdX1_isTeam (Nat.le_of_ble_eq_true rfl) (Nat.le_of_ble_eq_true rfl) rfl hl.1 [] rfl (Nat.le_of_ble_eq_true rfl) dX1_turn_8 ⟨Nat.le_of_ble_eq_true rfl, Nat.le_of_ble_eq_true rfl⟩ (fun H locs I => ?_)
    refine lv_if_eq (tgt := 35) hx hb dX1_turn_11 (by decide) (fun c => ?_) (fun c => ?_)
    · have hf := if_p c hf
      refine lv_iconst (v := (-1 : Int32)) hx hb dX1_turn_35 (by decide) ?_
      exact hret _ _ _ _ _ dX1_turn_36 (w6_mv (so_e hf).2 I) (so_e hf).1 rfl
    · have hf := if_n c hf
      refine lv_aload_n hx hb dX1_turn_14 rfl (lv_at hl 0 rfl) ?_
      refine w6_get F I xo_ob rfl in_X1 10 (by decide) q167 rfl rfl dX1_turn_15 ?_
      refine lv_if_ne (tgt := 35) hx hb dX1_turn_18 (by decide) (fun c => ?_) (fun c => ?_)
      · have hf := if_n c hf
        refine lv_iconst (v := (-1 : Int32)) hx hb dX1_turn_35 (by decide) ?_
        exact hret _ _ _ _ _ dX1_turn_36 (w6_mv (so_e hf).2 I) (so_e hf).1 rfl
      · have hf := if_p c hf
        refine lv_aload_n hx hb dX1_turn_21 rfl (lv_at hl 0 rfl) ?_
        refine w6_get F I xo_ob rfl in_X1 8 (by decide) q165 rfl rfl dX1_turn_22 ?_
        refine lv_if_ge (tgt := 35) hx hb dX1_turn_25 (by decide) (fun c => ?_) (fun c => ?_)
        · have hf := if_p c hf
          refine lv_iconst (v := (-1 : Int32)) hx hb dX1_turn_35 (by decide) ?_
          exact hret _ _ _ _ _ dX1_turn_36 (w6_mv (so_e hf).2 I) (so_e hf).1 rfl
        · have hf := if_n c hf
          refine lv_aload_n hx hb dX1_turn_28 rfl (lv_at hl 0 rfl) ?_
          obtain ⟨r3, V1, h2, hf⟩ := bi_e hf
          refine xz_Vi F I (ctx_areTold l D g ad V r3 V1 h2 ) (lw_V q274 q276 qs0 q47 q277) hdX1_areTold rfl (Nat.le_of_ble_eq_true rfl) (Nat.le_of_ble_eq_true rfl) (w6_recv F I xo_ob rfl) rfl hl.1 [] rfl (Nat.le_of_ble_eq_true rfl) dX1_turn_29 ⟨Nat.le_of_ble_eq_true rfl, Nat.le_of_ble_eq_true rfl⟩ (fun H locs I => ?_)
          refine lv_if_ne (tgt := 37) hx hb dX1_turn_32 (by decide) (fun c => ?_) (fun c => ?_)
          · have hf := if_n c hf
            refine lv_iconst (v := (0 : Int32)) hx hb dX1_turn_37 (by decide) ?_
            refine lv_istore_n (lv' := [(3, .int (0 : Int32)), (0, .ref (ad 0)), (1, .int p1), (2, .int p2)]) hx hb dX1_turn_38 rfl hl (by decide) rfl (fun ls hl => ?_)
            exact hL39 200 V1 (0 : Int32) _ _ ls hf I (lv_sub hl [1, 2, 3, 0] rfl)
          · have hf := if_p c hf
            refine lv_iconst (v := (-1 : Int32)) hx hb dX1_turn_35 (by decide) ?_
            exact hret _ _ _ _ _ dX1_turn_36 (w6_mv (so_e hf).2 I) (so_e hf).1 rfl
def x_advice_j168 (p1 : Int32) (V : Mm)  (a2 : Int32) (a3 : Int32) : Option (Int32 × Mm) :=
  if a2 < (0 : Int32) then (some (a2, V)) else (lt_ (mset V 70 0 a3) fun V9 => lt_ (mset V9 0 24 (1 : Int32)) fun V10 => some (a2, V10))
def x_advice_j162 (rec35 : Mm → Int32 → Int32 → Int32 → Option (Int32 × Mm)) (p1 : Int32) (V : Mm)  (a2 : Int32) (a3 : Int32) (a4 : Int32) : Option (Int32 × Mm) :=
  lt_ (a4 + (1 : Int32)) fun v11 => rec35 V a2 a3 v11
def x_advice_j156 (rec35 : Mm → Int32 → Int32 → Int32 → Option (Int32 × Mm)) (rec45 : Mm → Int32 → Int32 → Int32 → Int32 → Option (Int32 × Mm)) (p1 : Int32) (V : Mm)  (a2 : Int32) (a3 : Int32) (a4 : Int32) (a5 : Int32) : Option (Int32 × Mm) :=
  lt_ (a5 + (1 : Int32)) fun v40 => rec45 V a2 a3 a4 v40
def x_advice_j142 (rec35 : Mm → Int32 → Int32 → Int32 → Option (Int32 × Mm)) (rec45 : Mm → Int32 → Int32 → Int32 → Int32 → Option (Int32 × Mm)) (p1 : Int32) (V : Mm)  (a4 : Int32) (a5 : Int32) : Option (Int32 × Mm) :=
  lt_ ((((12 : Int32) * a4) + a5)) fun v36 => bi_ (x_now V) fun r39 V37 => x_advice_j156 rec35 rec45 p1 V37 v36 r39 a4 a5
def x_advice_l45 (rec35 : Mm → Int32 → Int32 → Int32 → Option (Int32 × Mm)) (p1 : Int32) : Nat → Mm → Int32 → Int32 → Int32 → Int32 → Option (Int32 × Mm)
  | 0, _, _, _, _, _ => none
  | n45 + 1, V, a2, a3, a4, a5 =>
  if (12 : Int32) ≤ a5 then (x_advice_j162 rec35 p1 V a2 a3 a4) else (bi_ (x_may V p1 a4 a5) fun r14 V12 => if r14 = (0 : Int32) then (gd_ (ix_ p1 2) (bi_ (d_placeOf (3 + 9 * p1.toNatClampNeg) V12 a4) fun r19 V17 => gd_ (ix_ p1 2) (gd_ (ix_ r19 6) (lt_ (mset V17 (3 + 9 * p1.toNatClampNeg + 1) r19.toNatClampNeg a5) fun V23 => bi_ (x_goal V23) fun r26 V24 => (x_fills V24 r26).bind fun V27 => gd_ (ix_ p1 2) (gd_ (ix_ r19 6) (lt_ (mset V27 (3 + 9 * p1.toNatClampNeg + 1) r19.toNatClampNeg a4) fun V32 => if p1 = (0 : Int32) then (bi_ (x_now V32) fun r43 V41 => if a3 < r43 then (x_advice_j142 rec35 (x_advice_l45 rec35 p1 n45) p1 V41 a4 a5) else (x_advice_j156 rec35 (x_advice_l45 rec35 p1 n45) p1 V41 a2 a3 a4 a5)) else (bi_ (x_now V32) fun r35 V33 => if r35 < a3 then (x_advice_j142 rec35 (x_advice_l45 rec35 p1 n45) p1 V33 a4 a5) else (x_advice_j156 rec35 (x_advice_l45 rec35 p1 n45) p1 V33 a2 a3 a4 a5)))))))) else (x_advice_j156 rec35 (x_advice_l45 rec35 p1 n45) p1 V12 a2 a3 a4 a5))
def x_advice_l35 (p1 : Int32) : Nat → Mm → Int32 → Int32 → Int32 → Option (Int32 × Mm)
  | 0, _, _, _, _ => none
  | n35 + 1, V, a2, a3, a4 =>
  if (12 : Int32) ≤ a4 then (x_advice_j168 p1 V a2 a3) else (x_advice_l45 (x_advice_l35 p1 n35) p1 200 V a2 a3 a4 (0 : Int32))
def x_advice (V : Mm) (p1 : Int32) : Option (Int32 × Mm) :=
  if (px_isTeam p1) = (0 : Int32) then (some ((-1 : Int32), V)) else (if (V.1 0 10) = (0 : Int32) then (some ((-1 : Int32), V)) else (bi_ (x_goal V) fun r3 V1 => (x_fills V1 r3).bind fun V4 => bi_ (x_now V4) fun r8 V6 => x_advice_l35 p1 200 V6 (-2 : Int32) r8 (0 : Int32)))
theorem hdX1_advice : w6_hd yX1_advice 1 := by decide +kernel
abbrev rmX1_advice : Room := { frames := 5, cells := 0, slots := 0, locals := 124 }
set_option maxHeartbeats 4000000 in
set_option maxRecDepth 100000 in
theorem ctx_advice (l : Launch) (D : va_G) (g : Nat → ClassId) (ad : Nat → Nat) (V : Mm) (p1 : Int32) (r : Int32) (V' : Mm) (hf : x_advice V p1 = some (r, V'))  : CTi l D g yX1_advice cX1_advice 7 .int rmX1_advice [.ref (ad 0), .int p1] (xw g ad V) (xw g ad V') r := by
  intro sz
  refine w6_starti RX1 (by decide) (Nat.le_of_ble_eq_true rfl) rfl ?_
  intro p e s m below meth c A ls Q hx hb hown hts F I hl hret
  have hl : lv_has ls 7 [(0, .ref (ad 0)), (1, .int p1)] := hl
  have hJ168 : ∀ (V : Mm) (a2 : Int32) (a3 : Int32) (H : Heap) (locs : List Loc) (ls : Array Slot), x_advice_j168 p1 V a2 a3 = some (r, V') → w6_I D (xw g ad V ++ []) A s H locs → lv_has ls 7 [(0, .ref (ad 0)), (2, .int a2), (3, .int a3)] → W p l e rmX1_advice s m ([.ref (ad 0), .int p1] : List Value).toArray below meth c H locs 0 0 Q (F0 m 168 ls []) := by
    intro V a2 a3 H locs ls hf I hl
    unfold x_advice_j168 at hf
    refine lv_iload_n hx hb dX1_advice_168 rfl (lv_at hl 1 rfl) ?_
    refine lv_if_lt (tgt := 184) hx hb dX1_advice_169 (by decide) (fun c => ?_) (fun c => ?_)
    · have hf := if_p c hf
      refine lv_iload_n hx hb dX1_advice_184 rfl (lv_at hl 1 rfl) ?_
      exact hret _ _ _ _ _ dX1_advice_185 (w6_mv (so_e hf).2 I) (so_e hf).1 rfl
    · have hf := if_n c hf
      refine lv_aload_n hx hb dX1_advice_172 rfl (lv_at hl 0 rfl) ?_
      refine w6_get F I xo_ob rfl in_X1 23 (by decide) q180 rfl rfl dX1_advice_173 ?_
      refine lv_iconst (v := (0 : Int32)) hx hb dX1_advice_176 (by decide) ?_
      refine lv_iload_n hx hb dX1_advice_177 rfl (lv_at hl 2 rfl) ?_
      obtain ⟨V9, eV9, hf⟩ := lt_e hf
      refine w6_iast (j := 0) xsh_lc F I (x_ar 70 1 (by decide) rfl) (show ix_ (0 : Int32) 1 by decide) rfl dX1_advice_178 eV9 (fun H locs I => ?_)
      refine lv_aload_n hx hb dX1_advice_179 rfl (lv_at hl 0 rfl) ?_
      refine lv_iconst (v := (1 : Int32)) hx hb dX1_advice_180 (by decide) ?_
      obtain ⟨V10, eV10, hf⟩ := lt_e hf
      refine w6_put xsh_lc F I xo_ob rfl in_X1 tyX1 tyX1_ok nmX1 24 (by decide) (xo_nf 24 (by decide)) q181 rfl rfl (tyX1_ok 24 (by decide)) rfl rfl dX1_advice_181 eV10 (fun H locs I => ?_)
      refine lv_iload_n hx hb dX1_advice_184 rfl (lv_at hl 1 rfl) ?_
      exact hret _ _ _ _ _ dX1_advice_185 (w6_mv (so_e hf).2 I) (so_e hf).1 rfl
  have hL35 : ∀ (n35 : Nat) (V : Mm) (a2 : Int32) (a3 : Int32) (a4 : Int32) (H : Heap) (locs : List Loc) (ls : Array Slot), x_advice_l35 p1 n35 V a2 a3 a4 = some (r, V') → w6_I D (xw g ad V ++ []) A s H locs → lv_has ls 7 [(0, .ref (ad 0)), (1, .int p1), (2, .int a2), (3, .int a3), (4, .int a4)] → W p l e rmX1_advice s m ([.ref (ad 0), .int p1] : List Value).toArray below meth c H locs 0 0 Q (F0 m 35 ls []) := by
    intro n35
    induction n35 with
    | zero =>
      intro V a2 a3 a4 H locs ls hf
      rw [x_advice_l35] at hf
      cases hf
    | succ n35 ih35 =>
      have hJ162 : ∀ (V : Mm) (a2 : Int32) (a3 : Int32) (a4 : Int32) (H : Heap) (locs : List Loc) (ls : Array Slot), x_advice_j162 (x_advice_l35 p1 n35) p1 V a2 a3 a4 = some (r, V') → w6_I D (xw g ad V ++ []) A s H locs → lv_has ls 7 [(0, .ref (ad 0)), (1, .int p1), (2, .int a2), (3, .int a3), (4, .int a4)] → W p l e rmX1_advice s m ([.ref (ad 0), .int p1] : List Value).toArray below meth c H locs 0 0 Q (F0 m 162 ls []) := by
        intro V a2 a3 a4 H locs ls hf I hl
        unfold x_advice_j162 at hf
        obtain ⟨v11, ev11, hf⟩ := lt_e hf
        refine lv_iinc (v := v11) (lv' := [(4, .int v11), (0, .ref (ad 0)), (1, .int p1), (2, .int a2), (3, .int a3)]) hx hb dX1_advice_162 hl (k := 4) rfl (by rw [ev11]; rfl) (by decide) rfl (fun ls hl => ?_)
        refine lv_goto (tgt := 35) hx hb dX1_advice_165 (by decide) ?_
        exact ih35 V a2 a3 v11 _ _ ls hf I (lv_sub hl [1, 2, 3, 4, 0] rfl)
      have hL45 : ∀ (n45 : Nat) (V : Mm) (a2 : Int32) (a3 : Int32) (a4 : Int32) (a5 : Int32) (H : Heap) (locs : List Loc) (ls : Array Slot), x_advice_l45 (x_advice_l35 p1 n35) p1 n45 V a2 a3 a4 a5 = some (r, V') → w6_I D (xw g ad V ++ []) A s H locs → lv_has ls 7 [(0, .ref (ad 0)), (1, .int p1), (2, .int a2), (3, .int a3), (4, .int a4), (5, .int a5)] → W p l e rmX1_advice s m ([.ref (ad 0), .int p1] : List Value).toArray below meth c H locs 0 0 Q (F0 m 45 ls []) := by
        intro n45
        induction n45 with
        | zero =>
          intro V a2 a3 a4 a5 H locs ls hf
          rw [x_advice_l45] at hf
          cases hf
        | succ n45 ih45 =>
          have hJ156 : ∀ (V : Mm) (a2 : Int32) (a3 : Int32) (a4 : Int32) (a5 : Int32) (H : Heap) (locs : List Loc) (ls : Array Slot), x_advice_j156 (x_advice_l35 p1 n35) (x_advice_l45 (x_advice_l35 p1 n35) p1 n45) p1 V a2 a3 a4 a5 = some (r, V') → w6_I D (xw g ad V ++ []) A s H locs → lv_has ls 7 [(0, .ref (ad 0)), (1, .int p1), (2, .int a2), (3, .int a3), (4, .int a4), (5, .int a5)] → W p l e rmX1_advice s m ([.ref (ad 0), .int p1] : List Value).toArray below meth c H locs 0 0 Q (F0 m 156 ls []) := by
            intro V a2 a3 a4 a5 H locs ls hf I hl
            unfold x_advice_j156 at hf
            obtain ⟨v40, ev40, hf⟩ := lt_e hf
            refine lv_iinc (v := v40) (lv' := [(5, .int v40), (0, .ref (ad 0)), (1, .int p1), (2, .int a2), (3, .int a3), (4, .int a4)]) hx hb dX1_advice_156 hl (k := 5) rfl (by rw [ev40]; rfl) (by decide) rfl (fun ls hl => ?_)
            refine lv_goto (tgt := 45) hx hb dX1_advice_159 (by decide) ?_
            exact ih45 V a2 a3 a4 v40 _ _ ls hf I (lv_sub hl [1, 2, 3, 4, 5, 0] rfl)
          have hJ142 : ∀ (V : Mm) (a4 : Int32) (a5 : Int32) (H : Heap) (locs : List Loc) (ls : Array Slot), x_advice_j142 (x_advice_l35 p1 n35) (x_advice_l45 (x_advice_l35 p1 n35) p1 n45) p1 V a4 a5 = some (r, V') → w6_I D (xw g ad V ++ []) A s H locs → lv_has ls 7 [(0, .ref (ad 0)), (1, .int p1), (4, .int a4), (5, .int a5)] → W p l e rmX1_advice s m ([.ref (ad 0), .int p1] : List Value).toArray below meth c H locs 0 0 Q (F0 m 142 ls []) := by
            intro V a4 a5 H locs ls hf I hl
            unfold x_advice_j142 at hf
            refine lv_bipush (v := (12 : Int32)) hx hb dX1_advice_142 (by decide) ?_
            refine lv_iload hx hb dX1_advice_144 (lv_at hl 2 rfl) ?_
            refine lv_imul hx hb dX1_advice_146 ?_
            refine lv_iload hx hb dX1_advice_147 (lv_at hl 3 rfl) ?_
            refine lv_iadd hx hb dX1_advice_149 ?_
            obtain ⟨v36, ev36, hf⟩ := lt_e hf
            refine w6_nmi ev36 ?_
            refine lv_istore_n (lv' := [(2, .int v36), (0, .ref (ad 0)), (1, .int p1), (4, .int a4), (5, .int a5)]) hx hb dX1_advice_150 rfl hl (by decide) rfl (fun ls hl => ?_)
            refine lv_aload_n hx hb dX1_advice_151 rfl (lv_at hl 1 rfl) ?_
            obtain ⟨r39, V37, h38, hf⟩ := bi_e hf
            refine xz_Vi F I (ctx_now l D g ad V r39 V37 h38 ) (lw_V q664 q666 qs18 q47 q667) hdX1_now rfl (Nat.le_of_ble_eq_true rfl) (Nat.le_of_ble_eq_true rfl) (w6_recv F I xo_ob rfl) rfl hl.1 [] rfl (Nat.le_of_ble_eq_true rfl) dX1_advice_152 ⟨Nat.le_of_ble_eq_true rfl, Nat.le_of_ble_eq_true rfl⟩ (fun H locs I => ?_)
            refine lv_istore_n (lv' := [(3, .int r39), (2, .int v36), (0, .ref (ad 0)), (1, .int p1), (4, .int a4), (5, .int a5)]) hx hb dX1_advice_155 rfl hl (by decide) rfl (fun ls hl => ?_)
            exact hJ156 V37 v36 r39 a4 a5 _ _ ls hf I (lv_sub hl [2, 3, 1, 0, 4, 5] rfl)
          intro V a2 a3 a4 a5 H locs ls hf I hl
          rw [x_advice_l45] at hf
          refine lv_iload hx hb dX1_advice_45 (lv_at hl 5 rfl) ?_
          refine lv_bipush (v := (12 : Int32)) hx hb dX1_advice_47 (by decide) ?_
          refine lv_icmp_ge (tgt := 162) hx hb dX1_advice_49 (by decide) (fun c => ?_) (fun c => ?_)
          · have hf := if_p c hf
            exact hJ162 V a2 a3 a4 _ _ ls hf I (lv_sub hl [0, 1, 2, 3, 4] rfl)
          · have hf := if_n c hf
            refine lv_aload_n hx hb dX1_advice_52 rfl (lv_at hl 0 rfl) ?_
            refine lv_iload_n hx hb dX1_advice_53 rfl (lv_at hl 1 rfl) ?_
            refine lv_iload hx hb dX1_advice_54 (lv_at hl 4 rfl) ?_
            refine lv_iload hx hb dX1_advice_56 (lv_at hl 5 rfl) ?_
            obtain ⟨r14, V12, h13, hf⟩ := bi_e hf
            refine xz_Vi F I (ctx_may l D g ad V p1 a4 a5 r14 V12 h13 ) (lw_V q331 q316 q317 q47 q318) hdX1_may rfl (Nat.le_of_ble_eq_true rfl) (Nat.le_of_ble_eq_true rfl) (w6_recv F I xo_ob rfl) rfl hl.1 [] rfl (Nat.le_of_ble_eq_true rfl) dX1_advice_58 ⟨Nat.le_of_ble_eq_true rfl, Nat.le_of_ble_eq_true rfl⟩ (fun H locs I => ?_)
            refine lv_if_eq (tgt := 67) hx hb dX1_advice_61 (by decide) (fun c => ?_) (fun c => ?_)
            · have hf := if_p c hf
              refine lv_aload_n hx hb dX1_advice_67 rfl (lv_at hl 0 rfl) ?_
              refine w6_get F I xo_ob rfl in_X1 0 (by decide) q157 rfl rfl dX1_advice_68 ?_
              refine lv_iload_n hx hb dX1_advice_71 rfl (lv_at hl 1 rfl) ?_
              obtain ⟨g15, hf⟩ := gd_e hf
              refine w6_aald (j := p1.toNatClampNeg) F I x_sides rfl rfl g15 rfl dX1_advice_72 ?_
              have s16 : isSide (3 + 9 * p1.toNatClampNeg) := isSide_s (ix_l g15 (rfl : _ = p1.toNatClampNeg))
              refine lv_iload hx hb dX1_advice_73 (lv_at hl 4 rfl) ?_
              obtain ⟨r19, V17, h18, hf⟩ := bi_e hf
              refine xz_Vi F I (ctd_placeOf l D g ad (3 + 9 * p1.toNatClampNeg) V12 a4 r19 V17 h18 s16) (lw_V q319 q320 q321 q48 q322) hdX2_placeOf rfl (Nat.le_of_ble_eq_true rfl) (Nat.le_of_ble_eq_true rfl) (w6_recv F I (so_ob s16) rfl) rfl hl.1 [] rfl (Nat.le_of_ble_eq_true rfl) dX1_advice_75 ⟨Nat.le_of_ble_eq_true rfl, Nat.le_of_ble_eq_true rfl⟩ (fun H locs I => ?_)
              refine lv_istore (lv' := [(6, .int r19), (0, .ref (ad 0)), (1, .int p1), (2, .int a2), (3, .int a3), (4, .int a4), (5, .int a5)]) hx hb dX1_advice_78 hl (by decide) rfl (fun ls hl => ?_)
              refine lv_aload_n hx hb dX1_advice_80 rfl (lv_at hl 1 rfl) ?_
              refine w6_get F I xo_ob rfl in_X1 0 (by decide) q157 rfl rfl dX1_advice_81 ?_
              refine lv_iload_n hx hb dX1_advice_84 rfl (lv_at hl 2 rfl) ?_
              obtain ⟨g20, hf⟩ := gd_e hf
              refine w6_aald (j := p1.toNatClampNeg) F I x_sides rfl rfl g20 rfl dX1_advice_85 ?_
              have s21 : isSide (3 + 9 * p1.toNatClampNeg) := isSide_s (ix_l g20 (rfl : _ = p1.toNatClampNeg))
              refine w6_getN F I (so_ob s21) rfl in_X2 0 (by decide) (List.mem_of_getElem? (i := 0) rfl) rfl rfl dX1_advice_86 ?_
              refine lv_iload hx hb dX1_advice_89 (lv_at hl 0 rfl) ?_
              refine lv_iload hx hb dX1_advice_91 (lv_at hl 6 rfl) ?_
              obtain ⟨g22, hf⟩ := gd_e hf
              obtain ⟨V23, eV23, hf⟩ := lt_e hf
              refine w6_iast (j := r19.toNatClampNeg) xsh_lc F I (s_ar s21 1 6 (by decide) rfl) g22 rfl dX1_advice_93 eV23 (fun H locs I => ?_)
              refine lv_aload_n hx hb dX1_advice_94 rfl (lv_at hl 1 rfl) ?_
              refine lv_aload_n hx hb dX1_advice_95 rfl (lv_at hl 1 rfl) ?_
              obtain ⟨r26, V24, h25, hf⟩ := bi_e hf
              refine xz_Vi F I (ctx_goal l D g ad V23 r26 V24 h25 ) (lw_V q307 q309 qs3 q47 q310) hdX1_goal rfl (Nat.le_of_ble_eq_true rfl) (Nat.le_of_ble_eq_true rfl) (w6_recv F I xo_ob rfl) rfl hl.1 [.ref (ad 0)] rfl (Nat.le_of_ble_eq_true rfl) dX1_advice_96 ⟨Nat.le_of_ble_eq_true rfl, Nat.le_of_ble_eq_true rfl⟩ (fun H locs I => ?_)
              obtain ⟨V27, h28, hf⟩ := bn_e hf
              refine xz_Vv F I (ctx_fills l D g ad V24 r26 V27 h28 ) (lw_V q640 q642 qs14 q47 q643) hdX1_fills rfl (Nat.le_of_ble_eq_true rfl) (Nat.le_of_ble_eq_true rfl) (w6_recv F I xo_ob rfl) rfl hl.1 [] rfl (Nat.le_of_ble_eq_true rfl) dX1_advice_99 ⟨Nat.le_of_ble_eq_true rfl, Nat.le_of_ble_eq_true rfl⟩ (fun H locs I => ?_)
              refine lv_aload_n hx hb dX1_advice_102 rfl (lv_at hl 1 rfl) ?_
              refine w6_get F I xo_ob rfl in_X1 0 (by decide) q157 rfl rfl dX1_advice_103 ?_
              refine lv_iload_n hx hb dX1_advice_106 rfl (lv_at hl 2 rfl) ?_
              obtain ⟨g29, hf⟩ := gd_e hf
              refine w6_aald (j := p1.toNatClampNeg) F I x_sides rfl rfl g29 rfl dX1_advice_107 ?_
              have s30 : isSide (3 + 9 * p1.toNatClampNeg) := isSide_s (ix_l g29 (rfl : _ = p1.toNatClampNeg))
              refine w6_getN F I (so_ob s30) rfl in_X2 0 (by decide) (List.mem_of_getElem? (i := 0) rfl) rfl rfl dX1_advice_108 ?_
              refine lv_iload hx hb dX1_advice_111 (lv_at hl 0 rfl) ?_
              refine lv_iload hx hb dX1_advice_113 (lv_at hl 5 rfl) ?_
              obtain ⟨g31, hf⟩ := gd_e hf
              obtain ⟨V32, eV32, hf⟩ := lt_e hf
              refine w6_iast (j := r19.toNatClampNeg) xsh_lc F I (s_ar s30 1 6 (by decide) rfl) g31 rfl dX1_advice_115 eV32 (fun H locs I => ?_)
              refine lv_iload_n hx hb dX1_advice_116 rfl (lv_at hl 2 rfl) ?_
              refine lv_if_ne (tgt := 131) hx hb dX1_advice_117 (by decide) (fun c => ?_) (fun c => ?_)
              · have hf := if_n c hf
                refine lv_aload_n hx hb dX1_advice_131 rfl (lv_at hl 1 rfl) ?_
                obtain ⟨r35, V33, h34, hf⟩ := bi_e hf
                refine xz_Vi F I (ctx_now l D g ad V32 r35 V33 h34 ) (lw_V q664 q666 qs18 q47 q667) hdX1_now rfl (Nat.le_of_ble_eq_true rfl) (Nat.le_of_ble_eq_true rfl) (w6_recv F I xo_ob rfl) rfl hl.1 [] rfl (Nat.le_of_ble_eq_true rfl) dX1_advice_132 ⟨Nat.le_of_ble_eq_true rfl, Nat.le_of_ble_eq_true rfl⟩ (fun H locs I => ?_)
                refine lv_iload_n hx hb dX1_advice_135 rfl (lv_at hl 4 rfl) ?_
                refine lv_icmp_lt (tgt := 142) hx hb dX1_advice_136 (by decide) (fun c => ?_) (fun c => ?_)
                · have hf := if_p c hf
                  exact hJ142 V33 a4 a5 _ _ ls hf I (lv_sub hl [1, 2, 5, 6] rfl)
                · have hf := if_n c hf
                  refine lv_goto (tgt := 156) hx hb dX1_advice_139 (by decide) ?_
                  exact hJ156 V33 a2 a3 a4 a5 _ _ ls hf I (lv_sub hl [1, 2, 3, 4, 5, 6] rfl)
              · have hf := if_p c hf
                refine lv_aload_n hx hb dX1_advice_120 rfl (lv_at hl 1 rfl) ?_
                obtain ⟨r43, V41, h42, hf⟩ := bi_e hf
                refine xz_Vi F I (ctx_now l D g ad V32 r43 V41 h42 ) (lw_V q664 q666 qs18 q47 q667) hdX1_now rfl (Nat.le_of_ble_eq_true rfl) (Nat.le_of_ble_eq_true rfl) (w6_recv F I xo_ob rfl) rfl hl.1 [] rfl (Nat.le_of_ble_eq_true rfl) dX1_advice_121 ⟨Nat.le_of_ble_eq_true rfl, Nat.le_of_ble_eq_true rfl⟩ (fun H locs I => ?_)
                refine lv_iload_n hx hb dX1_advice_124 rfl (lv_at hl 4 rfl) ?_
                refine lv_icmp_gt (tgt := 142) hx hb dX1_advice_125 (by decide) (fun c => ?_) (fun c => ?_)
                · have hf := if_p c hf
                  exact hJ142 V41 a4 a5 _ _ ls hf I (lv_sub hl [1, 2, 5, 6] rfl)
                · have hf := if_n c hf
                  refine lv_goto (tgt := 156) hx hb dX1_advice_128 (by decide) ?_
                  exact hJ156 V41 a2 a3 a4 a5 _ _ ls hf I (lv_sub hl [1, 2, 3, 4, 5, 6] rfl)
            · have hf := if_n c hf
              refine lv_goto (tgt := 156) hx hb dX1_advice_64 (by decide) ?_
              exact hJ156 V12 a2 a3 a4 a5 _ _ ls hf I (lv_sub hl [0, 1, 2, 3, 4, 5] rfl)
      intro V a2 a3 a4 H locs ls hf I hl
      rw [x_advice_l35] at hf
      refine lv_iload hx hb dX1_advice_35 (lv_at hl 4 rfl) ?_
      refine lv_bipush (v := (12 : Int32)) hx hb dX1_advice_37 (by decide) ?_
      refine lv_icmp_ge (tgt := 168) hx hb dX1_advice_39 (by decide) (fun c => ?_) (fun c => ?_)
      · have hf := if_p c hf
        exact hJ168 V a2 a3 _ _ ls hf I (lv_sub hl [0, 2, 3] rfl)
      · have hf := if_n c hf
        refine lv_iconst (v := (0 : Int32)) hx hb dX1_advice_42 (by decide) ?_
        refine lv_istore (lv' := [(5, .int (0 : Int32)), (0, .ref (ad 0)), (1, .int p1), (2, .int a2), (3, .int a3), (4, .int a4)]) hx hb dX1_advice_43 hl (by decide) rfl (fun ls hl => ?_)
        exact hL45 200 V a2 a3 a4 (0 : Int32) _ _ ls hf I (lv_sub hl [1, 2, 3, 4, 5, 0] rfl)
  unfold x_advice at hf
  refine lv_iload_n hx hb dX1_advice_0 rfl (lv_at hl 1 rfl) ?_
  refine xz_Pi F I (ctpx_isTeam l D g p1 _ rfl) (lw_S q237 q238 q47 q239) hdX1_isTeam (Nat.le_of_ble_eq_true rfl) (Nat.le_of_ble_eq_true rfl) rfl hl.1 [] rfl (Nat.le_of_ble_eq_true rfl) dX1_advice_1 ⟨Nat.le_of_ble_eq_true rfl, Nat.le_of_ble_eq_true rfl⟩ (fun H locs I => ?_)
  refine lv_if_eq (tgt := 14) hx hb dX1_advice_4 (by decide) (fun c => ?_) (fun c => ?_)
  · have hf := if_p c hf
    refine lv_iconst (v := (-1 : Int32)) hx hb dX1_advice_14 (by decide) ?_
    exact hret _ _ _ _ _ dX1_advice_15 (w6_mv (so_e hf).2 I) (so_e hf).1 rfl
  · have hf := if_n c hf
    refine lv_aload_n hx hb dX1_advice_7 rfl (lv_at hl 0 rfl) ?_
    refine w6_get F I xo_ob rfl in_X1 10 (by decide) q167 rfl rfl dX1_advice_8 ?_
    refine lv_if_ne (tgt := 16) hx hb dX1_advice_11 (by decide) (fun c => ?_) (fun c => ?_)
    · have hf := if_n c hf
      refine lv_aload_n hx hb dX1_advice_16 rfl (lv_at hl 0 rfl) ?_
      refine lv_aload_n hx hb dX1_advice_17 rfl (lv_at hl 0 rfl) ?_
      obtain ⟨r3, V1, h2, hf⟩ := bi_e hf
      refine xz_Vi F I (ctx_goal l D g ad V r3 V1 h2 ) (lw_V q307 q309 qs3 q47 q310) hdX1_goal rfl (Nat.le_of_ble_eq_true rfl) (Nat.le_of_ble_eq_true rfl) (w6_recv F I xo_ob rfl) rfl hl.1 [.ref (ad 0)] rfl (Nat.le_of_ble_eq_true rfl) dX1_advice_18 ⟨Nat.le_of_ble_eq_true rfl, Nat.le_of_ble_eq_true rfl⟩ (fun H locs I => ?_)
      obtain ⟨V4, h5, hf⟩ := bn_e hf
      refine xz_Vv F I (ctx_fills l D g ad V1 r3 V4 h5 ) (lw_V q640 q642 qs14 q47 q643) hdX1_fills rfl (Nat.le_of_ble_eq_true rfl) (Nat.le_of_ble_eq_true rfl) (w6_recv F I xo_ob rfl) rfl hl.1 [] rfl (Nat.le_of_ble_eq_true rfl) dX1_advice_21 ⟨Nat.le_of_ble_eq_true rfl, Nat.le_of_ble_eq_true rfl⟩ (fun H locs I => ?_)
      refine lv_bipush (v := (-2 : Int32)) hx hb dX1_advice_24 (by decide) ?_
      refine lv_istore_n (lv' := [(2, .int (-2 : Int32)), (0, .ref (ad 0)), (1, .int p1)]) hx hb dX1_advice_26 rfl hl (by decide) rfl (fun ls hl => ?_)
      refine lv_aload_n hx hb dX1_advice_27 rfl (lv_at hl 1 rfl) ?_
      obtain ⟨r8, V6, h7, hf⟩ := bi_e hf
      refine xz_Vi F I (ctx_now l D g ad V4 r8 V6 h7 ) (lw_V q664 q666 qs18 q47 q667) hdX1_now rfl (Nat.le_of_ble_eq_true rfl) (Nat.le_of_ble_eq_true rfl) (w6_recv F I xo_ob rfl) rfl hl.1 [] rfl (Nat.le_of_ble_eq_true rfl) dX1_advice_28 ⟨Nat.le_of_ble_eq_true rfl, Nat.le_of_ble_eq_true rfl⟩ (fun H locs I => ?_)
      refine lv_istore_n (lv' := [(3, .int r8), (2, .int (-2 : Int32)), (0, .ref (ad 0)), (1, .int p1)]) hx hb dX1_advice_31 rfl hl (by decide) rfl (fun ls hl => ?_)
      refine lv_iconst (v := (0 : Int32)) hx hb dX1_advice_32 (by decide) ?_
      refine lv_istore (lv' := [(4, .int (0 : Int32)), (3, .int r8), (2, .int (-2 : Int32)), (0, .ref (ad 0)), (1, .int p1)]) hx hb dX1_advice_33 hl (by decide) rfl (fun ls hl => ?_)
      exact hL35 200 V6 (-2 : Int32) r8 (0 : Int32) _ _ ls hf I (lv_sub hl [3, 4, 2, 1, 0] rfl)
    · have hf := if_p c hf
      refine lv_iconst (v := (-1 : Int32)) hx hb dX1_advice_14 (by decide) ?_
      exact hret _ _ _ _ _ dX1_advice_15 (w6_mv (so_e hf).2 I) (so_e hf).1 rfl
