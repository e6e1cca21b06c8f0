/-! SixWhoTurnLaw.row: 0 and the answer in the array at o; 1, where it was thrown -/
def ow (g : Nat → ClassId) (ad : Nat → Nat) (V : Mm) (o : Nat) (fL : Nat → Int64) : va_W := xw g ad V ++ [(o, .inl (g 6, 1, .inr (.inl fL)))]
theorem hdX1_row : w6_hd yX1_row 1 := by decide +kernel
theorem hdX0_row : w6_hd yX0_row 3 := by decide +kernel
abbrev rmX0_row : Room := { frames := 9, cells := 1, slots := 6, locals := 400 }
def CTr (l : Launch) (D : va_G) (g : Nat → ClassId) (ad : Nat → Nat) (V : Mm) (o : Nat) (fL fL' : Nat → Int64) (p1 r : Int32) : Prop :=
  ∀ sz, vx_Met l yX0_row (wsW_ yX0_row cX0_row 4 (some .int) [(0, 9, 12, 13)]) rmX0_row (xn_Pc D g [.ref (ad 0), .int p1, .ref o] (ow g ad V o fL) sz) (w6_Qi D g (ow g ad V o fL) (ow g ad V o fL') sz r) (vx_X (fun (_ : Unit) => False) (fun _ _ _ => True) (fun _ => False)) rmX0_row.cells rmX0_row.slots (va_A (ow g ad V o fL) sz)
theorem ct_lawrow_x (l : Launch) (hl0 : l.stackTraces = false) (D : va_G) (g : Nat → ClassId) (ad : Nat → Nat) (V : Mm) (o : Nat) (fL : Nat → Int64) (p1 : Int32) (hc : px_in p1.toInt64 0 ((V.1 0 24 - 1).toInt64) = 0) : CTr l D g ad V o fL fL p1 1 := by
  intro sz
  refine vx_ofWH (cc := cX0_row) (maxL := 4) (ret := some .int) (hh := [(0, 9, 12, 13)]) (by decide) rfl ?_
  intro p e s m args below meth c s₁ B hml hv
  obtain ⟨⟨rfl, hsz, hP, hK, hD0, hZ⟩, hXN⟩ := hv
  have hts := atoms_spec (ws := wsW_ yX0_row cX0_row 4 (some .int) [(0, 9, 12, 13)]) B.pre
  have htab := vx_table (x := yX0_row) (y := yX0_row) (bytes := cX0_row) (maxL' := 4) (ret' := some .int) (hh := [(0, 9, 12, 13)]) B (hts _ List.mem_cons_self)
  have hts : ∀ w ∈ lw_all, w.before _ s = true := fun w h => hts w (List.mem_cons_of_mem _ h)
  have hown : s.vm.findClass RX0 = some m.cls := findClass_of_methodNamed B.named
  have hlocks := B.notSynchronized
  have hl := lv_entry [.ref (ad 0), .int p1, .ref o] (n := 4) (Nat.le_of_ble_eq_true rfl)
  rw [lg_entry_eq]
  generalize (lg_sl [.ref (ad 0), .int p1, .ref o] ++ List.replicate (4 - (lg_sl [.ref (ad 0), .int p1, .ref o]).length) Slot.unset).toArray = ls at hl ⊢
  subst hsz
  have F : w6_F p s m _ c cX0_row 4 RX0 D g (va_A (ow g ad V o fL) s.heap.size) := ⟨⟨B.exec, B.bytes, hml, hown, hts⟩, hK, hZ, fun q h => Or.inr h⟩
  have I : w6_I D (xw g ad V ++ [(o, .inl (g 6, 1, .inr (.inl fL)))]) (va_A (ow g ad V o fL) s.heap.size) s s.heap [] := ⟨hP, hD0.self, va_S.rf⟩
  have hx := B.exec
  have hb := B.bytes
  have hl : lv_has ls 4 [(0, .ref (ad 0)), (1, .int p1), (2, .ref o)] := hl
  refine lv_aload_n hx hb dX0_row_0 rfl (lv_at hl 2 rfl) ?_
  refine lv_iconst (v := (0 : Int32)) hx hb dX0_row_1 (by decide) ?_
  refine lv_aload_n hx hb dX0_row_2 rfl (lv_at hl 0 rfl) ?_
  refine lv_iload_n hx hb dX0_row_3 rfl (lv_at hl 1 rfl) ?_
  refine vx_calli (vx_runV (As := [.int p1]) (rest := [.int 0, .ref o]) F.1 (ctx_row_x l hl0 D g ad V p1 hc s.heap.size) (cwV 1 hts (lw_V q684 q685 q686 q47 q687) rfl rfl rfl ⟨rfl, hdX1_row⟩ (by decide)) ⟨xn_Pc_blind, w6_recv F I xo_ob rfl, fun U hU hW => ⟨w6_pre F I U hU hW, hXN.call hW (by rw [hU]; exact I.2.2) (w6_free F I)⟩⟩ rfl rfl hl.1 rfl (lv_room (Nat.le_of_ble_eq_true rfl)) dX0_row_4 (by decide)) I.2.2 (fun q _ h => w6_free F I q h) (w6_free F I) (fun q _ h => w6_free F I q h) (fun E ce q9 u t H1 locs1 ht hvm hpx hB hsz hk hS hce hcv hcl => ?_) (fun r u t H1 locs1 ht hvm hf => hf.elim)
  obtain ⟨rfl, hP1, hK1, hD1⟩ := hB
  rw [ht] at hP1
  have I1 := w6_join F I hk hP1 hD1 hS
  refine vx_catch (own := RX0) (name := RJ10) hown [] _ [] htab (fun z hz => nomatch hz) (by decide) (by decide) (hts _ q683) (va_Nw.use rfl hXN.1.2.2.2) hce hcv hcl ?_
  refine lv_astore_n (i := 3) hx hb dX0_row_12 rfl hl (by decide) rfl fun ls hl => ?_
  refine lv_iconst (v := (1 : Int32)) hx hb dX0_row_13 (by decide) ?_
  refine vx_ret (W.widen (by decide) (by decide) (x_zret F rfl (by rw [List.append_nil]; exact I1) B.returns hlocks rfl rfl dX0_row_14))
theorem ct_lawrow (l : Launch) (D : va_G) (g : Nat → ClassId) (ad : Nat → Nat) (V : Mm) (o : Nat) (fL : Nat → Int64) (p1 : Int32) (hc : ¬ px_in p1.toInt64 0 ((V.1 0 24 - 1).toInt64) = 0) (hi : ix_ p1 1) : CTr l D g ad V o fL (vp_updL fL 0 (V.1 70 p1.toNatClampNeg).toInt64) p1 0 := by
  intro sz
  refine vx_ofWH (cc := cX0_row) (maxL := 4) (ret := some .int) (hh := [(0, 9, 12, 13)]) (by decide) rfl ?_
  intro p e s m args below meth c s₁ B hml hv
  obtain ⟨⟨rfl, hsz, hP, hK, hD0, hZ⟩, hXN⟩ := hv
  have hts := atoms_spec (ws := wsW_ yX0_row cX0_row 4 (some .int) [(0, 9, 12, 13)]) B.pre
  have htab := vx_table (x := yX0_row) (y := yX0_row) (bytes := cX0_row) (maxL' := 4) (ret' := some .int) (hh := [(0, 9, 12, 13)]) B (hts _ List.mem_cons_self)
  have hts : ∀ w ∈ lw_all, w.before _ s = true := fun w h => hts w (List.mem_cons_of_mem _ h)
  have hown : s.vm.findClass RX0 = some m.cls := findClass_of_methodNamed B.named
  have hlocks := B.notSynchronized
  have hl := lv_entry [.ref (ad 0), .int p1, .ref o] (n := 4) (Nat.le_of_ble_eq_true rfl)
  rw [lg_entry_eq]
  generalize (lg_sl [.ref (ad 0), .int p1, .ref o] ++ List.replicate (4 - (lg_sl [.ref (ad 0), .int p1, .ref o]).length) Slot.unset).toArray = ls at hl ⊢
  subst hsz
  have F : w6_F p s m _ c cX0_row 4 RX0 D g (va_A (ow g ad V o fL) s.heap.size) := ⟨⟨B.exec, B.bytes, hml, hown, hts⟩, hK, hZ, fun q h => Or.inr h⟩
  have I : w6_I D (xw g ad V ++ [(o, .inl (g 6, 1, .inr (.inl fL)))]) (va_A (ow g ad V o fL) s.heap.size) s s.heap [] := ⟨hP, hD0.self, va_S.rf⟩
  have hx := B.exec
  have hb := B.bytes
  have hl : lv_has ls 4 [(0, .ref (ad 0)), (1, .int p1), (2, .ref o)] := hl
  refine lv_aload_n hx hb dX0_row_0 rfl (lv_at hl 2 rfl) ?_
  refine lv_iconst (v := (0 : Int32)) hx hb dX0_row_1 (by decide) ?_
  refine lv_aload_n hx hb dX0_row_2 rfl (lv_at hl 0 rfl) ?_
  refine lv_iload_n hx hb dX0_row_3 rfl (lv_at hl 1 rfl) ?_
  refine xc_Vi F I (ctx_row l D g ad V p1 hc hi) 1 (lw_V q684 q685 q686 q47 q687) ⟨rfl, hdX1_row⟩ (by decide) (w6_recv F I xo_ob rfl) rfl hl.1 [.int 0, .ref o] rfl (Nat.le_of_ble_eq_true rfl) dX0_row_4 (by decide) (fun H locs I => ?_)
  refine lv_i2l (v := ((V.1 70 p1.toNatClampNeg).toInt64)) hx hb dX0_row_7 rfl ?_
  refine va_last hx hb F.2.1 I.1 I.2.1 I.2.2 71 6 (w6_fl_last (j := 0)) rfl (show ¬ ((0 : Int32) < 0 ∨ 1 ≤ (0 : Int32).toNatClampNeg) by decide) dX0_row_8 (fun H locs hP hD hS => ?_)
  refine lv_goto (tgt := 15) hx hb dX0_row_9 (by decide) ?_
  refine lv_iconst (v := (0 : Int32)) hx hb dX0_row_15 (by decide) ?_
  have e : (xw g ad V ++ [(o, (.inl (g 6, 1, .inr (.inl fL)) : va_E))]).set 71 (o, .inl (g 6, 1, .inr (.inl (vp_updL fL (0 : Int32).toNatClampNeg (V.1 70 p1.toNatClampNeg).toInt64)))) = ow g ad V o (vp_updL fL 0 (V.1 70 p1.toNatClampNeg).toInt64) := by
    unfold ow
    rw [List.set_append_right _ _ (by unfold xw w6_w; rw [w6_fl_len]; exact Nat.le_refl _)]
    unfold xw w6_w
    rw [w6_fl_len]
    rfl
  have I1 : w6_I D (ow g ad V o (vp_updL fL 0 (V.1 70 p1.toNatClampNeg).toInt64) ++ []) (va_A (ow g ad V o fL) s.heap.size) s H locs := by
    rw [List.append_nil, ← e]
    exact ⟨hP, hD, hS⟩
  refine vx_ret (W.widen (by decide) (by decide) (x_zret F rfl I1 B.returns hlocks rfl rfl dX0_row_16))
