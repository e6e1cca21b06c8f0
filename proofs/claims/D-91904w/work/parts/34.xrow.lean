/-! SixWhoTurn.row: it answers, or it throws NoSuchElementException -/
theorem xn_good : ∀ w ∈ (vx_at0 RX1 336 RJ10 [RJ9, RJ8]).filter goodWord, w ∈ lw_all := lw_in _ [63, 710, 719, 721, 724, 726, 711, 712, 73, 74, 713, 718, 722, 738, 700, 739, 702, 740, 704, 714, 716, 706, 728, 729, 730, 731, 731, 732, 733, 734, 734, 735, 736, 711, 727, 689, 697, 698, 699, 701, 703, 705, 709, 708, 707] (by decide +kernel) (by decide +kernel)
theorem xn_rest : ∀ w ∈ (vx_at0 RX1 336 RJ10 [RJ9, RJ8]).filter (fun w => !goodWord w), w ∈ [Cond.declares yJ9_init, Cond.declares yJ8_init, Cond.declares yJ7_init, Cond.castable RJ10 RJ10] := by decide +kernel
theorem xn_ot : ∀ w ∈ Cond.classLink RX1 334 RJ10 :: Cond.initialized RJ10 :: vx_at0 RX1 336 RJ10 [RJ9, RJ8], vx_ot w = true := by decide +kernel
/-- what the throw needs beside the cells -/
def xnW (U : State) : Prop := va_Nw (.declares yJ9_init) U ∧ va_Nw (.declares yJ8_init) U ∧ va_Nw (.declares yJ7_init) U ∧ va_Nw (.castable RJ10 RJ10) U
def xnL (A : Nat → Prop) (U : State) (H : Heap) : Prop := vx_L Bundle.tN "UNASSIGNED_STACK" Bundle.steD A U H ∧ vx_L Bundle.tN "SUPPRESSED_SENTINEL" Bundle.listD A U H
def xnA (A : Nat → Prop) (U : State) (H : Heap) : Prop := xnW U ∧ xnL A U H
theorem xnW.warm {s U : State} (hW : s.WarmedH U.vm) (h : xnW s) : xnW U := ⟨va_Nw.warmD hW h.1, va_Nw.warmD hW h.2.1, va_Nw.warmD hW h.2.2.1, va_Nw.warmC hW h.2.2.2⟩
theorem xnL.call {A B : Nat → Prop} {s U : State} {H0 H : Heap} {locs : List Loc} (hW : s.WarmedH U.vm) (h : xnL A s H0) (hS : va_S A H0 H locs) (hAB : ∀ q, B q → A q) : xnL B U H :=
  ⟨(((h.1.moved hW.alike).kept hS.2.1).narrow hAB), (((h.2.moved hW.alike).kept hS.2.1).narrow hAB)⟩
theorem xnA.call {A B : Nat → Prop} {s U : State} {H0 H : Heap} {locs : List Loc} (hW : s.WarmedH U.vm) (h : xnA A s H0) (hS : va_S A H0 H locs) (hAB : ∀ q, B q → A q) : xnA B U H := ⟨h.1.warm hW, h.2.call hW hS hAB⟩
def xn_Pc (D : va_G) (g : Nat → ClassId) (av : List Value) (w : va_W) (sz : Nat) : Array Value → State → Prop := fun a U => w6_Pc D g av w sz a U ∧ xnA (va_A w sz) U U.heap
theorem xn_Pc_blind {D : va_G} {g : Nat → ClassId} {av : List Value} {w : va_W} {sz : Nat} : FrameBlind (xn_Pc D g av w sz) := fun a U f mk q => by
  obtain ⟨q0, ⟨⟨z1, z2, z3, z4⟩, z5, z6⟩⟩ := q
  exact ⟨w6_Pc_blind _ _ _ _ q0, ⟨va_Nw.same rfl rfl z1, va_Nw.same rfl rfl z2, va_Nw.same rfl rfl z3, va_Nw.same rfl rfl z4⟩, vx_L.moved (u := U) (U := U.calling f mk a) (Vm.Alike.refl U.vm) z5, vx_L.moved (u := U) (U := U.calling f mk a) (Vm.Alike.refl U.vm) z6⟩
def xn_X (D : va_G) (g : Nat → ClassId) (w : va_W) (sz : Nat) : String → State → State → Prop := vx_X (fun (_ : Unit) => True) (fun E _ t => E = RJ10 ∧ w6_B D g w w sz t) (va_A w sz)
abbrev rmX1_row : Room := { frames := 8, cells := 1, slots := 6, locals := 200 }
/-- the road that throws -/
theorem ctx_row_x (l : Launch) (hl0 : l.stackTraces = false) (D : va_G) (g : Nat → ClassId) (ad : Nat → Nat) (V : Mm) (p1 : Int32) (hc : px_in p1.toInt64 0 ((V.1 0 24 - 1).toInt64) = 0) (sz : Nat) :
    vx_Met l yX1_row (ws_ yX1_row cX1_row 2 (some .int)) rmX1_row (xn_Pc D g [.ref (ad 0), .int p1] (xw g ad V) sz) (va_Qi (fun _ (_ : Unit) => False) (fun _ _ => True) (va_A (xw g ad V) sz)) (xn_X D g (xw g ad V) sz) rmX1_row.cells rmX1_row.slots (va_A (xw g ad V) sz) := by
  refine vx_ofW (cc := cX1_row) (maxL := 2) (ret := some .int) (by decide) rfl ?_
  intro p e s m args below meth c s₁ B hml hno hv
  obtain ⟨⟨rfl, hsz, hP, hK, hD0, hZ⟩, hXN⟩ := hv
  have hts := atoms_spec (ws := ws_ yX1_row cX1_row 2 (some .int)) B.pre
  have hts : ∀ w ∈ lw_all, w.before _ s = true := fun w h => hts w (List.mem_cons_of_mem _ h)
  have hown : s.vm.findClass RX1 = some m.cls := findClass_of_methodNamed B.named
  have hlocks := B.notSynchronized
  have hl := lv_entry [.ref (ad 0), .int p1] (n := 2) (Nat.le_of_ble_eq_true rfl)
  rw [lg_entry_eq]
  generalize (lg_sl [.ref (ad 0), .int p1] ++ List.replicate (2 - (lg_sl [.ref (ad 0), .int p1]).length) Slot.unset).toArray = ls at hl ⊢
  subst hsz
  have F : w6_F p s m _ c cX1_row 2 RX1 D g (va_A (xw g ad V) s.heap.size) := ⟨⟨B.exec, B.bytes, hml, hown, hts⟩, hK, hZ, fun q h => Or.inr h⟩
  have I : w6_I D (xw g ad V ++ []) (va_A (xw g ad V) s.heap.size) s s.heap [] := ⟨by rw [List.append_nil]; exact hP, by rw [List.append_nil]; exact hD0.self, va_S.rf⟩
  have hx := B.exec
  have hb := B.bytes
  have hl : lv_has ls 2 [(0, .ref (ad 0)), (1, .int p1)] := hl
  refine lv_iload_n hx hb dX1_row_0 rfl (lv_at hl 1 rfl) ?_
  refine lv_i2l (v := (p1.toInt64)) hx hb dX1_row_1 rfl ?_
  refine lv_lconst (v := (0 : Int64)) hx hb dX1_row_2 (by decide) ?_
  refine lv_aload_n hx hb dX1_row_3 rfl (lv_at hl 0 rfl) ?_
  refine w6_get F I xo_ob rfl in_X1 24 (by decide) q181 rfl rfl dX1_row_4 ?_
  refine lv_iconst (v := (1 : Int32)) hx hb dX1_row_7 (by decide) ?_
  refine lv_isub hx hb dX1_row_8 ?_
  refine lv_i2l (v := ((V.1 0 24 - 1).toInt64)) hx hb dX1_row_9 rfl ?_
  refine xz_Pi F I (ctpx_in l D g (p1.toInt64) (0 : Int64) ((V.1 0 24 - 1).toInt64) _ rfl) (lw_S q244 q245 q47 q246) hdX1_in (Nat.le_of_ble_eq_true rfl) (Nat.le_of_ble_eq_true rfl) rfl hl.1 [] rfl (Nat.le_of_ble_eq_true rfl) dX1_row_10 ⟨Nat.le_of_ble_eq_true rfl, Nat.le_of_ble_eq_true rfl⟩ (fun H locs I => ?_)
  refine lv_if_ne (tgt := 24) hx hb dX1_row_13 (by decide) (fun c1 => ?_) (fun c1 => ?_)
  · exact absurd hc c1
  have hat : ∀ w ∈ vx_at0 RX1 336 RJ10 [RJ9, RJ8], w.before ([.ref (ad 0), .int p1] : List Value).toArray s = true := vx_hat (fun w hw => hts w (xn_good w hw)) xn_rest (vx_c (va_Nw.use rfl hXN.1.1) (vx_c (va_Nw.use rfl hXN.1.2.1) (vx_c (va_Nw.use rfl hXN.1.2.2.1) (vx_c (va_Nw.use rfl hXN.1.2.2.2) vx_n))))
  refine vx_throw0 (cls := RJ10) (names := [RJ9, RJ8]) hx hb hl0 hown (by decide) (by decide) (hts _ q688) (hts _ q66) hat xn_ot ⟨hZ.2.1.2.2.1, hXN.2.1⟩ ⟨hZ.2.1.2.2.2, hXN.2.2⟩ I.2.2 (by rw [hl.1, hml]) dX1_row_16 dX1_row_19 dX1_row_20 dX1_row_23 (fun x hx => (hno x hx).elim) (by decide) (by decide) (by decide) (by decide) hlocks (fun t hvm hz hq => ?_) I.2.2.2.2 (by decide) (by decide)
  have hk : va_F (va_A (xw g ad V) s.heap.size) s t := ⟨Nat.le_trans I.2.2.1 hz, fun q h1 h2 => (hq q (Nat.lt_of_lt_of_le h1 I.2.2.1)).trans (I.2.2.2.1 q h1 h2)⟩
  refine ⟨(), trivial, ⟨rfl, ?_, va_K.moved hvm hK, hD0.self⟩, hk⟩
  intro k q hkq
  have hP2 : va_P D CL (xw g ad V) H := w6_Pl I.1
  have h9 := hP2 k q hkq
  exact h9.kept (hq q.1 h9.lt)
/-- the road that answers -/
theorem ctx_row (l : Launch) (D : va_G) (g : Nat → ClassId) (ad : Nat → Nat) (V : Mm) (p1 : Int32) (hc : ¬ px_in p1.toInt64 0 ((V.1 0 24 - 1).toInt64) = 0) (hi : ix_ p1 1) : CTi l D g yX1_row cX1_row 2 .int rmX1_row [.ref (ad 0), .int p1] (xw g ad V) (xw g ad V) (V.1 70 p1.toNatClampNeg) := by
  intro sz
  refine w6_starti RX1 (by decide) (Nat.le_of_ble_eq_true rfl) rfl ?_
  intro p e s m below meth c A ls Q hx hb hown hts F I hl hret
  have hl : lv_has ls 2 [(0, .ref (ad 0)), (1, .int p1)] := hl
  refine lv_iload_n hx hb dX1_row_0 rfl (lv_at hl 1 rfl) ?_
  refine lv_i2l (v := (p1.toInt64)) hx hb dX1_row_1 rfl ?_
  refine lv_lconst (v := (0 : Int64)) hx hb dX1_row_2 (by decide) ?_
  refine lv_aload_n hx hb dX1_row_3 rfl (lv_at hl 0 rfl) ?_
  refine w6_get F I xo_ob rfl in_X1 24 (by decide) q181 rfl rfl dX1_row_4 ?_
  refine lv_iconst (v := (1 : Int32)) hx hb dX1_row_7 (by decide) ?_
  refine lv_isub hx hb dX1_row_8 ?_
  refine lv_i2l (v := ((V.1 0 24 - 1).toInt64)) hx hb dX1_row_9 rfl ?_
  refine xz_Pi F I (ctpx_in l D g (p1.toInt64) (0 : Int64) ((V.1 0 24 - 1).toInt64) _ rfl) (lw_S q244 q245 q47 q246) hdX1_in (Nat.le_of_ble_eq_true rfl) (Nat.le_of_ble_eq_true rfl) rfl hl.1 [] rfl (Nat.le_of_ble_eq_true rfl) dX1_row_10 ⟨Nat.le_of_ble_eq_true rfl, Nat.le_of_ble_eq_true rfl⟩ (fun H locs I => ?_)
  refine lv_if_ne (tgt := 24) hx hb dX1_row_13 (by decide) (fun c1 => ?_) (fun c1 => ?_)
  · refine lv_aload_n hx hb dX1_row_24 rfl (lv_at hl 0 rfl) ?_
    refine w6_get F I xo_ob rfl in_X1 23 (by decide) q180 rfl rfl dX1_row_25 ?_
    refine lv_iload_n hx hb dX1_row_28 rfl (lv_at hl 1 rfl) ?_
    refine w6_iald (j := p1.toNatClampNeg) F I (x_ar 70 1 (by decide) rfl) hi rfl dX1_row_29 ?_
    exact W.widen (by decide) (by decide) (hret _ _ _ _ _ dX1_row_30 I rfl rfl)
  · exact absurd c1 hc
