/-! Side: printed by gen/mk.py: each method as a function over the memory, and its contract -/
set_option maxRecDepth 100000
def px_in (p1 : Int64) (p2 : Int64) (p3 : Int64) : Int32 :=
  if (lg_cmp p1 p2) < (0 : Int32) then ((0 : Int32)) else (if (0 : Int32) < (lg_cmp p1 p3) then ((0 : Int32)) else ((1 : Int32)))
theorem px_in_bz (p1 : Int64) (p2 : Int64) (p3 : Int64) : bz_ (px_in p1 p2 p3) := by
  unfold px_in
  repeat' split
  all_goals first | exact Or.inl rfl | exact Or.inr rfl
theorem hdX1_in : w6_hd yX1_in 3 := by decide +kernel
abbrev rmX1_in : Room := { frames := 0, cells := 0, slots := 0, locals := 0 }
set_option maxHeartbeats 4000000 in
set_option maxRecDepth 100000 in
theorem ctpx_in (l : Launch) (D : va_G) (g : Nat → ClassId) (p1 : Int64) (p2 : Int64) (p3 : Int64) (r : Int32) (hf : px_in p1 p2 p3 = r) : CTi l D g yX1_in cX1_in 6 .boolean rmX1_in [.long p1, .long p2, .long p3] [] [] r := by
  intro sz
  refine w6_starti RX1 (by decide) (Nat.le_of_ble_eq_true rfl) rfl ?_
  intro p e s m below meth c A ls Q hx hb hown hts F I hl hret
  have hl : lv_has ls 6 [(0, .long p1), (2, .long p2), (4, .long p3)] := hl
  unfold px_in at hf
  refine lv_lload_n hx hb dX1_in_0 rfl (lv_at hl 0 rfl) ?_
  refine lv_lload_n hx hb dX1_in_1 rfl (lv_at hl 1 rfl) ?_
  refine W.lcmp hx hb dX1_in_2 ?_
  refine lv_if_lt (tgt := 17) hx hb dX1_in_3 (by decide) (fun c => ?_) (fun c => ?_)
  · have hf := if_p c hf
    refine lv_iconst (v := (0 : Int32)) hx hb dX1_in_17 (by decide) ?_
    exact hret _ _ _ _ _ dX1_in_18 I hf rfl
  · have hf := if_n c hf
    refine lv_lload_n hx hb dX1_in_6 rfl (lv_at hl 0 rfl) ?_
    refine lv_lload hx hb dX1_in_7 (lv_at hl 2 rfl) ?_
    refine W.lcmp hx hb dX1_in_9 ?_
    refine lv_if_gt (tgt := 17) hx hb dX1_in_10 (by decide) (fun c => ?_) (fun c => ?_)
    · have hf := if_p c hf
      refine lv_iconst (v := (0 : Int32)) hx hb dX1_in_17 (by decide) ?_
      exact hret _ _ _ _ _ dX1_in_18 I hf rfl
    · have hf := if_n c hf
      refine lv_iconst (v := (1 : Int32)) hx hb dX1_in_13 (by decide) ?_
      refine lv_goto (tgt := 18) hx hb dX1_in_14 (by decide) ?_
      exact hret _ _ _ _ _ dX1_in_18 I hf rfl
def px_isTeam (p1 : Int32) : Int32 :=
  if p1 = (0 : Int32) then ((1 : Int32)) else (if p1 = (1 : Int32) then ((1 : Int32)) else ((0 : Int32)))
theorem px_isTeam_bz (p1 : Int32) : bz_ (px_isTeam p1) := by
  unfold px_isTeam
  repeat' split
  all_goals first | exact Or.inl rfl | exact Or.inr rfl | exact px_in_bz _ _ _
theorem hdX1_isTeam : w6_hd yX1_isTeam 1 := by decide +kernel
abbrev rmX1_isTeam : Room := { frames := 0, cells := 0, slots := 0, locals := 0 }
set_option maxHeartbeats 4000000 in
set_option maxRecDepth 100000 in
theorem ctpx_isTeam (l : Launch) (D : va_G) (g : Nat → ClassId) (p1 : Int32) (r : Int32) (hf : px_isTeam p1 = r) : CTi l D g yX1_isTeam cX1_isTeam 1 .boolean rmX1_isTeam [.int p1] [] [] r := by
  intro sz
  refine w6_starti RX1 (by decide) (Nat.le_of_ble_eq_true rfl) rfl ?_
  intro p e s m below meth c A ls Q hx hb hown hts F I hl hret
  have hl : lv_has ls 1 [(0, .int p1)] := hl
  unfold px_isTeam at hf
  refine lv_iload_n hx hb dX1_isTeam_0 rfl (lv_at hl 0 rfl) ?_
  refine lv_if_eq (tgt := 9) hx hb dX1_isTeam_1 (by decide) (fun c => ?_) (fun c => ?_)
  · have hf := if_p c hf
    refine lv_iconst (v := (1 : Int32)) hx hb dX1_isTeam_9 (by decide) ?_
    refine lv_goto (tgt := 14) hx hb dX1_isTeam_10 (by decide) ?_
    exact hret _ _ _ _ _ dX1_isTeam_14 I hf rfl
  · have hf := if_n c hf
    refine lv_iload_n hx hb dX1_isTeam_4 rfl (lv_at hl 0 rfl) ?_
    refine lv_iconst (v := (1 : Int32)) hx hb dX1_isTeam_5 (by decide) ?_
    refine lv_icmp_ne (tgt := 13) hx hb dX1_isTeam_6 (by decide) (fun c => ?_) (fun c => ?_)
    · have hf := if_n c hf
      refine lv_iconst (v := (0 : Int32)) hx hb dX1_isTeam_13 (by decide) ?_
      exact hret _ _ _ _ _ dX1_isTeam_14 I hf rfl
    · have hf := if_p c hf
      refine lv_iconst (v := (1 : Int32)) hx hb dX1_isTeam_9 (by decide) ?_
      refine lv_goto (tgt := 14) hx hb dX1_isTeam_10 (by decide) ?_
      exact hret _ _ _ _ _ dX1_isTeam_14 I hf rfl
def px_isPlayer (p1 : Int32) : Int32 :=
  (px_in (p1.toInt64) (0 : Int64) (11 : Int64))
theorem px_isPlayer_bz (p1 : Int32) : bz_ (px_isPlayer p1) := by
  unfold px_isPlayer
  repeat' split
  all_goals first | exact Or.inl rfl | exact Or.inr rfl | exact px_in_bz _ _ _
theorem hdX1_isPlayer : w6_hd yX1_isPlayer 1 := by decide +kernel
abbrev rmX1_isPlayer : Room := { frames := 1, cells := 0, slots := 0, locals := 25 }
set_option maxHeartbeats 4000000 in
set_option maxRecDepth 100000 in
theorem ctpx_isPlayer (l : Launch) (D : va_G) (g : Nat → ClassId) (p1 : Int32) (r : Int32) (hf : px_isPlayer p1 = r) : CTi l D g yX1_isPlayer cX1_isPlayer 1 .boolean rmX1_isPlayer [.int p1] [] [] r := by
  intro sz
  refine w6_starti RX1 (by decide) (Nat.le_of_ble_eq_true rfl) rfl ?_
  intro p e s m below meth c A ls Q hx hb hown hts F I hl hret
  have hl : lv_has ls 1 [(0, .int p1)] := hl
  unfold px_isPlayer at hf
  refine lv_iload_n hx hb dX1_isPlayer_0 rfl (lv_at hl 0 rfl) ?_
  refine lv_i2l (v := (p1.toInt64)) hx hb dX1_isPlayer_1 rfl ?_
  refine lv_lconst (v := (0 : Int64)) hx hb dX1_isPlayer_2 (by decide) ?_
  refine lv_ldc2 hx hb hown (hts _ q243) dX1_isPlayer_3 ?_
  refine xz_Pi F I (ctpx_in l D g (p1.toInt64) (0 : Int64) (11 : Int64) _ rfl) (lw_S q244 q245 q47 q246) hdX1_in (Nat.le_of_ble_eq_true rfl) (Nat.le_of_ble_eq_true rfl) rfl hl.1 [] rfl (Nat.le_of_ble_eq_true rfl) dX1_isPlayer_6 ⟨Nat.le_of_ble_eq_true rfl, Nat.le_of_ble_eq_true rfl⟩ (fun H locs I => ?_)
  exact hret _ _ _ _ _ dX1_isPlayer_9 I hf (bz_n (px_in_bz (p1.toInt64) (0 : Int64) (11 : Int64)))
def px_isPlace (p1 : Int32) : Int32 :=
  (px_in (p1.toInt64) (0 : Int64) (5 : Int64))
theorem px_isPlace_bz (p1 : Int32) : bz_ (px_isPlace p1) := by
  unfold px_isPlace
  repeat' split
  all_goals first | exact Or.inl rfl | exact Or.inr rfl | exact px_in_bz _ _ _
theorem hdX1_isPlace : w6_hd yX1_isPlace 1 := by decide +kernel
abbrev rmX1_isPlace : Room := { frames := 1, cells := 0, slots := 0, locals := 25 }
set_option maxHeartbeats 4000000 in
set_option maxRecDepth 100000 in
theorem ctpx_isPlace (l : Launch) (D : va_G) (g : Nat → ClassId) (p1 : Int32) (r : Int32) (hf : px_isPlace p1 = r) : CTi l D g yX1_isPlace cX1_isPlace 1 .boolean rmX1_isPlace [.int p1] [] [] r := by
  intro sz
  refine w6_starti RX1 (by decide) (Nat.le_of_ble_eq_true rfl) rfl ?_
  intro p e s m below meth c A ls Q hx hb hown hts F I hl hret
  have hl : lv_has ls 1 [(0, .int p1)] := hl
  unfold px_isPlace at hf
  refine lv_iload_n hx hb dX1_isPlace_0 rfl (lv_at hl 0 rfl) ?_
  refine lv_i2l (v := (p1.toInt64)) hx hb dX1_isPlace_1 rfl ?_
  refine lv_lconst (v := (0 : Int64)) hx hb dX1_isPlace_2 (by decide) ?_
  refine lv_ldc2 hx hb hown (hts _ q258) dX1_isPlace_3 ?_
  refine xz_Pi F I (ctpx_in l D g (p1.toInt64) (0 : Int64) (5 : Int64) _ rfl) (lw_S q244 q245 q47 q246) hdX1_in (Nat.le_of_ble_eq_true rfl) (Nat.le_of_ble_eq_true rfl) rfl hl.1 [] rfl (Nat.le_of_ble_eq_true rfl) dX1_isPlace_6 ⟨Nat.le_of_ble_eq_true rfl, Nat.le_of_ble_eq_true rfl⟩ (fun H locs I => ?_)
  exact hret _ _ _ _ _ dX1_isPlace_9 I hf (bz_n (px_in_bz (p1.toInt64) (0 : Int64) (5 : Int64)))
def px_turned (p1 : Int32) (p2 : Int32) (p3 : Int32) : Int32 :=
  ((((p1 * (6 : Int32)) + p2) * (2 : Int32)) + p3)
theorem hdX1_turned : w6_hd yX1_turned 3 := by decide +kernel
abbrev rmX1_turned : Room := { frames := 0, cells := 0, slots := 0, locals := 0 }
set_option maxHeartbeats 4000000 in
set_option maxRecDepth 100000 in
theorem ctpx_turned (l : Launch) (D : va_G) (g : Nat → ClassId) (p1 : Int32) (p2 : Int32) (p3 : Int32) (r : Int32) (hf : px_turned p1 p2 p3 = r) : CTi l D g yX1_turned cX1_turned 3 .int rmX1_turned [.int p1, .int p2, .int p3] [] [] r := by
  intro sz
  refine w6_starti RX1 (by decide) (Nat.le_of_ble_eq_true rfl) rfl ?_
  intro p e s m below meth c A ls Q hx hb hown hts F I hl hret
  have hl : lv_has ls 3 [(0, .int p1), (1, .int p2), (2, .int p3)] := hl
  unfold px_turned at hf
  refine lv_iload_n hx hb dX1_turned_0 rfl (lv_at hl 0 rfl) ?_
  refine lv_bipush (v := (6 : Int32)) hx hb dX1_turned_1 (by decide) ?_
  refine lv_imul hx hb dX1_turned_3 ?_
  refine lv_iload_n hx hb dX1_turned_4 rfl (lv_at hl 1 rfl) ?_
  refine lv_iadd hx hb dX1_turned_5 ?_
  refine lv_iconst (v := (2 : Int32)) hx hb dX1_turned_6 (by decide) ?_
  refine lv_imul hx hb dX1_turned_7 ?_
  refine lv_iload_n hx hb dX1_turned_8 rfl (lv_at hl 2 rfl) ?_
  refine lv_iadd hx hb dX1_turned_9 ?_
  exact hret _ _ _ _ _ dX1_turned_10 I hf rfl
def px_spot (p1 : Int32) (p2 : Int32) (p3 : Int32) : Int32 :=
  ((((((p1 * (31 : Int32)) + p2) * (2 : Int32)) * (6 : Int32)) * (6 : Int32)) + p3)
theorem hdX1_spot : w6_hd yX1_spot 3 := by decide +kernel
abbrev rmX1_spot : Room := { frames := 0, cells := 0, slots := 0, locals := 0 }
set_option maxHeartbeats 4000000 in
set_option maxRecDepth 100000 in
theorem ctpx_spot (l : Launch) (D : va_G) (g : Nat → ClassId) (p1 : Int32) (p2 : Int32) (p3 : Int32) (r : Int32) (hf : px_spot p1 p2 p3 = r) : CTi l D g yX1_spot cX1_spot 3 .int rmX1_spot [.int p1, .int p2, .int p3] [] [] r := by
  intro sz
  refine w6_starti RX1 (by decide) (Nat.le_of_ble_eq_true rfl) rfl ?_
  intro p e s m below meth c A ls Q hx hb hown hts F I hl hret
  have hl : lv_has ls 3 [(0, .int p1), (1, .int p2), (2, .int p3)] := hl
  unfold px_spot at hf
  refine lv_iload_n hx hb dX1_spot_0 rfl (lv_at hl 0 rfl) ?_
  refine lv_bipush (v := (31 : Int32)) hx hb dX1_spot_1 (by decide) ?_
  refine lv_imul hx hb dX1_spot_3 ?_
  refine lv_iload_n hx hb dX1_spot_4 rfl (lv_at hl 1 rfl) ?_
  refine lv_iadd hx hb dX1_spot_5 ?_
  refine lv_iconst (v := (2 : Int32)) hx hb dX1_spot_6 (by decide) ?_
  refine lv_imul hx hb dX1_spot_7 ?_
  refine lv_bipush (v := (6 : Int32)) hx hb dX1_spot_8 (by decide) ?_
  refine lv_imul hx hb dX1_spot_10 ?_
  refine lv_bipush (v := (6 : Int32)) hx hb dX1_spot_11 (by decide) ?_
  refine lv_imul hx hb dX1_spot_13 ?_
  refine lv_iload_n hx hb dX1_spot_14 rfl (lv_at hl 2 rfl) ?_
  refine lv_iadd hx hb dX1_spot_15 ?_
  exact hret _ _ _ _ _ dX1_spot_16 I hf rfl
def d_hasFree_j32 (rec4 : Mm → Int32 → Int32 → Option (Int32 × Mm)) (k : Nat) (V : Mm)  (a2 : Int32) (s0 : Int32) : Option (Int32 × Mm) :=
  lt_ (a2 + (1 : Int32)) fun v2 => rec4 V s0 v2
def d_hasFree_j27 (rec4 : Mm → Int32 → Int32 → Option (Int32 × Mm)) (k : Nat) (V : Mm)  (a2 : Int32) : Option (Int32 × Mm) :=
  d_hasFree_j32 rec4 k V a2 (1 : Int32)
def d_hasFree_l4 (k : Nat) : Nat → Mm → Int32 → Int32 → Option (Int32 × Mm)
  | 0, _, _, _ => none
  | n4 + 1, V, a1, a2 =>
  if (6 : Int32) ≤ a2 then (gd_ (bz_ a1) (some (a1, V))) else (if a1 = (0 : Int32) then (gd_ (ix_ a2 6) (if (V.1 (k + 2) a2.toNatClampNeg) = (V.1 k 13) then (d_hasFree_j27 (d_hasFree_l4 k n4) k V a2) else (d_hasFree_j32 (d_hasFree_l4 k n4) k V a2 (0 : Int32)))) else (d_hasFree_j27 (d_hasFree_l4 k n4) k V a2))
def d_hasFree (k : Nat) (V : Mm) : Option (Int32 × Mm) :=
  d_hasFree_l4 k 200 V (0 : Int32) (0 : Int32)
theorem hdX2_hasFree : w6_hd yX2_hasFree 0 := by decide +kernel
abbrev rmX2_hasFree : Room := { frames := 0, cells := 0, slots := 0, locals := 0 }
set_option maxHeartbeats 4000000 in
set_option maxRecDepth 100000 in
theorem ctd_hasFree (l : Launch) (D : va_G) (g : Nat → ClassId) (ad : Nat → Nat) (k : Nat) (V : Mm) (r : Int32) (V' : Mm) (hf : d_hasFree k V = some (r, V')) (hk : isSide k) : CTi l D g yX2_hasFree cX2_hasFree 3 .boolean rmX2_hasFree [.ref (ad k)] (xw g ad V) (xw g ad V') r := by
  intro sz
  refine w6_starti RX2 (by decide) (Nat.le_of_ble_eq_true rfl) rfl ?_
  intro p e s m below meth c A ls Q hx hb hown hts F I hl hret
  have hl : lv_has ls 3 [(0, .ref (ad k))] := hl
  have hL4 : ∀ (n4 : Nat) (V : Mm) (a1 : Int32) (a2 : Int32) (H : Heap) (locs : List Loc) (ls : Array Slot) (hs0 : isSide k), d_hasFree_l4 k n4 V a1 a2 = some (r, V') → w6_I D (xw g ad V ++ []) A s H locs → lv_has ls 3 [(0, .ref (ad k)), (1, .int a1), (2, .int a2)] → W p l e rmX2_hasFree s m ([.ref (ad k)] : List Value).toArray below meth c H locs 0 0 Q (F0 m 4 ls []) := by
    intro n4
    induction n4 with
    | zero =>
      intro V a1 a2 H locs ls hs0 hf
      rw [d_hasFree_l4] at hf
      cases hf
    | succ n4 ih4 =>
      have hJ32 : ∀ (V : Mm) (a2 : Int32) (s0 : Int32) (H : Heap) (locs : List Loc) (ls : Array Slot) (hs0 : isSide k), d_hasFree_j32 (d_hasFree_l4 k n4) k V a2 s0 = some (r, V') → w6_I D (xw g ad V ++ []) A s H locs → lv_has ls 3 [(0, .ref (ad k)), (2, .int a2)] → W p l e rmX2_hasFree s m ([.ref (ad k)] : List Value).toArray below meth c H locs 0 0 Q (F0 m 32 ls [.int s0]) := by
        intro V a2 s0 H locs ls hs0 hf I hl
        unfold d_hasFree_j32 at hf
        refine lv_istore_n (lv' := [(1, .int s0), (0, .ref (ad k)), (2, .int a2)]) hx hb dX2_hasFree_32 rfl hl (by decide) rfl (fun ls hl => ?_)
        obtain ⟨v2, ev2, hf⟩ := lt_e hf
        refine lv_iinc (v := v2) (lv' := [(2, .int v2), (1, .int s0), (0, .ref (ad k))]) hx hb dX2_hasFree_33 hl (k := 2) rfl (by rw [ev2]; rfl) (by decide) rfl (fun ls hl => ?_)
        refine lv_goto (tgt := 4) hx hb dX2_hasFree_36 (by decide) ?_
        exact ih4 V s0 v2 _ _ ls hs0 hf I (lv_sub hl [2, 1, 0] rfl)
      have hJ27 : ∀ (V : Mm) (a2 : Int32) (H : Heap) (locs : List Loc) (ls : Array Slot) (hs0 : isSide k), d_hasFree_j27 (d_hasFree_l4 k n4) k V a2 = some (r, V') → w6_I D (xw g ad V ++ []) A s H locs → lv_has ls 3 [(0, .ref (ad k)), (2, .int a2)] → W p l e rmX2_hasFree s m ([.ref (ad k)] : List Value).toArray below meth c H locs 0 0 Q (F0 m 27 ls []) := by
        intro V a2 H locs ls hs0 hf I hl
        unfold d_hasFree_j27 at hf
        refine lv_iconst (v := (1 : Int32)) hx hb dX2_hasFree_27 (by decide) ?_
        refine lv_goto (tgt := 32) hx hb dX2_hasFree_28 (by decide) ?_
        exact hJ32 V a2 (1 : Int32) _ _ ls hs0 hf I (lv_sub hl [0, 1] rfl)
      intro V a1 a2 H locs ls hs0 hf I hl
      rw [d_hasFree_l4] at hf
      refine lv_iload_n hx hb dX2_hasFree_4 rfl (lv_at hl 2 rfl) ?_
      refine lv_bipush (v := (6 : Int32)) hx hb dX2_hasFree_5 (by decide) ?_
      refine lv_icmp_ge (tgt := 39) hx hb dX2_hasFree_7 (by decide) (fun c => ?_) (fun c => ?_)
      · have hf := if_p c hf
        refine lv_iload_n hx hb dX2_hasFree_39 rfl (lv_at hl 1 rfl) ?_
        obtain ⟨g1, hf⟩ := gd_e hf
        exact hret _ _ _ _ _ dX2_hasFree_40 (w6_mv (so_e hf).2 I) (so_e hf).1 (bz_n g1)
      · have hf := if_n c hf
        refine lv_iload_n hx hb dX2_hasFree_10 rfl (lv_at hl 1 rfl) ?_
        refine lv_if_ne (tgt := 27) hx hb dX2_hasFree_11 (by decide) (fun c => ?_) (fun c => ?_)
        · have hf := if_n c hf
          exact hJ27 V a2 _ _ ls hs0 hf I (lv_sub hl [0, 2] rfl)
        · have hf := if_p c hf
          refine lv_aload_n hx hb dX2_hasFree_14 rfl (lv_at hl 0 rfl) ?_
          refine w6_get F I (so_ob hs0) rfl in_X2 1 (by decide) q84 rfl rfl dX2_hasFree_15 ?_
          refine lv_iload_n hx hb dX2_hasFree_18 rfl (lv_at hl 2 rfl) ?_
          obtain ⟨g3, hf⟩ := gd_e hf
          refine w6_iald (j := a2.toNatClampNeg) F I (s_ar hs0 2 6 (by decide) rfl) g3 rfl dX2_hasFree_19 ?_
          refine lv_aload_n hx hb dX2_hasFree_20 rfl (lv_at hl 0 rfl) ?_
          refine w6_get F I (so_ob hs0) rfl in_X2 13 (by decide) q105 rfl rfl dX2_hasFree_21 ?_
          refine lv_icmp_ne (tgt := 31) hx hb dX2_hasFree_24 (by decide) (fun c => ?_) (fun c => ?_)
          · have hf := if_n c hf
            refine lv_iconst (v := (0 : Int32)) hx hb dX2_hasFree_31 (by decide) ?_
            exact hJ32 V a2 (0 : Int32) _ _ ls hs0 hf I (lv_sub hl [0, 2] rfl)
          · have hf := if_p c hf
            exact hJ27 V a2 _ _ ls hs0 hf I (lv_sub hl [0, 2] rfl)
  unfold d_hasFree at hf
  refine lv_iconst (v := (0 : Int32)) hx hb dX2_hasFree_0 (by decide) ?_
  refine lv_istore_n (lv' := [(1, .int (0 : Int32)), (0, .ref (ad k))]) hx hb dX2_hasFree_1 rfl hl (by decide) rfl (fun ls hl => ?_)
  refine lv_iconst (v := (0 : Int32)) hx hb dX2_hasFree_2 (by decide) ?_
  refine lv_istore_n (lv' := [(2, .int (0 : Int32)), (1, .int (0 : Int32)), (0, .ref (ad k))]) hx hb dX2_hasFree_3 rfl hl (by decide) rfl (fun ls hl => ?_)
  exact hL4 200 V (0 : Int32) (0 : Int32) _ _ ls hk hf I (lv_sub hl [2, 1, 0] rfl)
def d_placeOf_j25 (rec4 : Mm → Int32 → Int32 → Option (Int32 × Mm)) (k : Nat) (p1 : Int32) (V : Mm)  (a3 : Int32) (s0 : Int32) : Option (Int32 × Mm) :=
  lt_ (a3 + (1 : Int32)) fun v2 => rec4 V s0 v2
def d_placeOf_l4 (k : Nat) (p1 : Int32) : Nat → Mm → Int32 → Int32 → Option (Int32 × Mm)
  | 0, _, _, _ => none
  | n4 + 1, V, a2, a3 =>
  if (6 : Int32) ≤ a3 then (some (a2, V)) else (gd_ (ix_ a3 6) (if (V.1 (k + 1) a3.toNatClampNeg) = p1 then (d_placeOf_j25 (d_placeOf_l4 k p1 n4) k p1 V a3 a3) else (d_placeOf_j25 (d_placeOf_l4 k p1 n4) k p1 V a3 a2)))
def d_placeOf (k : Nat) (V : Mm) (p1 : Int32) : Option (Int32 × Mm) :=
  d_placeOf_l4 k p1 200 V (-1 : Int32) (0 : Int32)
theorem hdX2_placeOf : w6_hd yX2_placeOf 1 := by decide +kernel
abbrev rmX2_placeOf : Room := { frames := 0, cells := 0, slots := 0, locals := 0 }
set_option maxHeartbeats 4000000 in
set_option maxRecDepth 100000 in
theorem ctd_placeOf (l : Launch) (D : va_G) (g : Nat → ClassId) (ad : Nat → Nat) (k : Nat) (V : Mm) (p1 : Int32) (r : Int32) (V' : Mm) (hf : d_placeOf k V p1 = some (r, V')) (hk : isSide k) : CTi l D g yX2_placeOf cX2_placeOf 4 .int rmX2_placeOf [.ref (ad k), .int p1] (xw g ad V) (xw g ad V') r := by
  intro sz
  refine w6_starti RX2 (by decide) (Nat.le_of_ble_eq_true rfl) rfl ?_
  intro p e s m below meth c A ls Q hx hb hown hts F I hl hret
  have hl : lv_has ls 4 [(0, .ref (ad k)), (1, .int p1)] := hl
  have hL4 : ∀ (n4 : Nat) (V : Mm) (a2 : Int32) (a3 : Int32) (H : Heap) (locs : List Loc) (ls : Array Slot) (hs0 : isSide k), d_placeOf_l4 k p1 n4 V a2 a3 = some (r, V') → w6_I D (xw g ad V ++ []) A s H locs → lv_has ls 4 [(0, .ref (ad k)), (1, .int p1), (2, .int a2), (3, .int a3)] → W p l e rmX2_placeOf s m ([.ref (ad k), .int p1] : List Value).toArray below meth c H locs 0 0 Q (F0 m 4 ls []) := by
    intro n4
    induction n4 with
    | zero =>
      intro V a2 a3 H locs ls hs0 hf
      rw [d_placeOf_l4] at hf
      cases hf
    | succ n4 ih4 =>
      have hJ25 : ∀ (V : Mm) (a3 : Int32) (s0 : Int32) (H : Heap) (locs : List Loc) (ls : Array Slot) (hs0 : isSide k), d_placeOf_j25 (d_placeOf_l4 k p1 n4) k p1 V a3 s0 = some (r, V') → w6_I D (xw g ad V ++ []) A s H locs → lv_has ls 4 [(0, .ref (ad k)), (1, .int p1), (3, .int a3)] → W p l e rmX2_placeOf s m ([.ref (ad k), .int p1] : List Value).toArray below meth c H locs 0 0 Q (F0 m 25 ls [.int s0]) := by
        intro V a3 s0 H locs ls hs0 hf I hl
        unfold d_placeOf_j25 at hf
        refine lv_istore_n (lv' := [(2, .int s0), (0, .ref (ad k)), (1, .int p1), (3, .int a3)]) hx hb dX2_placeOf_25 rfl hl (by decide) rfl (fun ls hl => ?_)
        obtain ⟨v2, ev2, hf⟩ := lt_e hf
        refine lv_iinc (v := v2) (lv' := [(3, .int v2), (2, .int s0), (0, .ref (ad k)), (1, .int p1)]) hx hb dX2_placeOf_26 hl (k := 3) rfl (by rw [ev2]; rfl) (by decide) rfl (fun ls hl => ?_)
        refine lv_goto (tgt := 4) hx hb dX2_placeOf_29 (by decide) ?_
        exact ih4 V s0 v2 _ _ ls hs0 hf I (lv_sub hl [2, 3, 1, 0] rfl)
      intro V a2 a3 H locs ls hs0 hf I hl
      rw [d_placeOf_l4] at hf
      refine lv_iload_n hx hb dX2_placeOf_4 rfl (lv_at hl 3 rfl) ?_
      refine lv_bipush (v := (6 : Int32)) hx hb dX2_placeOf_5 (by decide) ?_
      refine lv_icmp_ge (tgt := 32) hx hb dX2_placeOf_7 (by decide) (fun c => ?_) (fun c => ?_)
      · have hf := if_p c hf
        refine lv_iload_n hx hb dX2_placeOf_32 rfl (lv_at hl 2 rfl) ?_
        exact hret _ _ _ _ _ dX2_placeOf_33 (w6_mv (so_e hf).2 I) (so_e hf).1 rfl
      · have hf := if_n c hf
        refine lv_aload_n hx hb dX2_placeOf_10 rfl (lv_at hl 0 rfl) ?_
        refine w6_get F I (so_ob hs0) rfl in_X2 0 (by decide) q82 rfl rfl dX2_placeOf_11 ?_
        refine lv_iload_n hx hb dX2_placeOf_14 rfl (lv_at hl 3 rfl) ?_
        obtain ⟨g1, hf⟩ := gd_e hf
        refine w6_iald (j := a3.toNatClampNeg) F I (s_ar hs0 1 6 (by decide) rfl) g1 rfl dX2_placeOf_15 ?_
        refine lv_iload_n hx hb dX2_placeOf_16 rfl (lv_at hl 1 rfl) ?_
        refine lv_icmp_ne (tgt := 24) hx hb dX2_placeOf_17 (by decide) (fun c => ?_) (fun c => ?_)
        · have hf := if_n c hf
          refine lv_iload_n hx hb dX2_placeOf_24 rfl (lv_at hl 2 rfl) ?_
          exact hJ25 V a3 a2 _ _ ls hs0 hf I (lv_sub hl [0, 1, 3] rfl)
        · have hf := if_p c hf
          refine lv_iload_n hx hb dX2_placeOf_20 rfl (lv_at hl 3 rfl) ?_
          refine lv_goto (tgt := 25) hx hb dX2_placeOf_21 (by decide) ?_
          exact hJ25 V a3 a3 _ _ ls hs0 hf I (lv_sub hl [0, 1, 3] rfl)
  unfold d_placeOf at hf
  refine lv_iconst (v := (-1 : Int32)) hx hb dX2_placeOf_0 (by decide) ?_
  refine lv_istore_n (lv' := [(2, .int (-1 : Int32)), (0, .ref (ad k)), (1, .int p1)]) hx hb dX2_placeOf_1 rfl hl (by decide) rfl (fun ls hl => ?_)
  refine lv_iconst (v := (0 : Int32)) hx hb dX2_placeOf_2 (by decide) ?_
  refine lv_istore_n (lv' := [(3, .int (0 : Int32)), (2, .int (-1 : Int32)), (0, .ref (ad k)), (1, .int p1)]) hx hb dX2_placeOf_3 rfl hl (by decide) rfl (fun ls hl => ?_)
  exact hL4 200 V (-1 : Int32) (0 : Int32) _ _ ls hk hf I (lv_sub hl [2, 3, 1, 0] rfl)
def d_goesRound (k : Nat) (V : Mm) : Option Mm :=
  lt_ ((V.1 (k + 1) 0)) fun v1 => lt_ (mrow V (k + 1) (va_cpy (V.1 (k + 1)) (V.1 (k + 1)) 1 0 5)) fun V2 => lt_ (mset V2 (k + 1) 5 v1) fun V3 => lt_ (mset V3 k 12 ((V3.1 k 12) + (1 : Int32))) fun V4 => if (V4.1 k 14) = (-1 : Int32) then (some V4) else (if (V4.1 (k + 1) 3) = (V4.1 k 13) then (lt_ (mset V4 (k + 1) 3 (V4.1 k 14)) fun V5 => lt_ (mset V5 k 14 (-1 : Int32)) fun V6 => some V6) else (some V4))
theorem hdX2_goesRound : w6_hd yX2_goesRound 0 := by decide +kernel
abbrev rmX2_goesRound : Room := { frames := 1, cells := 0, slots := 0, locals := 26 }
set_option maxHeartbeats 4000000 in
set_option maxRecDepth 100000 in
theorem ctd_goesRound (l : Launch) (D : va_G) (g : Nat → ClassId) (ad : Nat → Nat) (k : Nat) (V : Mm) (V' : Mm) (hf : d_goesRound k V = some V') (hk : isSide k) : CTv l D g yX2_goesRound cX2_goesRound 2 rmX2_goesRound [.ref (ad k)] (xw g ad V) (xw g ad V') := by
  intro sz
  refine w6_startv RX2 (by decide) (Nat.le_of_ble_eq_true rfl) rfl ?_
  intro p e s m below meth c A ls Q hx hb hown hts F I hl hret
  have hl : lv_has ls 2 [(0, .ref (ad k))] := hl
  unfold d_goesRound at hf
  refine lv_aload_n hx hb dX2_goesRound_0 rfl (lv_at hl 0 rfl) ?_
  refine w6_get F I (so_ob hk) rfl in_X2 0 (by decide) q82 rfl rfl dX2_goesRound_1 ?_
  refine lv_iconst (v := (0 : Int32)) hx hb dX2_goesRound_4 (by decide) ?_
  refine w6_iald (j := 0) F I (s_ar hk 1 6 (by decide) rfl) (show ix_ (0 : Int32) 6 by decide) rfl dX2_goesRound_5 ?_
  obtain ⟨v1, ev1, hf⟩ := lt_e hf
  refine w6_nmi ev1 ?_
  refine lv_istore_n (lv' := [(1, .int v1), (0, .ref (ad k))]) hx hb dX2_goesRound_6 rfl hl (by decide) rfl (fun ls hl => ?_)
  refine lv_aload_n hx hb dX2_goesRound_7 rfl (lv_at hl 1 rfl) ?_
  refine w6_get F I (so_ob hk) rfl in_X2 0 (by decide) q82 rfl rfl dX2_goesRound_8 ?_
  refine lv_iconst (v := (1 : Int32)) hx hb dX2_goesRound_11 (by decide) ?_
  refine lv_aload_n hx hb dX2_goesRound_12 rfl (lv_at hl 1 rfl) ?_
  refine w6_get F I (so_ob hk) rfl in_X2 0 (by decide) q82 rfl rfl dX2_goesRound_13 ?_
  refine lv_iconst (v := (0 : Int32)) hx hb dX2_goesRound_16 (by decide) ?_
  refine lv_iconst (v := (5 : Int32)) hx hb dX2_goesRound_17 (by decide) ?_
  obtain ⟨V2, eV2, hf⟩ := lt_e hf
  refine w6_cpy (sp' := 1) (dp' := 0) (n' := 5) xsh_lc F I hl.1 q302 (s_ar hk 1 6 (by decide) rfl) (s_ar hk 1 6 (by decide) rfl) rfl rfl (by decide) (by decide) (by decide) rfl rfl rfl (by decide) (by decide) (fun _ _ => rfl) (Nat.le_of_ble_eq_true rfl) (Nat.le_of_ble_eq_true rfl) dX2_goesRound_18 eV2 (fun H locs I => ?_)
  refine lv_aload_n hx hb dX2_goesRound_21 rfl (lv_at hl 1 rfl) ?_
  refine w6_get F I (so_ob hk) rfl in_X2 0 (by decide) q82 rfl rfl dX2_goesRound_22 ?_
  refine lv_iconst (v := (5 : Int32)) hx hb dX2_goesRound_25 (by decide) ?_
  refine lv_iload_n hx hb dX2_goesRound_26 rfl (lv_at hl 0 rfl) ?_
  obtain ⟨V3, eV3, hf⟩ := lt_e hf
  refine w6_iast (j := 5) xsh_lc F I (s_ar hk 1 6 (by decide) rfl) (show ix_ (5 : Int32) 6 by decide) rfl dX2_goesRound_27 eV3 (fun H locs I => ?_)
  refine lv_aload_n hx hb dX2_goesRound_28 rfl (lv_at hl 1 rfl) ?_
  refine lv_dup hx hb dX2_goesRound_29 rfl ?_
  refine w6_get F I (so_ob hk) rfl in_X2 12 (by decide) q103 rfl rfl dX2_goesRound_30 ?_
  refine lv_iconst (v := (1 : Int32)) hx hb dX2_goesRound_33 (by decide) ?_
  refine lv_iadd hx hb dX2_goesRound_34 ?_
  obtain ⟨V4, eV4, hf⟩ := lt_e hf
  refine w6_put xsh_lc F I (so_ob hk) rfl in_X2 tyX2 tyX2_ok nmX2 12 (by decide) (so_nf _ 12 (by decide)) q103 rfl rfl (tyX2_ok 12 (by decide)) rfl rfl dX2_goesRound_35 eV4 (fun H locs I => ?_)
  refine lv_aload_n hx hb dX2_goesRound_38 rfl (lv_at hl 1 rfl) ?_
  refine w6_get F I (so_ob hk) rfl in_X2 14 (by decide) q107 rfl rfl dX2_goesRound_39 ?_
  refine lv_iconst (v := (-1 : Int32)) hx hb dX2_goesRound_42 (by decide) ?_
  refine lv_icmp_eq (tgt := 59) hx hb dX2_goesRound_43 (by decide) (fun c => ?_) (fun c => ?_)
  · have hf := if_p c hf
    exact hret _ _ _ _ dX2_goesRound_59 (w6_mv (Option.some.inj hf) I)
  · have hf := if_n c hf
    refine lv_aload_n hx hb dX2_goesRound_46 rfl (lv_at hl 1 rfl) ?_
    refine w6_get F I (so_ob hk) rfl in_X2 0 (by decide) q82 rfl rfl dX2_goesRound_47 ?_
    refine lv_iconst (v := (3 : Int32)) hx hb dX2_goesRound_50 (by decide) ?_
    refine w6_iald (j := 3) F I (s_ar hk 1 6 (by decide) rfl) (show ix_ (3 : Int32) 6 by decide) rfl dX2_goesRound_51 ?_
    refine lv_aload_n hx hb dX2_goesRound_52 rfl (lv_at hl 1 rfl) ?_
    refine w6_get F I (so_ob hk) rfl in_X2 13 (by decide) q105 rfl rfl dX2_goesRound_53 ?_
    refine lv_icmp_eq (tgt := 60) hx hb dX2_goesRound_56 (by decide) (fun c => ?_) (fun c => ?_)
    · have hf := if_p c hf
      refine lv_aload_n hx hb dX2_goesRound_60 rfl (lv_at hl 1 rfl) ?_
      refine w6_get F I (so_ob hk) rfl in_X2 0 (by decide) q82 rfl rfl dX2_goesRound_61 ?_
      refine lv_iconst (v := (3 : Int32)) hx hb dX2_goesRound_64 (by decide) ?_
      refine lv_aload_n hx hb dX2_goesRound_65 rfl (lv_at hl 1 rfl) ?_
      refine w6_get F I (so_ob hk) rfl in_X2 14 (by decide) q107 rfl rfl dX2_goesRound_66 ?_
      obtain ⟨V5, eV5, hf⟩ := lt_e hf
      refine w6_iast (j := 3) xsh_lc F I (s_ar hk 1 6 (by decide) rfl) (show ix_ (3 : Int32) 6 by decide) rfl dX2_goesRound_69 eV5 (fun H locs I => ?_)
      refine lv_aload_n hx hb dX2_goesRound_70 rfl (lv_at hl 1 rfl) ?_
      refine lv_iconst (v := (-1 : Int32)) hx hb dX2_goesRound_71 (by decide) ?_
      obtain ⟨V6, eV6, hf⟩ := lt_e hf
      refine w6_put xsh_lc F I (so_ob hk) rfl in_X2 tyX2 tyX2_ok nmX2 14 (by decide) (so_nf _ 14 (by decide)) q107 rfl rfl (tyX2_ok 14 (by decide)) rfl rfl dX2_goesRound_72 eV6 (fun H locs I => ?_)
      exact hret _ _ _ _ dX2_goesRound_75 (w6_mv (Option.some.inj hf) I)
    · have hf := if_n c hf
      exact hret _ _ _ _ dX2_goesRound_59 (w6_mv (Option.some.inj hf) I)
def d_mayPair (k : Nat) (V : Mm) (p1 : Int32) (p2 : Int32) : Option (Int32 × Mm) :=
  gd_ (ix_ p1 12) (if (V.1 (k + 8) p1.toNatClampNeg) = (0 : Int32) then (gd_ (ix_ p2 12) (if (V.1 (k + 8) p2.toNatClampNeg) = (0 : Int32) then (gd_ (ix_ p1 12) (if (V.1 (k + 3) p1.toNatClampNeg) = (-1 : Int32) then (gd_ (ix_ p2 12) (if (V.1 (k + 7) p2.toNatClampNeg) = (0 : Int32) then (some ((1 : Int32), V)) else (some ((0 : Int32), V)))) else (gd_ (ix_ p1 12) (if (V.1 (k + 3) p1.toNatClampNeg) = p2 then (some ((1 : Int32), V)) else (some ((0 : Int32), V)))))) else (some ((0 : Int32), V)))) else (some ((0 : Int32), V)))
theorem hdX2_mayPair : w6_hd yX2_mayPair 2 := by decide +kernel
abbrev rmX2_mayPair : Room := { frames := 0, cells := 0, slots := 0, locals := 0 }
set_option maxHeartbeats 4000000 in
set_option maxRecDepth 100000 in
theorem ctd_mayPair (l : Launch) (D : va_G) (g : Nat → ClassId) (ad : Nat → Nat) (k : Nat) (V : Mm) (p1 : Int32) (p2 : Int32) (r : Int32) (V' : Mm) (hf : d_mayPair k V p1 p2 = some (r, V')) (hk : isSide k) : CTi l D g yX2_mayPair cX2_mayPair 3 .boolean rmX2_mayPair [.ref (ad k), .int p1, .int p2] (xw g ad V) (xw g ad V') r := by
  intro sz
  refine w6_starti RX2 (by decide) (Nat.le_of_ble_eq_true rfl) rfl ?_
  intro p e s m below meth c A ls Q hx hb hown hts F I hl hret
  have hl : lv_has ls 3 [(0, .ref (ad k)), (1, .int p1), (2, .int p2)] := hl
  unfold d_mayPair at hf
  refine lv_aload_n hx hb dX2_mayPair_0 rfl (lv_at hl 0 rfl) ?_
  refine w6_get F I (so_ob hk) rfl in_X2 7 (by decide) q94 rfl rfl dX2_mayPair_1 ?_
  refine lv_iload_n hx hb dX2_mayPair_4 rfl (lv_at hl 1 rfl) ?_
  obtain ⟨g1, hf⟩ := gd_e hf
  refine w6_zald (j := p1.toNatClampNeg) F I (s_az hk 8 12 (by decide) rfl) g1 rfl dX2_mayPair_5 ?_
  refine lv_if_ne (tgt := 18) hx hb dX2_mayPair_6 (by decide) (fun c => ?_) (fun c => ?_)
  · have hf := if_n c hf
    refine lv_iconst (v := (0 : Int32)) hx hb dX2_mayPair_18 (by decide) ?_
    exact hret _ _ _ _ _ dX2_mayPair_19 (w6_mv (so_e hf).2 I) (so_e hf).1 rfl
  · have hf := if_p c hf
    refine lv_aload_n hx hb dX2_mayPair_9 rfl (lv_at hl 0 rfl) ?_
    refine w6_get F I (so_ob hk) rfl in_X2 7 (by decide) q94 rfl rfl dX2_mayPair_10 ?_
    refine lv_iload_n hx hb dX2_mayPair_13 rfl (lv_at hl 2 rfl) ?_
    obtain ⟨g2, hf⟩ := gd_e hf
    refine w6_zald (j := p2.toNatClampNeg) F I (s_az hk 8 12 (by decide) rfl) g2 rfl dX2_mayPair_14 ?_
    refine lv_if_eq (tgt := 20) hx hb dX2_mayPair_15 (by decide) (fun c => ?_) (fun c => ?_)
    · have hf := if_p c hf
      refine lv_aload_n hx hb dX2_mayPair_20 rfl (lv_at hl 0 rfl) ?_
      refine w6_get F I (so_ob hk) rfl in_X2 2 (by decide) q86 rfl rfl dX2_mayPair_21 ?_
      refine lv_iload_n hx hb dX2_mayPair_24 rfl (lv_at hl 1 rfl) ?_
      obtain ⟨g3, hf⟩ := gd_e hf
      refine w6_iald (j := p1.toNatClampNeg) F I (s_ar hk 3 12 (by decide) rfl) g3 rfl dX2_mayPair_25 ?_
      refine lv_iconst (v := (-1 : Int32)) hx hb dX2_mayPair_26 (by decide) ?_
      refine lv_icmp_eq (tgt := 46) hx hb dX2_mayPair_27 (by decide) (fun c => ?_) (fun c => ?_)
      · have hf := if_p c hf
        refine lv_aload_n hx hb dX2_mayPair_46 rfl (lv_at hl 0 rfl) ?_
        refine w6_get F I (so_ob hk) rfl in_X2 6 (by decide) q93 rfl rfl dX2_mayPair_47 ?_
        refine lv_iload_n hx hb dX2_mayPair_50 rfl (lv_at hl 2 rfl) ?_
        obtain ⟨g4, hf⟩ := gd_e hf
        refine w6_zald (j := p2.toNatClampNeg) F I (s_az hk 7 12 (by decide) rfl) g4 rfl dX2_mayPair_51 ?_
        refine lv_if_ne (tgt := 59) hx hb dX2_mayPair_52 (by decide) (fun c => ?_) (fun c => ?_)
        · have hf := if_n c hf
          refine lv_iconst (v := (0 : Int32)) hx hb dX2_mayPair_59 (by decide) ?_
          exact hret _ _ _ _ _ dX2_mayPair_60 (w6_mv (so_e hf).2 I) (so_e hf).1 rfl
        · have hf := if_p c hf
          refine lv_iconst (v := (1 : Int32)) hx hb dX2_mayPair_55 (by decide) ?_
          refine lv_goto (tgt := 60) hx hb dX2_mayPair_56 (by decide) ?_
          exact hret _ _ _ _ _ dX2_mayPair_60 (w6_mv (so_e hf).2 I) (so_e hf).1 rfl
      · have hf := if_n c hf
        refine lv_aload_n hx hb dX2_mayPair_30 rfl (lv_at hl 0 rfl) ?_
        refine w6_get F I (so_ob hk) rfl in_X2 2 (by decide) q86 rfl rfl dX2_mayPair_31 ?_
        refine lv_iload_n hx hb dX2_mayPair_34 rfl (lv_at hl 1 rfl) ?_
        obtain ⟨g5, hf⟩ := gd_e hf
        refine w6_iald (j := p1.toNatClampNeg) F I (s_ar hk 3 12 (by decide) rfl) g5 rfl dX2_mayPair_35 ?_
        refine lv_iload_n hx hb dX2_mayPair_36 rfl (lv_at hl 2 rfl) ?_
        refine lv_icmp_ne (tgt := 44) hx hb dX2_mayPair_37 (by decide) (fun c => ?_) (fun c => ?_)
        · have hf := if_n c hf
          refine lv_iconst (v := (0 : Int32)) hx hb dX2_mayPair_44 (by decide) ?_
          exact hret _ _ _ _ _ dX2_mayPair_45 (w6_mv (so_e hf).2 I) (so_e hf).1 rfl
        · have hf := if_p c hf
          refine lv_iconst (v := (1 : Int32)) hx hb dX2_mayPair_40 (by decide) ?_
          refine lv_goto (tgt := 45) hx hb dX2_mayPair_41 (by decide) ?_
          exact hret _ _ _ _ _ dX2_mayPair_45 (w6_mv (so_e hf).2 I) (so_e hf).1 rfl
    · have hf := if_n c hf
      refine lv_iconst (v := (0 : Int32)) hx hb dX2_mayPair_18 (by decide) ?_
      exact hret _ _ _ _ _ dX2_mayPair_19 (w6_mv (so_e hf).2 I) (so_e hf).1 rfl
def d_at (k : Nat) (V : Mm) (p1 : Int32) (p2 : Int32) : Option (Int32 × Mm) :=
  gd_ (ix_ ((p1 + p2) - (p1 + p2) / (6 : Int32) * (6 : Int32)) 6) (lt_ ((V.1 (k + 1) (((p1 + p2) - (p1 + p2) / (6 : Int32) * (6 : Int32)).toNatClampNeg))) fun v2 => if v2 = (V.1 k 13) then (if (V.1 k 14) = (-1 : Int32) then (some (v2, V)) else (some ((V.1 k 14), V))) else (some (v2, V)))
theorem hdX2_at : w6_hd yX2_at 2 := by decide +kernel
abbrev rmX2_at : Room := { frames := 0, cells := 0, slots := 0, locals := 0 }
set_option maxHeartbeats 4000000 in
set_option maxRecDepth 100000 in
theorem ctd_at (l : Launch) (D : va_G) (g : Nat → ClassId) (ad : Nat → Nat) (k : Nat) (V : Mm) (p1 : Int32) (p2 : Int32) (r : Int32) (V' : Mm) (hf : d_at k V p1 p2 = some (r, V')) (hk : isSide k) : CTi l D g yX2_at cX2_at 4 .int rmX2_at [.ref (ad k), .int p1, .int p2] (xw g ad V) (xw g ad V') r := by
  intro sz
  refine w6_starti RX2 (by decide) (Nat.le_of_ble_eq_true rfl) rfl ?_
  intro p e s m below meth c A ls Q hx hb hown hts F I hl hret
  have hl : lv_has ls 4 [(0, .ref (ad k)), (1, .int p1), (2, .int p2)] := hl
  unfold d_at at hf
  refine lv_aload_n hx hb dX2_at_0 rfl (lv_at hl 0 rfl) ?_
  refine w6_get F I (so_ob hk) rfl in_X2 0 (by decide) q82 rfl rfl dX2_at_1 ?_
  refine lv_iload_n hx hb dX2_at_4 rfl (lv_at hl 1 rfl) ?_
  refine lv_iload_n hx hb dX2_at_5 rfl (lv_at hl 2 rfl) ?_
  refine lv_iadd hx hb dX2_at_6 ?_
  refine lv_bipush (v := (6 : Int32)) hx hb dX2_at_7 (by decide) ?_
  refine lv_irem hx hb dX2_at_9 (by decide) ?_
  obtain ⟨g1, hf⟩ := gd_e hf
  refine w6_iald (j := ((p1 + p2) - (p1 + p2) / (6 : Int32) * (6 : Int32)).toNatClampNeg) F I (s_ar hk 1 6 (by decide) rfl) g1 rfl dX2_at_10 ?_
  obtain ⟨v2, ev2, hf⟩ := lt_e hf
  refine w6_nmi ev2 ?_
  refine lv_istore_n (lv' := [(3, .int v2), (0, .ref (ad k)), (1, .int p1), (2, .int p2)]) hx hb dX2_at_11 rfl hl (by decide) rfl (fun ls hl => ?_)
  refine lv_iload_n hx hb dX2_at_12 rfl (lv_at hl 0 rfl) ?_
  refine lv_aload_n hx hb dX2_at_13 rfl (lv_at hl 1 rfl) ?_
  refine w6_get F I (so_ob hk) rfl in_X2 13 (by decide) q105 rfl rfl dX2_at_14 ?_
  refine lv_icmp_ne (tgt := 35) hx hb dX2_at_17 (by decide) (fun c => ?_) (fun c => ?_)
  · have hf := if_n c hf
    refine lv_iload_n hx hb dX2_at_35 rfl (lv_at hl 0 rfl) ?_
    exact hret _ _ _ _ _ dX2_at_36 (w6_mv (so_e hf).2 I) (so_e hf).1 rfl
  · have hf := if_p c hf
    refine lv_aload_n hx hb dX2_at_20 rfl (lv_at hl 1 rfl) ?_
    refine w6_get F I (so_ob hk) rfl in_X2 14 (by decide) q107 rfl rfl dX2_at_21 ?_
    refine lv_iconst (v := (-1 : Int32)) hx hb dX2_at_24 (by decide) ?_
    refine lv_icmp_eq (tgt := 35) hx hb dX2_at_25 (by decide) (fun c => ?_) (fun c => ?_)
    · have hf := if_p c hf
      refine lv_iload_n hx hb dX2_at_35 rfl (lv_at hl 0 rfl) ?_
      exact hret _ _ _ _ _ dX2_at_36 (w6_mv (so_e hf).2 I) (so_e hf).1 rfl
    · have hf := if_n c hf
      refine lv_aload_n hx hb dX2_at_28 rfl (lv_at hl 1 rfl) ?_
      refine w6_get F I (so_ob hk) rfl in_X2 14 (by decide) q107 rfl rfl dX2_at_29 ?_
      refine lv_goto (tgt := 36) hx hb dX2_at_32 (by decide) ?_
      exact hret _ _ _ _ _ dX2_at_36 (w6_mv (so_e hf).2 I) (so_e hf).1 rfl
def d_puts_j38 (k : Nat) (p1 : Int32) (p2 : Int32) (V : Mm)  (a3 : Int32) (s0 : Int32) : Option (Int32 × Mm) :=
  gd_ (ix_ p1 12) (lt_ (mset V (k + 8) p1.toNatClampNeg (vp_nar .boolean s0)) fun V9 => gd_ (ix_ p2 12) (lt_ (mset V9 (k + 8) p2.toNatClampNeg (vp_nar .boolean s0)) fun V11 => gd_ (ix_ p1 12) (lt_ (mset V11 (k + 3) p1.toNatClampNeg p2) fun V13 => gd_ (ix_ p2 12) (lt_ (mset V13 (k + 3) p2.toNatClampNeg p1) fun V15 => gd_ (ix_ p2 12) (lt_ (mset V15 (k + 7) p2.toNatClampNeg (1 : Int32)) fun V17 => some (a3, V17))))))
def d_puts (k : Nat) (V : Mm) (p1 : Int32) (p2 : Int32) : Option (Int32 × Mm) :=
  bi_ (d_placeOf k V p1) fun r3 V1 => gd_ (ix_ r3 6) (lt_ (mset V1 (k + 1) r3.toNatClampNeg p2) fun V5 => lt_ (mset V5 k 10 ((V5.1 k 10) + (1 : Int32))) fun V6 => gd_ (ix_ p1 12) (if (V6.1 (k + 3) p1.toNatClampNeg) = p2 then (d_puts_j38 k p1 p2 V6 r3 (1 : Int32)) else (d_puts_j38 k p1 p2 V6 r3 (0 : Int32))))
theorem hdX2_puts : w6_hd yX2_puts 2 := by decide +kernel
abbrev rmX2_puts : Room := { frames := 1, cells := 0, slots := 0, locals := 23 }
set_option maxHeartbeats 4000000 in
set_option maxRecDepth 100000 in
theorem ctd_puts (l : Launch) (D : va_G) (g : Nat → ClassId) (ad : Nat → Nat) (k : Nat) (V : Mm) (p1 : Int32) (p2 : Int32) (r : Int32) (V' : Mm) (hf : d_puts k V p1 p2 = some (r, V')) (hk : isSide k) : CTi l D g yX2_puts cX2_puts 5 .int rmX2_puts [.ref (ad k), .int p1, .int p2] (xw g ad V) (xw g ad V') r := by
  intro sz
  refine w6_starti RX2 (by decide) (Nat.le_of_ble_eq_true rfl) rfl ?_
  intro p e s m below meth c A ls Q hx hb hown hts F I hl hret
  have hl : lv_has ls 5 [(0, .ref (ad k)), (1, .int p1), (2, .int p2)] := hl
  have hJ38 : ∀ (V : Mm) (a3 : Int32) (s0 : Int32) (H : Heap) (locs : List Loc) (ls : Array Slot) (hs0 : isSide k), d_puts_j38 k p1 p2 V a3 s0 = some (r, V') → w6_I D (xw g ad V ++ []) A s H locs → lv_has ls 5 [(0, .ref (ad k)), (1, .int p1), (2, .int p2), (3, .int a3)] → W p l e rmX2_puts s m ([.ref (ad k), .int p1, .int p2] : List Value).toArray below meth c H locs 0 0 Q (F0 m 38 ls [.int s0]) := by
    intro V a3 s0 H locs ls hs0 hf I hl
    unfold d_puts_j38 at hf
    refine lv_istore (lv' := [(4, .int s0), (0, .ref (ad k)), (1, .int p1), (2, .int p2), (3, .int a3)]) hx hb dX2_puts_38 hl (by decide) rfl (fun ls hl => ?_)
    refine lv_aload_n hx hb dX2_puts_40 rfl (lv_at hl 1 rfl) ?_
    refine w6_get F I (so_ob hs0) rfl in_X2 7 (by decide) q94 rfl rfl dX2_puts_41 ?_
    refine lv_iload_n hx hb dX2_puts_44 rfl (lv_at hl 2 rfl) ?_
    refine lv_iload hx hb dX2_puts_45 (lv_at hl 0 rfl) ?_
    obtain ⟨g8, hf⟩ := gd_e hf
    obtain ⟨V9, eV9, hf⟩ := lt_e hf
    refine w6_zast (j := p1.toNatClampNeg) xsh_lc F I (s_az hs0 8 12 (by decide) rfl) g8 rfl rfl dX2_puts_47 eV9 (fun H locs I => ?_)
    refine lv_aload_n hx hb dX2_puts_48 rfl (lv_at hl 1 rfl) ?_
    refine w6_get F I (so_ob hs0) rfl in_X2 7 (by decide) q94 rfl rfl dX2_puts_49 ?_
    refine lv_iload_n hx hb dX2_puts_52 rfl (lv_at hl 3 rfl) ?_
    refine lv_iload hx hb dX2_puts_53 (lv_at hl 0 rfl) ?_
    obtain ⟨g10, hf⟩ := gd_e hf
    obtain ⟨V11, eV11, hf⟩ := lt_e hf
    refine w6_zast (j := p2.toNatClampNeg) xsh_lc F I (s_az hs0 8 12 (by decide) rfl) g10 rfl rfl dX2_puts_55 eV11 (fun H locs I => ?_)
    refine lv_aload_n hx hb dX2_puts_56 rfl (lv_at hl 1 rfl) ?_
    refine w6_get F I (so_ob hs0) rfl in_X2 2 (by decide) q86 rfl rfl dX2_puts_57 ?_
    refine lv_iload_n hx hb dX2_puts_60 rfl (lv_at hl 2 rfl) ?_
    refine lv_iload_n hx hb dX2_puts_61 rfl (lv_at hl 3 rfl) ?_
    obtain ⟨g12, hf⟩ := gd_e hf
    obtain ⟨V13, eV13, hf⟩ := lt_e hf
    refine w6_iast (j := p1.toNatClampNeg) xsh_lc F I (s_ar hs0 3 12 (by decide) rfl) g12 rfl dX2_puts_62 eV13 (fun H locs I => ?_)
    refine lv_aload_n hx hb dX2_puts_63 rfl (lv_at hl 1 rfl) ?_
    refine w6_get F I (so_ob hs0) rfl in_X2 2 (by decide) q86 rfl rfl dX2_puts_64 ?_
    refine lv_iload_n hx hb dX2_puts_67 rfl (lv_at hl 3 rfl) ?_
    refine lv_iload_n hx hb dX2_puts_68 rfl (lv_at hl 2 rfl) ?_
    obtain ⟨g14, hf⟩ := gd_e hf
    obtain ⟨V15, eV15, hf⟩ := lt_e hf
    refine w6_iast (j := p2.toNatClampNeg) xsh_lc F I (s_ar hs0 3 12 (by decide) rfl) g14 rfl dX2_puts_69 eV15 (fun H locs I => ?_)
    refine lv_aload_n hx hb dX2_puts_70 rfl (lv_at hl 1 rfl) ?_
    refine w6_get F I (so_ob hs0) rfl in_X2 6 (by decide) q93 rfl rfl dX2_puts_71 ?_
    refine lv_iload_n hx hb dX2_puts_74 rfl (lv_at hl 3 rfl) ?_
    refine lv_iconst (v := (1 : Int32)) hx hb dX2_puts_75 (by decide) ?_
    obtain ⟨g16, hf⟩ := gd_e hf
    obtain ⟨V17, eV17, hf⟩ := lt_e hf
    refine w6_zast (j := p2.toNatClampNeg) xsh_lc F I (s_az hs0 7 12 (by decide) rfl) g16 rfl rfl dX2_puts_76 eV17 (fun H locs I => ?_)
    refine lv_iload_n hx hb dX2_puts_77 rfl (lv_at hl 4 rfl) ?_
    exact hret _ _ _ _ _ dX2_puts_78 (w6_mv (so_e hf).2 I) (so_e hf).1 rfl
  unfold d_puts at hf
  refine lv_aload_n hx hb dX2_puts_0 rfl (lv_at hl 0 rfl) ?_
  refine lv_iload_n hx hb dX2_puts_1 rfl (lv_at hl 1 rfl) ?_
  obtain ⟨r3, V1, h2, hf⟩ := bi_e hf
  refine xz_Vi F I (ctd_placeOf l D g ad k V p1 r3 V1 h2 hk) (lw_V q336 q320 q321 q48 q322) hdX2_placeOf rfl (Nat.le_of_ble_eq_true rfl) (Nat.le_of_ble_eq_true rfl) (w6_recv F I (so_ob hk) rfl) rfl hl.1 [] rfl (Nat.le_of_ble_eq_true rfl) dX2_puts_2 ⟨Nat.le_of_ble_eq_true rfl, Nat.le_of_ble_eq_true rfl⟩ (fun H locs I => ?_)
  refine lv_istore_n (lv' := [(3, .int r3), (0, .ref (ad k)), (1, .int p1), (2, .int p2)]) hx hb dX2_puts_5 rfl hl (by decide) rfl (fun ls hl => ?_)
  refine lv_aload_n hx hb dX2_puts_6 rfl (lv_at hl 1 rfl) ?_
  refine w6_get F I (so_ob hk) rfl in_X2 0 (by decide) q82 rfl rfl dX2_puts_7 ?_
  refine lv_iload_n hx hb dX2_puts_10 rfl (lv_at hl 0 rfl) ?_
  refine lv_iload_n hx hb dX2_puts_11 rfl (lv_at hl 3 rfl) ?_
  obtain ⟨g4, hf⟩ := gd_e hf
  obtain ⟨V5, eV5, hf⟩ := lt_e hf
  refine w6_iast (j := r3.toNatClampNeg) xsh_lc F I (s_ar hk 1 6 (by decide) rfl) g4 rfl dX2_puts_12 eV5 (fun H locs I => ?_)
  refine lv_aload_n hx hb dX2_puts_13 rfl (lv_at hl 1 rfl) ?_
  refine lv_dup hx hb dX2_puts_14 rfl ?_
  refine w6_get F I (so_ob hk) rfl in_X2 10 (by decide) q99 rfl rfl dX2_puts_15 ?_
  refine lv_iconst (v := (1 : Int32)) hx hb dX2_puts_18 (by decide) ?_
  refine lv_iadd hx hb dX2_puts_19 ?_
  obtain ⟨V6, eV6, hf⟩ := lt_e hf
  refine w6_put xsh_lc F I (so_ob hk) rfl in_X2 tyX2 tyX2_ok nmX2 10 (by decide) (so_nf _ 10 (by decide)) q99 rfl rfl (tyX2_ok 10 (by decide)) rfl rfl dX2_puts_20 eV6 (fun H locs I => ?_)
  refine lv_aload_n hx hb dX2_puts_23 rfl (lv_at hl 1 rfl) ?_
  refine w6_get F I (so_ob hk) rfl in_X2 2 (by decide) q86 rfl rfl dX2_puts_24 ?_
  refine lv_iload_n hx hb dX2_puts_27 rfl (lv_at hl 2 rfl) ?_
  obtain ⟨g7, hf⟩ := gd_e hf
  refine w6_iald (j := p1.toNatClampNeg) F I (s_ar hk 3 12 (by decide) rfl) g7 rfl dX2_puts_28 ?_
  refine lv_iload_n hx hb dX2_puts_29 rfl (lv_at hl 3 rfl) ?_
  refine lv_icmp_ne (tgt := 37) hx hb dX2_puts_30 (by decide) (fun c => ?_) (fun c => ?_)
  · have hf := if_n c hf
    refine lv_iconst (v := (0 : Int32)) hx hb dX2_puts_37 (by decide) ?_
    exact hJ38 V6 r3 (0 : Int32) _ _ ls hk hf I (lv_sub hl [1, 2, 3, 0] rfl)
  · have hf := if_p c hf
    refine lv_iconst (v := (1 : Int32)) hx hb dX2_puts_33 (by decide) ?_
    refine lv_goto (tgt := 38) hx hb dX2_puts_34 (by decide) ?_
    exact hJ38 V6 r3 (1 : Int32) _ _ ls hk hf I (lv_sub hl [1, 2, 3, 0] rfl)
def d_become (k : Nat) (V : Mm) (o1 : Nat) : Option Mm :=
  lt_ (mrow V (k + 1) (va_cpy (V.1 (o1 + 1)) (V.1 (k + 1)) 0 0 6)) fun V1 => lt_ (mrow V1 (k + 2) (va_cpy (V1.1 (o1 + 2)) (V1.1 (k + 2)) 0 0 6)) fun V2 => lt_ (mrow V2 (k + 3) (va_cpy (V2.1 (o1 + 3)) (V2.1 (k + 3)) 0 0 12)) fun V3 => lt_ (mrow V3 (k + 4) (va_cpy (V3.1 (o1 + 4)) (V3.1 (k + 4)) 0 0 12)) fun V4 => lt_ (mrow V4 (k + 5) (va_cpy (V4.1 (o1 + 5)) (V4.1 (k + 5)) 0 0 6)) fun V5 => lt_ (mrow V5 (k + 6) (va_cpy (V5.1 (o1 + 6)) (V5.1 (k + 6)) 0 0 6)) fun V6 => gd_ (bzr_ (V6.1 (o1 + 7)) 12 = true) (lt_ (mrow V6 (k + 7) (va_cpy (V6.1 (o1 + 7)) (V6.1 (k + 7)) 0 0 12)) fun V8 => gd_ (bzr_ (V8.1 (o1 + 8)) 12 = true) (lt_ (mrow V8 (k + 8) (va_cpy (V8.1 (o1 + 8)) (V8.1 (k + 8)) 0 0 12)) fun V10 => lt_ (mset V10 k 8 (V10.1 o1 8)) fun V11 => lt_ (mset V11 k 9 (V11.1 o1 9)) fun V12 => lt_ (mset V12 k 10 (V12.1 o1 10)) fun V13 => lt_ (mset V13 k 11 (V13.1 o1 11)) fun V14 => lt_ (mset V14 k 12 (V14.1 o1 12)) fun V15 => lt_ (mset V15 k 13 (V15.1 o1 13)) fun V16 => lt_ (mset V16 k 14 (V16.1 o1 14)) fun V17 => lt_ (mset V17 k 15 (V17.1 o1 15)) fun V18 => gd_ (bz_ (V18.1 o1 16)) (lt_ (mset V18 k 16 (V18.1 o1 16)) fun V20 => some V20)))
theorem hdX2_become : w6_hd yX2_become 1 := by decide +kernel
abbrev rmX2_become : Room := { frames := 1, cells := 0, slots := 0, locals := 26 }
set_option maxHeartbeats 4000000 in
set_option maxRecDepth 100000 in
theorem ctd_become (l : Launch) (D : va_G) (g : Nat → ClassId) (ad : Nat → Nat) (k : Nat) (V : Mm) (o1 : Nat) (V' : Mm) (hf : d_become k V o1 = some V') (hk : isSide k) (ho1 : isSide o1) : CTv l D g yX2_become cX2_become 2 rmX2_become [.ref (ad k), .ref (ad o1)] (xw g ad V) (xw g ad V') := by
  intro sz
  refine w6_startv RX2 (by decide) (Nat.le_of_ble_eq_true rfl) rfl ?_
  intro p e s m below meth c A ls Q hx hb hown hts F I hl hret
  have hl : lv_has ls 2 [(0, .ref (ad k)), (1, .ref (ad o1))] := hl
  unfold d_become at hf
  refine lv_aload_n hx hb dX2_become_0 rfl (lv_at hl 1 rfl) ?_
  refine w6_get F I (so_ob ho1) rfl in_X2 0 (by decide) q82 rfl rfl dX2_become_1 ?_
  refine lv_iconst (v := (0 : Int32)) hx hb dX2_become_4 (by decide) ?_
  refine lv_aload_n hx hb dX2_become_5 rfl (lv_at hl 0 rfl) ?_
  refine w6_get F I (so_ob hk) rfl in_X2 0 (by decide) q82 rfl rfl dX2_become_6 ?_
  refine lv_iconst (v := (0 : Int32)) hx hb dX2_become_9 (by decide) ?_
  refine lv_bipush (v := (6 : Int32)) hx hb dX2_become_10 (by decide) ?_
  obtain ⟨V1, eV1, hf⟩ := lt_e hf
  refine w6_cpy (sp' := 0) (dp' := 0) (n' := 6) xsh_lc F I hl.1 q302 (s_ar ho1 1 6 (by decide) rfl) (s_ar hk 1 6 (by decide) rfl) rfl rfl (by decide) (by decide) (by decide) rfl rfl rfl (by decide) (by decide) (fun _ _ => rfl) (Nat.le_of_ble_eq_true rfl) (Nat.le_of_ble_eq_true rfl) dX2_become_12 eV1 (fun H locs I => ?_)
  refine lv_aload_n hx hb dX2_become_15 rfl (lv_at hl 1 rfl) ?_
  refine w6_get F I (so_ob ho1) rfl in_X2 1 (by decide) q84 rfl rfl dX2_become_16 ?_
  refine lv_iconst (v := (0 : Int32)) hx hb dX2_become_19 (by decide) ?_
  refine lv_aload_n hx hb dX2_become_20 rfl (lv_at hl 0 rfl) ?_
  refine w6_get F I (so_ob hk) rfl in_X2 1 (by decide) q84 rfl rfl dX2_become_21 ?_
  refine lv_iconst (v := (0 : Int32)) hx hb dX2_become_24 (by decide) ?_
  refine lv_bipush (v := (6 : Int32)) hx hb dX2_become_25 (by decide) ?_
  obtain ⟨V2, eV2, hf⟩ := lt_e hf
  refine w6_cpy (sp' := 0) (dp' := 0) (n' := 6) xsh_lc F I hl.1 q302 (s_ar ho1 2 6 (by decide) rfl) (s_ar hk 2 6 (by decide) rfl) rfl rfl (by decide) (by decide) (by decide) rfl rfl rfl (by decide) (by decide) (fun _ _ => rfl) (Nat.le_of_ble_eq_true rfl) (Nat.le_of_ble_eq_true rfl) dX2_become_27 eV2 (fun H locs I => ?_)
  refine lv_aload_n hx hb dX2_become_30 rfl (lv_at hl 1 rfl) ?_
  refine w6_get F I (so_ob ho1) rfl in_X2 2 (by decide) q86 rfl rfl dX2_become_31 ?_
  refine lv_iconst (v := (0 : Int32)) hx hb dX2_become_34 (by decide) ?_
  refine lv_aload_n hx hb dX2_become_35 rfl (lv_at hl 0 rfl) ?_
  refine w6_get F I (so_ob hk) rfl in_X2 2 (by decide) q86 rfl rfl dX2_become_36 ?_
  refine lv_iconst (v := (0 : Int32)) hx hb dX2_become_39 (by decide) ?_
  refine lv_bipush (v := (12 : Int32)) hx hb dX2_become_40 (by decide) ?_
  obtain ⟨V3, eV3, hf⟩ := lt_e hf
  refine w6_cpy (sp' := 0) (dp' := 0) (n' := 12) xsh_lc F I hl.1 q302 (s_ar ho1 3 12 (by decide) rfl) (s_ar hk 3 12 (by decide) rfl) rfl rfl (by decide) (by decide) (by decide) rfl rfl rfl (by decide) (by decide) (fun _ _ => rfl) (Nat.le_of_ble_eq_true rfl) (Nat.le_of_ble_eq_true rfl) dX2_become_42 eV3 (fun H locs I => ?_)
  refine lv_aload_n hx hb dX2_become_45 rfl (lv_at hl 1 rfl) ?_
  refine w6_get F I (so_ob ho1) rfl in_X2 3 (by decide) q87 rfl rfl dX2_become_46 ?_
  refine lv_iconst (v := (0 : Int32)) hx hb dX2_become_49 (by decide) ?_
  refine lv_aload_n hx hb dX2_become_50 rfl (lv_at hl 0 rfl) ?_
  refine w6_get F I (so_ob hk) rfl in_X2 3 (by decide) q87 rfl rfl dX2_become_51 ?_
  refine lv_iconst (v := (0 : Int32)) hx hb dX2_become_54 (by decide) ?_
  refine lv_bipush (v := (12 : Int32)) hx hb dX2_become_55 (by decide) ?_
  obtain ⟨V4, eV4, hf⟩ := lt_e hf
  refine w6_cpy (sp' := 0) (dp' := 0) (n' := 12) xsh_lc F I hl.1 q302 (s_ar ho1 4 12 (by decide) rfl) (s_ar hk 4 12 (by decide) rfl) rfl rfl (by decide) (by decide) (by decide) rfl rfl rfl (by decide) (by decide) (fun _ _ => rfl) (Nat.le_of_ble_eq_true rfl) (Nat.le_of_ble_eq_true rfl) dX2_become_57 eV4 (fun H locs I => ?_)
  refine lv_aload_n hx hb dX2_become_60 rfl (lv_at hl 1 rfl) ?_
  refine w6_get F I (so_ob ho1) rfl in_X2 4 (by decide) q89 rfl rfl dX2_become_61 ?_
  refine lv_iconst (v := (0 : Int32)) hx hb dX2_become_64 (by decide) ?_
  refine lv_aload_n hx hb dX2_become_65 rfl (lv_at hl 0 rfl) ?_
  refine w6_get F I (so_ob hk) rfl in_X2 4 (by decide) q89 rfl rfl dX2_become_66 ?_
  refine lv_iconst (v := (0 : Int32)) hx hb dX2_become_69 (by decide) ?_
  refine lv_bipush (v := (6 : Int32)) hx hb dX2_become_70 (by decide) ?_
  obtain ⟨V5, eV5, hf⟩ := lt_e hf
  refine w6_cpy (sp' := 0) (dp' := 0) (n' := 6) xsh_lc F I hl.1 q302 (s_ar ho1 5 6 (by decide) rfl) (s_ar hk 5 6 (by decide) rfl) rfl rfl (by decide) (by decide) (by decide) rfl rfl rfl (by decide) (by decide) (fun _ _ => rfl) (Nat.le_of_ble_eq_true rfl) (Nat.le_of_ble_eq_true rfl) dX2_become_72 eV5 (fun H locs I => ?_)
  refine lv_aload_n hx hb dX2_become_75 rfl (lv_at hl 1 rfl) ?_
  refine w6_get F I (so_ob ho1) rfl in_X2 5 (by decide) q91 rfl rfl dX2_become_76 ?_
  refine lv_iconst (v := (0 : Int32)) hx hb dX2_become_79 (by decide) ?_
  refine lv_aload_n hx hb dX2_become_80 rfl (lv_at hl 0 rfl) ?_
  refine w6_get F I (so_ob hk) rfl in_X2 5 (by decide) q91 rfl rfl dX2_become_81 ?_
  refine lv_iconst (v := (0 : Int32)) hx hb dX2_become_84 (by decide) ?_
  refine lv_bipush (v := (6 : Int32)) hx hb dX2_become_85 (by decide) ?_
  obtain ⟨V6, eV6, hf⟩ := lt_e hf
  refine w6_cpy (sp' := 0) (dp' := 0) (n' := 6) xsh_lc F I hl.1 q302 (s_ar ho1 6 6 (by decide) rfl) (s_ar hk 6 6 (by decide) rfl) rfl rfl (by decide) (by decide) (by decide) rfl rfl rfl (by decide) (by decide) (fun _ _ => rfl) (Nat.le_of_ble_eq_true rfl) (Nat.le_of_ble_eq_true rfl) dX2_become_87 eV6 (fun H locs I => ?_)
  refine lv_aload_n hx hb dX2_become_90 rfl (lv_at hl 1 rfl) ?_
  refine w6_get F I (so_ob ho1) rfl in_X2 6 (by decide) q93 rfl rfl dX2_become_91 ?_
  refine lv_iconst (v := (0 : Int32)) hx hb dX2_become_94 (by decide) ?_
  refine lv_aload_n hx hb dX2_become_95 rfl (lv_at hl 0 rfl) ?_
  refine w6_get F I (so_ob hk) rfl in_X2 6 (by decide) q93 rfl rfl dX2_become_96 ?_
  refine lv_iconst (v := (0 : Int32)) hx hb dX2_become_99 (by decide) ?_
  refine lv_bipush (v := (12 : Int32)) hx hb dX2_become_100 (by decide) ?_
  obtain ⟨g7, hf⟩ := gd_e hf
  obtain ⟨V8, eV8, hf⟩ := lt_e hf
  refine w6_cpy (sp' := 0) (dp' := 0) (n' := 12) xsh_lc F I hl.1 q302 (s_az ho1 7 12 (by decide) rfl) (s_az hk 7 12 (by decide) rfl) rfl rfl (by decide) (by decide) (by decide) rfl rfl rfl (by decide) (by decide) (bzr_f g7) (Nat.le_of_ble_eq_true rfl) (Nat.le_of_ble_eq_true rfl) dX2_become_102 eV8 (fun H locs I => ?_)
  refine lv_aload_n hx hb dX2_become_105 rfl (lv_at hl 1 rfl) ?_
  refine w6_get F I (so_ob ho1) rfl in_X2 7 (by decide) q94 rfl rfl dX2_become_106 ?_
  refine lv_iconst (v := (0 : Int32)) hx hb dX2_become_109 (by decide) ?_
  refine lv_aload_n hx hb dX2_become_110 rfl (lv_at hl 0 rfl) ?_
  refine w6_get F I (so_ob hk) rfl in_X2 7 (by decide) q94 rfl rfl dX2_become_111 ?_
  refine lv_iconst (v := (0 : Int32)) hx hb dX2_become_114 (by decide) ?_
  refine lv_bipush (v := (12 : Int32)) hx hb dX2_become_115 (by decide) ?_
  obtain ⟨g9, hf⟩ := gd_e hf
  obtain ⟨V10, eV10, hf⟩ := lt_e hf
  refine w6_cpy (sp' := 0) (dp' := 0) (n' := 12) xsh_lc F I hl.1 q302 (s_az ho1 8 12 (by decide) rfl) (s_az hk 8 12 (by decide) rfl) rfl rfl (by decide) (by decide) (by decide) rfl rfl rfl (by decide) (by decide) (bzr_f g9) (Nat.le_of_ble_eq_true rfl) (Nat.le_of_ble_eq_true rfl) dX2_become_117 eV10 (fun H locs I => ?_)
  refine lv_aload_n hx hb dX2_become_120 rfl (lv_at hl 0 rfl) ?_
  refine lv_aload_n hx hb dX2_become_121 rfl (lv_at hl 1 rfl) ?_
  refine w6_get F I (so_ob ho1) rfl in_X2 8 (by decide) q95 rfl rfl dX2_become_122 ?_
  obtain ⟨V11, eV11, hf⟩ := lt_e hf
  refine w6_put xsh_lc F I (so_ob hk) rfl in_X2 tyX2 tyX2_ok nmX2 8 (by decide) (so_nf _ 8 (by decide)) q95 rfl rfl (tyX2_ok 8 (by decide)) rfl rfl dX2_become_125 eV11 (fun H locs I => ?_)
  refine lv_aload_n hx hb dX2_become_128 rfl (lv_at hl 0 rfl) ?_
  refine lv_aload_n hx hb dX2_become_129 rfl (lv_at hl 1 rfl) ?_
  refine w6_get F I (so_ob ho1) rfl in_X2 9 (by decide) q97 rfl rfl dX2_become_130 ?_
  obtain ⟨V12, eV12, hf⟩ := lt_e hf
  refine w6_put xsh_lc F I (so_ob hk) rfl in_X2 tyX2 tyX2_ok nmX2 9 (by decide) (so_nf _ 9 (by decide)) q97 rfl rfl (tyX2_ok 9 (by decide)) rfl rfl dX2_become_133 eV12 (fun H locs I => ?_)
  refine lv_aload_n hx hb dX2_become_136 rfl (lv_at hl 0 rfl) ?_
  refine lv_aload_n hx hb dX2_become_137 rfl (lv_at hl 1 rfl) ?_
  refine w6_get F I (so_ob ho1) rfl in_X2 10 (by decide) q99 rfl rfl dX2_become_138 ?_
  obtain ⟨V13, eV13, hf⟩ := lt_e hf
  refine w6_put xsh_lc F I (so_ob hk) rfl in_X2 tyX2 tyX2_ok nmX2 10 (by decide) (so_nf _ 10 (by decide)) q99 rfl rfl (tyX2_ok 10 (by decide)) rfl rfl dX2_become_141 eV13 (fun H locs I => ?_)
  refine lv_aload_n hx hb dX2_become_144 rfl (lv_at hl 0 rfl) ?_
  refine lv_aload_n hx hb dX2_become_145 rfl (lv_at hl 1 rfl) ?_
  refine w6_get F I (so_ob ho1) rfl in_X2 11 (by decide) q101 rfl rfl dX2_become_146 ?_
  obtain ⟨V14, eV14, hf⟩ := lt_e hf
  refine w6_put xsh_lc F I (so_ob hk) rfl in_X2 tyX2 tyX2_ok nmX2 11 (by decide) (so_nf _ 11 (by decide)) q101 rfl rfl (tyX2_ok 11 (by decide)) rfl rfl dX2_become_149 eV14 (fun H locs I => ?_)
  refine lv_aload_n hx hb dX2_become_152 rfl (lv_at hl 0 rfl) ?_
  refine lv_aload_n hx hb dX2_become_153 rfl (lv_at hl 1 rfl) ?_
  refine w6_get F I (so_ob ho1) rfl in_X2 12 (by decide) q103 rfl rfl dX2_become_154 ?_
  obtain ⟨V15, eV15, hf⟩ := lt_e hf
  refine w6_put xsh_lc F I (so_ob hk) rfl in_X2 tyX2 tyX2_ok nmX2 12 (by decide) (so_nf _ 12 (by decide)) q103 rfl rfl (tyX2_ok 12 (by decide)) rfl rfl dX2_become_157 eV15 (fun H locs I => ?_)
  refine lv_aload_n hx hb dX2_become_160 rfl (lv_at hl 0 rfl) ?_
  refine lv_aload_n hx hb dX2_become_161 rfl (lv_at hl 1 rfl) ?_
  refine w6_get F I (so_ob ho1) rfl in_X2 13 (by decide) q105 rfl rfl dX2_become_162 ?_
  obtain ⟨V16, eV16, hf⟩ := lt_e hf
  refine w6_put xsh_lc F I (so_ob hk) rfl in_X2 tyX2 tyX2_ok nmX2 13 (by decide) (so_nf _ 13 (by decide)) q105 rfl rfl (tyX2_ok 13 (by decide)) rfl rfl dX2_become_165 eV16 (fun H locs I => ?_)
  refine lv_aload_n hx hb dX2_become_168 rfl (lv_at hl 0 rfl) ?_
  refine lv_aload_n hx hb dX2_become_169 rfl (lv_at hl 1 rfl) ?_
  refine w6_get F I (so_ob ho1) rfl in_X2 14 (by decide) q107 rfl rfl dX2_become_170 ?_
  obtain ⟨V17, eV17, hf⟩ := lt_e hf
  refine w6_put xsh_lc F I (so_ob hk) rfl in_X2 tyX2 tyX2_ok nmX2 14 (by decide) (so_nf _ 14 (by decide)) q107 rfl rfl (tyX2_ok 14 (by decide)) rfl rfl dX2_become_173 eV17 (fun H locs I => ?_)
  refine lv_aload_n hx hb dX2_become_176 rfl (lv_at hl 0 rfl) ?_
  refine lv_aload_n hx hb dX2_become_177 rfl (lv_at hl 1 rfl) ?_
  refine w6_get F I (so_ob ho1) rfl in_X2 15 (by decide) q109 rfl rfl dX2_become_178 ?_
  obtain ⟨V18, eV18, hf⟩ := lt_e hf
  refine w6_put xsh_lc F I (so_ob hk) rfl in_X2 tyX2 tyX2_ok nmX2 15 (by decide) (so_nf _ 15 (by decide)) q109 rfl rfl (tyX2_ok 15 (by decide)) rfl rfl dX2_become_181 eV18 (fun H locs I => ?_)
  refine lv_aload_n hx hb dX2_become_184 rfl (lv_at hl 0 rfl) ?_
  refine lv_aload_n hx hb dX2_become_185 rfl (lv_at hl 1 rfl) ?_
  refine w6_get F I (so_ob ho1) rfl in_X2 16 (by decide) q111 rfl rfl dX2_become_186 ?_
  obtain ⟨g19, hf⟩ := gd_e hf
  obtain ⟨V20, eV20, hf⟩ := lt_e hf
  refine w6_put xsh_lc F I (so_ob hk) rfl in_X2 tyX2 tyX2_ok nmX2 16 (by decide) (so_nf _ 16 (by decide)) q111 rfl rfl (tyX2_ok 16 (by decide)) (bz_n g19) (bz_f g19) dX2_become_189 eV20 (fun H locs I => ?_)
  exact hret _ _ _ _ dX2_become_192 (w6_mv (Option.some.inj hf) I)
def d_begins_j95 (k : Nat) (V : Mm)   : Option Mm :=
  lt_ (mset V k 8 (0 : Int32)) fun V1 => lt_ (mset V1 k 10 (0 : Int32)) fun V2 => lt_ (mset V2 k 11 (0 : Int32)) fun V3 => lt_ (mset V3 k 12 (0 : Int32)) fun V4 => lt_ (mset V4 k 14 (-1 : Int32)) fun V5 => lt_ (mset V5 k 15 (-1 : Int32)) fun V6 => lt_ (mset V6 k 16 (0 : Int32)) fun V7 => some V7
def d_begins_l37 (k : Nat) : Nat → Mm → Int32 → Option Mm
  | 0, _, _ => none
  | n37 + 1, V, a1 =>
  if (6 : Int32) ≤ a1 then (d_begins_j95 k V) else (gd_ (ix_ a1 6) (gd_ (ix_ a1 6) (lt_ (mset V (k + 1) a1.toNatClampNeg (V.1 (k + 2) a1.toNatClampNeg)) fun V10 => gd_ (ix_ a1 6) (gd_ (ix_ (V10.1 (k + 2) a1.toNatClampNeg) 12) (lt_ (mset V10 (k + 7) ((V10.1 (k + 2) a1.toNatClampNeg).toNatClampNeg) (1 : Int32)) fun V13 => gd_ (ix_ a1 6) (gd_ (ix_ a1 6) (lt_ (mset V13 (k + 5) a1.toNatClampNeg (zsg 2 a1.toNatClampNeg)) fun V18 => gd_ (ix_ a1 6) (gd_ (ix_ a1 6) (lt_ (mset V18 (k + 6) a1.toNatClampNeg (zsg 3 a1.toNatClampNeg)) fun V23 => lt_ (a1 + (1 : Int32)) fun v24 => d_begins_l37 k n37 V23 v24)))))))))
def d_begins_j35 (k : Nat) (V : Mm)   : Option Mm :=
  d_begins_l37 k 200 V (0 : Int32)
def d_begins_l2 (k : Nat) : Nat → Mm → Int32 → Option Mm
  | 0, _, _ => none
  | n2 + 1, V, a1 =>
  if (12 : Int32) ≤ a1 then (d_begins_j35 k V) else (gd_ (ix_ a1 12) (lt_ (mset V (k + 7) a1.toNatClampNeg (0 : Int32)) fun V26 => gd_ (ix_ a1 12) (lt_ (mset V26 (k + 8) a1.toNatClampNeg (0 : Int32)) fun V28 => gd_ (ix_ a1 12) (lt_ (mset V28 (k + 3) a1.toNatClampNeg (-1 : Int32)) fun V30 => lt_ (a1 + (1 : Int32)) fun v31 => d_begins_l2 k n2 V30 v31))))
def d_begins (k : Nat) (V : Mm) : Option Mm :=
  d_begins_l2 k 200 V (0 : Int32)
theorem hdX2_begins : w6_hd yX2_begins 0 := by decide +kernel
abbrev rmX2_begins : Room := { frames := 0, cells := 0, slots := 0, locals := 0 }
set_option maxHeartbeats 4000000 in
set_option maxRecDepth 100000 in
theorem ctd_begins (l : Launch) (D : va_G) (g : Nat → ClassId) (ad : Nat → Nat) (k : Nat) (V : Mm) (V' : Mm) (hf : d_begins k V = some V') (hk : isSide k) : CTv l D g yX2_begins cX2_begins 2 rmX2_begins [.ref (ad k)] (xw g ad V) (xw g ad V') := by
  intro sz
  refine w6_startv RX2 (by decide) (Nat.le_of_ble_eq_true rfl) rfl ?_
  intro p e s m below meth c A ls Q hx hb hown hts F I hl hret
  have hl : lv_has ls 2 [(0, .ref (ad k))] := hl
  have hJ95 : ∀ (V : Mm)  (H : Heap) (locs : List Loc) (ls : Array Slot) (hs0 : isSide k), d_begins_j95 k V = some V' → w6_I D (xw g ad V ++ []) A s H locs → lv_has ls 2 [(0, .ref (ad k))] → W p l e rmX2_begins s m ([.ref (ad k)] : List Value).toArray below meth c H locs 0 0 Q (F0 m 95 ls []) := by
    intro V H locs ls hs0 hf I hl
    unfold d_begins_j95 at hf
    refine lv_aload_n hx hb dX2_begins_95 rfl (lv_at hl 0 rfl) ?_
    refine lv_iconst (v := (0 : Int32)) hx hb dX2_begins_96 (by decide) ?_
    obtain ⟨V1, eV1, hf⟩ := lt_e hf
    refine w6_put xsh_lc F I (so_ob hs0) rfl in_X2 tyX2 tyX2_ok nmX2 8 (by decide) (so_nf _ 8 (by decide)) q95 rfl rfl (tyX2_ok 8 (by decide)) rfl rfl dX2_begins_97 eV1 (fun H locs I => ?_)
    refine lv_aload_n hx hb dX2_begins_100 rfl (lv_at hl 0 rfl) ?_
    refine lv_iconst (v := (0 : Int32)) hx hb dX2_begins_101 (by decide) ?_
    obtain ⟨V2, eV2, hf⟩ := lt_e hf
    refine w6_put xsh_lc F I (so_ob hs0) rfl in_X2 tyX2 tyX2_ok nmX2 10 (by decide) (so_nf _ 10 (by decide)) q99 rfl rfl (tyX2_ok 10 (by decide)) rfl rfl dX2_begins_102 eV2 (fun H locs I => ?_)
    refine lv_aload_n hx hb dX2_begins_105 rfl (lv_at hl 0 rfl) ?_
    refine lv_iconst (v := (0 : Int32)) hx hb dX2_begins_106 (by decide) ?_
    obtain ⟨V3, eV3, hf⟩ := lt_e hf
    refine w6_put xsh_lc F I (so_ob hs0) rfl in_X2 tyX2 tyX2_ok nmX2 11 (by decide) (so_nf _ 11 (by decide)) q101 rfl rfl (tyX2_ok 11 (by decide)) rfl rfl dX2_begins_107 eV3 (fun H locs I => ?_)
    refine lv_aload_n hx hb dX2_begins_110 rfl (lv_at hl 0 rfl) ?_
    refine lv_iconst (v := (0 : Int32)) hx hb dX2_begins_111 (by decide) ?_
    obtain ⟨V4, eV4, hf⟩ := lt_e hf
    refine w6_put xsh_lc F I (so_ob hs0) rfl in_X2 tyX2 tyX2_ok nmX2 12 (by decide) (so_nf _ 12 (by decide)) q103 rfl rfl (tyX2_ok 12 (by decide)) rfl rfl dX2_begins_112 eV4 (fun H locs I => ?_)
    refine lv_aload_n hx hb dX2_begins_115 rfl (lv_at hl 0 rfl) ?_
    refine lv_iconst (v := (-1 : Int32)) hx hb dX2_begins_116 (by decide) ?_
    obtain ⟨V5, eV5, hf⟩ := lt_e hf
    refine w6_put xsh_lc F I (so_ob hs0) rfl in_X2 tyX2 tyX2_ok nmX2 14 (by decide) (so_nf _ 14 (by decide)) q107 rfl rfl (tyX2_ok 14 (by decide)) rfl rfl dX2_begins_117 eV5 (fun H locs I => ?_)
    refine lv_aload_n hx hb dX2_begins_120 rfl (lv_at hl 0 rfl) ?_
    refine lv_iconst (v := (-1 : Int32)) hx hb dX2_begins_121 (by decide) ?_
    obtain ⟨V6, eV6, hf⟩ := lt_e hf
    refine w6_put xsh_lc F I (so_ob hs0) rfl in_X2 tyX2 tyX2_ok nmX2 15 (by decide) (so_nf _ 15 (by decide)) q109 rfl rfl (tyX2_ok 15 (by decide)) rfl rfl dX2_begins_122 eV6 (fun H locs I => ?_)
    refine lv_aload_n hx hb dX2_begins_125 rfl (lv_at hl 0 rfl) ?_
    refine lv_iconst (v := (0 : Int32)) hx hb dX2_begins_126 (by decide) ?_
    obtain ⟨V7, eV7, hf⟩ := lt_e hf
    refine w6_put xsh_lc F I (so_ob hs0) rfl in_X2 tyX2 tyX2_ok nmX2 16 (by decide) (so_nf _ 16 (by decide)) q111 rfl rfl (tyX2_ok 16 (by decide)) rfl rfl dX2_begins_127 eV7 (fun H locs I => ?_)
    exact hret _ _ _ _ dX2_begins_130 (w6_mv (Option.some.inj hf) I)
  have hL37 : ∀ (n37 : Nat) (V : Mm) (a1 : Int32) (H : Heap) (locs : List Loc) (ls : Array Slot) (hs0 : isSide k), d_begins_l37 k n37 V a1 = some V' → w6_I D (xw g ad V ++ []) A s H locs → lv_has ls 2 [(0, .ref (ad k)), (1, .int a1)] → W p l e rmX2_begins s m ([.ref (ad k)] : List Value).toArray below meth c H locs 0 0 Q (F0 m 37 ls []) := by
    intro n37
    induction n37 with
    | zero =>
      intro V a1 H locs ls hs0 hf
      rw [d_begins_l37] at hf
      cases hf
    | succ n37 ih37 =>
      intro V a1 H locs ls hs0 hf I hl
      rw [d_begins_l37] at hf
      refine lv_iload_n hx hb dX2_begins_37 rfl (lv_at hl 1 rfl) ?_
      refine lv_bipush (v := (6 : Int32)) hx hb dX2_begins_38 (by decide) ?_
      refine lv_icmp_ge (tgt := 95) hx hb dX2_begins_40 (by decide) (fun c => ?_) (fun c => ?_)
      · have hf := if_p c hf
        exact hJ95 V _ _ ls hs0 hf I (lv_sub hl [0] rfl)
      · have hf := if_n c hf
        refine lv_aload_n hx hb dX2_begins_43 rfl (lv_at hl 0 rfl) ?_
        refine w6_get F I (so_ob hs0) rfl in_X2 0 (by decide) q82 rfl rfl dX2_begins_44 ?_
        refine lv_iload_n hx hb dX2_begins_47 rfl (lv_at hl 1 rfl) ?_
        refine lv_aload_n hx hb dX2_begins_48 rfl (lv_at hl 0 rfl) ?_
        refine w6_get F I (so_ob hs0) rfl in_X2 1 (by decide) q84 rfl rfl dX2_begins_49 ?_
        refine lv_iload_n hx hb dX2_begins_52 rfl (lv_at hl 1 rfl) ?_
        obtain ⟨g8, hf⟩ := gd_e hf
        refine w6_iald (j := a1.toNatClampNeg) F I (s_ar hs0 2 6 (by decide) rfl) g8 rfl dX2_begins_53 ?_
        obtain ⟨g9, hf⟩ := gd_e hf
        obtain ⟨V10, eV10, hf⟩ := lt_e hf
        refine w6_iast (j := a1.toNatClampNeg) xsh_lc F I (s_ar hs0 1 6 (by decide) rfl) g9 rfl dX2_begins_54 eV10 (fun H locs I => ?_)
        refine lv_aload_n hx hb dX2_begins_55 rfl (lv_at hl 0 rfl) ?_
        refine w6_get F I (so_ob hs0) rfl in_X2 6 (by decide) q93 rfl rfl dX2_begins_56 ?_
        refine lv_aload_n hx hb dX2_begins_59 rfl (lv_at hl 0 rfl) ?_
        refine w6_get F I (so_ob hs0) rfl in_X2 1 (by decide) q84 rfl rfl dX2_begins_60 ?_
        refine lv_iload_n hx hb dX2_begins_63 rfl (lv_at hl 1 rfl) ?_
        obtain ⟨g11, hf⟩ := gd_e hf
        refine w6_iald (j := a1.toNatClampNeg) F I (s_ar hs0 2 6 (by decide) rfl) g11 rfl dX2_begins_64 ?_
        refine lv_iconst (v := (1 : Int32)) hx hb dX2_begins_65 (by decide) ?_
        obtain ⟨g12, hf⟩ := gd_e hf
        obtain ⟨V13, eV13, hf⟩ := lt_e hf
        refine w6_zast (j := (V10.1 (k + 2) a1.toNatClampNeg).toNatClampNeg) xsh_lc F I (s_az hs0 7 12 (by decide) rfl) g12 rfl rfl dX2_begins_66 eV13 (fun H locs I => ?_)
        refine lv_aload_n hx hb dX2_begins_67 rfl (lv_at hl 0 rfl) ?_
        refine w6_get F I (so_ob hs0) rfl in_X2 4 (by decide) q89 rfl rfl dX2_begins_68 ?_
        refine lv_iload_n hx hb dX2_begins_71 rfl (lv_at hl 1 rfl) ?_
        refine w6_getsN 2 (by decide) F I (List.mem_of_getElem? (i := 14) rfl) dX2_begins_72 (fun t14 h15 => ?_)
        refine lv_iload_n hx hb dX2_begins_75 rfl (lv_at hl 1 rfl) ?_
        obtain ⟨g16, hf⟩ := gd_e hf
        refine w6_tld (j := a1.toNatClampNeg) F I h15 g16 rfl dX2_begins_76 ?_
        obtain ⟨g17, hf⟩ := gd_e hf
        obtain ⟨V18, eV18, hf⟩ := lt_e hf
        refine w6_iast (j := a1.toNatClampNeg) xsh_lc F I (s_ar hs0 5 6 (by decide) rfl) g17 rfl dX2_begins_77 eV18 (fun H locs I => ?_)
        refine lv_aload_n hx hb dX2_begins_78 rfl (lv_at hl 0 rfl) ?_
        refine w6_get F I (so_ob hs0) rfl in_X2 5 (by decide) q91 rfl rfl dX2_begins_79 ?_
        refine lv_iload_n hx hb dX2_begins_82 rfl (lv_at hl 1 rfl) ?_
        refine w6_getsN 3 (by decide) F I (List.mem_of_getElem? (i := 15) rfl) dX2_begins_83 (fun t19 h20 => ?_)
        refine lv_iload_n hx hb dX2_begins_86 rfl (lv_at hl 1 rfl) ?_
        obtain ⟨g21, hf⟩ := gd_e hf
        refine w6_tld (j := a1.toNatClampNeg) F I h20 g21 rfl dX2_begins_87 ?_
        obtain ⟨g22, hf⟩ := gd_e hf
        obtain ⟨V23, eV23, hf⟩ := lt_e hf
        refine w6_iast (j := a1.toNatClampNeg) xsh_lc F I (s_ar hs0 6 6 (by decide) rfl) g22 rfl dX2_begins_88 eV23 (fun H locs I => ?_)
        obtain ⟨v24, ev24, hf⟩ := lt_e hf
        refine lv_iinc (v := v24) (lv' := [(1, .int v24), (0, .ref (ad k))]) hx hb dX2_begins_89 hl (k := 1) rfl (by rw [ev24]; rfl) (by decide) rfl (fun ls hl => ?_)
        refine lv_goto (tgt := 37) hx hb dX2_begins_92 (by decide) ?_
        exact ih37 V23 v24 _ _ ls hs0 hf I (lv_sub hl [1, 0] rfl)
  have hJ35 : ∀ (V : Mm)  (H : Heap) (locs : List Loc) (ls : Array Slot) (hs0 : isSide k), d_begins_j35 k V = some V' → w6_I D (xw g ad V ++ []) A s H locs → lv_has ls 2 [(0, .ref (ad k))] → W p l e rmX2_begins s m ([.ref (ad k)] : List Value).toArray below meth c H locs 0 0 Q (F0 m 35 ls []) := by
    intro V H locs ls hs0 hf I hl
    unfold d_begins_j35 at hf
    refine lv_iconst (v := (0 : Int32)) hx hb dX2_begins_35 (by decide) ?_
    refine lv_istore_n (lv' := [(1, .int (0 : Int32)), (0, .ref (ad k))]) hx hb dX2_begins_36 rfl hl (by decide) rfl (fun ls hl => ?_)
    exact hL37 200 V (0 : Int32) _ _ ls hs0 hf I (lv_sub hl [1, 0] rfl)
  have hL2 : ∀ (n2 : Nat) (V : Mm) (a1 : Int32) (H : Heap) (locs : List Loc) (ls : Array Slot) (hs0 : isSide k), d_begins_l2 k n2 V a1 = some V' → w6_I D (xw g ad V ++ []) A s H locs → lv_has ls 2 [(0, .ref (ad k)), (1, .int a1)] → W p l e rmX2_begins s m ([.ref (ad k)] : List Value).toArray below meth c H locs 0 0 Q (F0 m 2 ls []) := by
    intro n2
    induction n2 with
    | zero =>
      intro V a1 H locs ls hs0 hf
      rw [d_begins_l2] at hf
      cases hf
    | succ n2 ih2 =>
      intro V a1 H locs ls hs0 hf I hl
      rw [d_begins_l2] at hf
      refine lv_iload_n hx hb dX2_begins_2 rfl (lv_at hl 1 rfl) ?_
      refine lv_bipush (v := (12 : Int32)) hx hb dX2_begins_3 (by decide) ?_
      refine lv_icmp_ge (tgt := 35) hx hb dX2_begins_5 (by decide) (fun c => ?_) (fun c => ?_)
      · have hf := if_p c hf
        exact hJ35 V _ _ ls hs0 hf I (lv_sub hl [0] rfl)
      · have hf := if_n c hf
        refine lv_aload_n hx hb dX2_begins_8 rfl (lv_at hl 0 rfl) ?_
        refine w6_get F I (so_ob hs0) rfl in_X2 6 (by decide) q93 rfl rfl dX2_begins_9 ?_
        refine lv_iload_n hx hb dX2_begins_12 rfl (lv_at hl 1 rfl) ?_
        refine lv_iconst (v := (0 : Int32)) hx hb dX2_begins_13 (by decide) ?_
        obtain ⟨g25, hf⟩ := gd_e hf
        obtain ⟨V26, eV26, hf⟩ := lt_e hf
        refine w6_zast (j := a1.toNatClampNeg) xsh_lc F I (s_az hs0 7 12 (by decide) rfl) g25 rfl rfl dX2_begins_14 eV26 (fun H locs I => ?_)
        refine lv_aload_n hx hb dX2_begins_15 rfl (lv_at hl 0 rfl) ?_
        refine w6_get F I (so_ob hs0) rfl in_X2 7 (by decide) q94 rfl rfl dX2_begins_16 ?_
        refine lv_iload_n hx hb dX2_begins_19 rfl (lv_at hl 1 rfl) ?_
        refine lv_iconst (v := (0 : Int32)) hx hb dX2_begins_20 (by decide) ?_
        obtain ⟨g27, hf⟩ := gd_e hf
        obtain ⟨V28, eV28, hf⟩ := lt_e hf
        refine w6_zast (j := a1.toNatClampNeg) xsh_lc F I (s_az hs0 8 12 (by decide) rfl) g27 rfl rfl dX2_begins_21 eV28 (fun H locs I => ?_)
        refine lv_aload_n hx hb dX2_begins_22 rfl (lv_at hl 0 rfl) ?_
        refine w6_get F I (so_ob hs0) rfl in_X2 2 (by decide) q86 rfl rfl dX2_begins_23 ?_
        refine lv_iload_n hx hb dX2_begins_26 rfl (lv_at hl 1 rfl) ?_
        refine lv_iconst (v := (-1 : Int32)) hx hb dX2_begins_27 (by decide) ?_
        obtain ⟨g29, hf⟩ := gd_e hf
        obtain ⟨V30, eV30, hf⟩ := lt_e hf
        refine w6_iast (j := a1.toNatClampNeg) xsh_lc F I (s_ar hs0 3 12 (by decide) rfl) g29 rfl dX2_begins_28 eV30 (fun H locs I => ?_)
        obtain ⟨v31, ev31, hf⟩ := lt_e hf
        refine lv_iinc (v := v31) (lv' := [(1, .int v31), (0, .ref (ad k))]) hx hb dX2_begins_29 hl (k := 1) rfl (by rw [ev31]; rfl) (by decide) rfl (fun ls hl => ?_)
        refine lv_goto (tgt := 2) hx hb dX2_begins_32 (by decide) ?_
        exact ih2 V30 v31 _ _ ls hs0 hf I (lv_sub hl [1, 0] rfl)
  unfold d_begins at hf
  refine lv_iconst (v := (0 : Int32)) hx hb dX2_begins_0 (by decide) ?_
  refine lv_istore_n (lv' := [(1, .int (0 : Int32)), (0, .ref (ad k))]) hx hb dX2_begins_1 rfl hl (by decide) rfl (fun ls hl => ?_)
  exact hL2 200 V (0 : Int32) _ _ ls hk hf I (lv_sub hl [1, 0] rfl)
def d_overlaps_j61 (rec2 : Mm → Int32 → Option (Int32 × Mm)) (k : Nat) (p1 : Int32) (V : Mm)  (a2 : Int32) : Option (Int32 × Mm) :=
  lt_ (a2 + (1 : Int32)) fun v11 => rec2 V v11
def d_overlaps_j25 (rec2 : Mm → Int32 → Option (Int32 × Mm)) (k : Nat) (p1 : Int32) (V : Mm)  (a2 : Int32) : Option (Int32 × Mm) :=
  if (3 : Int32) ≤ a2 then (gd_ (ix_ a2 7) (gd_ (ix_ (zsg 4 a2.toNatClampNeg) 6) (gd_ (ix_ a2 7) (gd_ (ix_ (zsg 5 a2.toNatClampNeg) 6) (if (V.1 (k + 5) ((zsg 4 a2.toNatClampNeg).toNatClampNeg)) < (V.1 (k + 5) ((zsg 5 a2.toNatClampNeg).toNatClampNeg)) then (d_overlaps_j61 rec2 k p1 V a2) else (some (a2, V))))))) else (gd_ (ix_ a2 7) (gd_ (ix_ (zsg 4 a2.toNatClampNeg) 6) (gd_ (ix_ a2 7) (gd_ (ix_ (zsg 5 a2.toNatClampNeg) 6) (if (V.1 (k + 6) ((zsg 4 a2.toNatClampNeg).toNatClampNeg)) < (V.1 (k + 6) ((zsg 5 a2.toNatClampNeg).toNatClampNeg)) then (d_overlaps_j61 rec2 k p1 V a2) else (some (a2, V)))))))
def d_overlaps_l2 (k : Nat) (p1 : Int32) : Nat → Mm → Int32 → Option (Int32 × Mm)
  | 0, _, _ => none
  | n2 + 1, V, a2 =>
  if (7 : Int32) ≤ a2 then (some ((-1 : Int32), V)) else (if p1 = (0 : Int32) then (d_overlaps_j25 (d_overlaps_l2 k p1 n2) k p1 V a2) else (gd_ (ix_ a2 7) (if (zsg 5 a2.toNatClampNeg) = (0 : Int32) then (d_overlaps_j61 (d_overlaps_l2 k p1 n2) k p1 V a2) else (d_overlaps_j25 (d_overlaps_l2 k p1 n2) k p1 V a2))))
def d_overlaps (k : Nat) (V : Mm) (p1 : Int32) : Option (Int32 × Mm) :=
  d_overlaps_l2 k p1 200 V (0 : Int32)
theorem hdX2_overlaps : w6_hd yX2_overlaps 1 := by decide +kernel
abbrev rmX2_overlaps : Room := { frames := 0, cells := 0, slots := 0, locals := 0 }
set_option maxHeartbeats 4000000 in
set_option maxRecDepth 100000 in
theorem ctd_overlaps (l : Launch) (D : va_G) (g : Nat → ClassId) (ad : Nat → Nat) (k : Nat) (V : Mm) (p1 : Int32) (r : Int32) (V' : Mm) (hf : d_overlaps k V p1 = some (r, V')) (hk : isSide k) : CTi l D g yX2_overlaps cX2_overlaps 4 .int rmX2_overlaps [.ref (ad k), .int p1] (xw g ad V) (xw g ad V') r := by
  intro sz
  refine w6_starti RX2 (by decide) (Nat.le_of_ble_eq_true rfl) rfl ?_
  intro p e s m below meth c A ls Q hx hb hown hts F I hl hret
  have hl : lv_has ls 4 [(0, .ref (ad k)), (1, .int p1)] := hl
  have hL2 : ∀ (n2 : Nat) (V : Mm) (a2 : Int32) (H : Heap) (locs : List Loc) (ls : Array Slot) (hs0 : isSide k), d_overlaps_l2 k p1 n2 V a2 = some (r, V') → w6_I D (xw g ad V ++ []) A s H locs → lv_has ls 4 [(0, .ref (ad k)), (1, .int p1), (2, .int a2)] → W p l e rmX2_overlaps s m ([.ref (ad k), .int p1] : List Value).toArray below meth c H locs 0 0 Q (F0 m 2 ls []) := by
    intro n2
    induction n2 with
    | zero =>
      intro V a2 H locs ls hs0 hf
      rw [d_overlaps_l2] at hf
      cases hf
    | succ n2 ih2 =>
      have hJ61 : ∀ (V : Mm) (a2 : Int32) (H : Heap) (locs : List Loc) (ls : Array Slot) (hs0 : isSide k), d_overlaps_j61 (d_overlaps_l2 k p1 n2) k p1 V a2 = some (r, V') → w6_I D (xw g ad V ++ []) A s H locs → lv_has ls 4 [(0, .ref (ad k)), (1, .int p1), (2, .int a2)] → W p l e rmX2_overlaps s m ([.ref (ad k), .int p1] : List Value).toArray below meth c H locs 0 0 Q (F0 m 61 ls []) := by
        intro V a2 H locs ls hs0 hf I hl
        unfold d_overlaps_j61 at hf
        obtain ⟨v11, ev11, hf⟩ := lt_e hf
        refine lv_iinc (v := v11) (lv' := [(2, .int v11), (0, .ref (ad k)), (1, .int p1)]) hx hb dX2_overlaps_61 hl (k := 2) rfl (by rw [ev11]; rfl) (by decide) rfl (fun ls hl => ?_)
        refine lv_goto (tgt := 2) hx hb dX2_overlaps_64 (by decide) ?_
        exact ih2 V v11 _ _ ls hs0 hf I (lv_sub hl [1, 2, 0] rfl)
      have hJ25 : ∀ (V : Mm) (a2 : Int32) (H : Heap) (locs : List Loc) (ls : Array Slot) (hs0 : isSide k), d_overlaps_j25 (d_overlaps_l2 k p1 n2) k p1 V a2 = some (r, V') → w6_I D (xw g ad V ++ []) A s H locs → lv_has ls 4 [(0, .ref (ad k)), (1, .int p1), (2, .int a2)] → W p l e rmX2_overlaps s m ([.ref (ad k), .int p1] : List Value).toArray below meth c H locs 0 0 Q (F0 m 25 ls []) := by
        intro V a2 H locs ls hs0 hf I hl
        unfold d_overlaps_j25 at hf
        refine lv_iload_n hx hb dX2_overlaps_25 rfl (lv_at hl 2 rfl) ?_
        refine lv_iconst (v := (3 : Int32)) hx hb dX2_overlaps_26 (by decide) ?_
        refine lv_icmp_ge (tgt := 37) hx hb dX2_overlaps_27 (by decide) (fun c => ?_) (fun c => ?_)
        · have hf := if_p c hf
          refine lv_aload_n hx hb dX2_overlaps_37 rfl (lv_at hl 0 rfl) ?_
          refine w6_get F I (so_ob hs0) rfl in_X2 4 (by decide) q89 rfl rfl dX2_overlaps_38 ?_
          refine lv_astore_n (lv' := [(3, .ref (ad (k + 5))), (0, .ref (ad k)), (1, .int p1), (2, .int a2)]) hx hb dX2_overlaps_41 rfl hl (by decide) rfl (fun ls hl => ?_)
          refine lv_aload_n hx hb dX2_overlaps_42 rfl (lv_at hl 0 rfl) ?_
          refine w6_getsN 4 (by decide) F I (List.mem_of_getElem? (i := 16) rfl) dX2_overlaps_43 (fun t3 h4 => ?_)
          refine lv_iload_n hx hb dX2_overlaps_46 rfl (lv_at hl 3 rfl) ?_
          obtain ⟨g5, hf⟩ := gd_e hf
          refine w6_tld (j := a2.toNatClampNeg) F I h4 g5 rfl dX2_overlaps_47 ?_
          obtain ⟨g6, hf⟩ := gd_e hf
          refine w6_iald (j := (zsg 4 a2.toNatClampNeg).toNatClampNeg) F I (s_ar hs0 5 6 (by decide) rfl) g6 rfl dX2_overlaps_48 ?_
          refine lv_aload_n hx hb dX2_overlaps_49 rfl (lv_at hl 0 rfl) ?_
          refine w6_getsN 5 (by decide) F I (List.mem_of_getElem? (i := 17) rfl) dX2_overlaps_50 (fun t7 h8 => ?_)
          refine lv_iload_n hx hb dX2_overlaps_53 rfl (lv_at hl 3 rfl) ?_
          obtain ⟨g9, hf⟩ := gd_e hf
          refine w6_tld (j := a2.toNatClampNeg) F I h8 g9 rfl dX2_overlaps_54 ?_
          obtain ⟨g10, hf⟩ := gd_e hf
          refine w6_iald (j := (zsg 5 a2.toNatClampNeg).toNatClampNeg) F I (s_ar hs0 5 6 (by decide) rfl) g10 rfl dX2_overlaps_55 ?_
          refine lv_icmp_lt (tgt := 61) hx hb dX2_overlaps_56 (by decide) (fun c => ?_) (fun c => ?_)
          · have hf := if_p c hf
            exact hJ61 V a2 _ _ ls hs0 hf I (lv_sub hl [1, 2, 3] rfl)
          · have hf := if_n c hf
            refine lv_iload_n hx hb dX2_overlaps_59 rfl (lv_at hl 3 rfl) ?_
            exact hret _ _ _ _ _ dX2_overlaps_60 (w6_mv (so_e hf).2 I) (so_e hf).1 rfl
        · have hf := if_n c hf
          refine lv_aload_n hx hb dX2_overlaps_30 rfl (lv_at hl 0 rfl) ?_
          refine w6_get F I (so_ob hs0) rfl in_X2 5 (by decide) q91 rfl rfl dX2_overlaps_31 ?_
          refine lv_goto (tgt := 41) hx hb dX2_overlaps_34 (by decide) ?_
          refine lv_astore_n (lv' := [(3, .ref (ad (k + 6))), (0, .ref (ad k)), (1, .int p1), (2, .int a2)]) hx hb dX2_overlaps_41 rfl hl (by decide) rfl (fun ls hl => ?_)
          refine lv_aload_n hx hb dX2_overlaps_42 rfl (lv_at hl 0 rfl) ?_
          refine w6_getsN 4 (by decide) F I (List.mem_of_getElem? (i := 16) rfl) dX2_overlaps_43 (fun t12 h13 => ?_)
          refine lv_iload_n hx hb dX2_overlaps_46 rfl (lv_at hl 3 rfl) ?_
          obtain ⟨g14, hf⟩ := gd_e hf
          refine w6_tld (j := a2.toNatClampNeg) F I h13 g14 rfl dX2_overlaps_47 ?_
          obtain ⟨g15, hf⟩ := gd_e hf
          refine w6_iald (j := (zsg 4 a2.toNatClampNeg).toNatClampNeg) F I (s_ar hs0 6 6 (by decide) rfl) g15 rfl dX2_overlaps_48 ?_
          refine lv_aload_n hx hb dX2_overlaps_49 rfl (lv_at hl 0 rfl) ?_
          refine w6_getsN 5 (by decide) F I (List.mem_of_getElem? (i := 17) rfl) dX2_overlaps_50 (fun t16 h17 => ?_)
          refine lv_iload_n hx hb dX2_overlaps_53 rfl (lv_at hl 3 rfl) ?_
          obtain ⟨g18, hf⟩ := gd_e hf
          refine w6_tld (j := a2.toNatClampNeg) F I h17 g18 rfl dX2_overlaps_54 ?_
          obtain ⟨g19, hf⟩ := gd_e hf
          refine w6_iald (j := (zsg 5 a2.toNatClampNeg).toNatClampNeg) F I (s_ar hs0 6 6 (by decide) rfl) g19 rfl dX2_overlaps_55 ?_
          refine lv_icmp_lt (tgt := 61) hx hb dX2_overlaps_56 (by decide) (fun c => ?_) (fun c => ?_)
          · have hf := if_p c hf
            exact hJ61 V a2 _ _ ls hs0 hf I (lv_sub hl [1, 2, 3] rfl)
          · have hf := if_n c hf
            refine lv_iload_n hx hb dX2_overlaps_59 rfl (lv_at hl 3 rfl) ?_
            exact hret _ _ _ _ _ dX2_overlaps_60 (w6_mv (so_e hf).2 I) (so_e hf).1 rfl
      intro V a2 H locs ls hs0 hf I hl
      rw [d_overlaps_l2] at hf
      refine lv_iload_n hx hb dX2_overlaps_2 rfl (lv_at hl 2 rfl) ?_
      refine w6_getsN 4 (by decide) F I (List.mem_of_getElem? (i := 16) rfl) dX2_overlaps_3 (fun t1 h2 => ?_)
      refine w6_tlen (v := (7 : Int32)) F I h2 rfl dX2_overlaps_6 ?_
      refine lv_icmp_ge (tgt := 67) hx hb dX2_overlaps_7 (by decide) (fun c => ?_) (fun c => ?_)
      · have hf := if_p c hf
        refine lv_iconst (v := (-1 : Int32)) hx hb dX2_overlaps_67 (by decide) ?_
        exact hret _ _ _ _ _ dX2_overlaps_68 (w6_mv (so_e hf).2 I) (so_e hf).1 rfl
      · have hf := if_n c hf
        refine lv_iload_n hx hb dX2_overlaps_10 rfl (lv_at hl 1 rfl) ?_
        refine lv_if_eq (tgt := 25) hx hb dX2_overlaps_11 (by decide) (fun c => ?_) (fun c => ?_)
        · have hf := if_p c hf
          exact hJ25 V a2 _ _ ls hs0 hf I (lv_sub hl [0, 1, 2] rfl)
        · have hf := if_n c hf
          refine w6_getsN 5 (by decide) F I (List.mem_of_getElem? (i := 17) rfl) dX2_overlaps_14 (fun t20 h21 => ?_)
          refine lv_iload_n hx hb dX2_overlaps_17 rfl (lv_at hl 2 rfl) ?_
          obtain ⟨g22, hf⟩ := gd_e hf
          refine w6_tld (j := a2.toNatClampNeg) F I h21 g22 rfl dX2_overlaps_18 ?_
          refine lv_if_ne (tgt := 25) hx hb dX2_overlaps_19 (by decide) (fun c => ?_) (fun c => ?_)
          · have hf := if_n c hf
            exact hJ25 V a2 _ _ ls hs0 hf I (lv_sub hl [0, 1, 2] rfl)
          · have hf := if_p c hf
            refine lv_goto (tgt := 61) hx hb dX2_overlaps_22 (by decide) ?_
            exact hJ61 V a2 _ _ ls hs0 hf I (lv_sub hl [0, 1, 2] rfl)
  unfold d_overlaps at hf
  refine lv_iconst (v := (0 : Int32)) hx hb dX2_overlaps_0 (by decide) ?_
  refine lv_istore_n (lv' := [(2, .int (0 : Int32)), (0, .ref (ad k)), (1, .int p1)]) hx hb dX2_overlaps_1 rfl hl (by decide) rfl (fun ls hl => ?_)
  exact hL2 200 V (0 : Int32) _ _ ls hk hf I (lv_sub hl [1, 2, 0] rfl)
