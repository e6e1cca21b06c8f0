/-! the text of signs, lineUp: printed by gen/mk.py: each method as a function over the memory, and its contract -/
set_option maxRecDepth 100000
def pj_isLatin1  : Int32 :=
  (1 : Int32)
theorem hdJ2_isLatin1 : w6_hd yJ2_isLatin1 0 := by decide +kernel
abbrev rmJ2_isLatin1 : Room := { frames := 0, cells := 0, slots := 0, locals := 0 }
set_option maxHeartbeats 4000000 in
set_option maxRecDepth 100000 in
theorem ctpj_isLatin1 (l : Launch) (D : va_G) (g : Nat → ClassId)  (r : Int32) (hf : pj_isLatin1  = r) : CTi l D g yJ2_isLatin1 cJ2_isLatin1 1 .boolean rmJ2_isLatin1 [.ref (g 7)] [] [] r := by
  intro sz
  refine w6_starti RJ2 (by decide) (Nat.le_of_ble_eq_true rfl) rfl ?_
  intro p e s m below meth c A ls Q hx hb hown hts F I hl hret
  have hl : lv_has ls 1 [(0, .ref (g 7))] := hl
  unfold pj_isLatin1 at hf
  refine va_gets hx hb F.2.2.1.2.1.2.1 I.2.2 hown (hts _ q493) (fun _ h => h) dJ2_isLatin1_0 ?_
  refine lv_if_eq (tgt := 17) hx hb dJ2_isLatin1_3 (by decide) (fun c => absurd c (by decide)) (fun _ => ?_)
  refine lv_aload_n hx hb dJ2_isLatin1_6 rfl (lv_at hl 0 rfl) ?_
  refine vk_getf hx hb (w6_strC F) I.2.2 hown (hts _ q1066) (fun _ h => h) dJ2_isLatin1_7 ?_
  refine lv_if_ne (tgt := 17) hx hb dJ2_isLatin1_10 (by decide) (fun c => absurd c (by decide)) (fun _ => ?_)
  refine lv_iconst (v := (1 : Int32)) hx hb dJ2_isLatin1_13 (by decide) ?_
  refine lv_goto (tgt := 18) hx hb dJ2_isLatin1_14 (by decide) ?_
  exact hret _ _ _ _ _ dJ2_isLatin1_18 I hf rfl
def pj_coder  : Int32 :=
  (0 : Int32)
theorem hdJ2_coder : w6_hd yJ2_coder 0 := by decide +kernel
abbrev rmJ2_coder : Room := { frames := 0, cells := 0, slots := 0, locals := 0 }
set_option maxHeartbeats 4000000 in
set_option maxRecDepth 100000 in
theorem ctpj_coder (l : Launch) (D : va_G) (g : Nat → ClassId)  (r : Int32) (hf : pj_coder  = r) : CTi l D g yJ2_coder cJ2_coder 1 .byte rmJ2_coder [.ref (g 7)] [] [] r := by
  intro sz
  refine w6_starti RJ2 (by decide) (Nat.le_of_ble_eq_true rfl) rfl ?_
  intro p e s m below meth c A ls Q hx hb hown hts F I hl hret
  have hl : lv_has ls 1 [(0, .ref (g 7))] := hl
  unfold pj_coder at hf
  refine va_gets hx hb F.2.2.1.2.1.2.1 I.2.2 hown (hts _ q493) (fun _ h => h) dJ2_coder_0 ?_
  refine lv_if_eq (tgt := 13) hx hb dJ2_coder_3 (by decide) (fun c => absurd c (by decide)) (fun _ => ?_)
  refine lv_aload_n hx hb dJ2_coder_6 rfl (lv_at hl 0 rfl) ?_
  refine vk_getf hx hb (w6_strC F) I.2.2 hown (hts _ q1066) (fun _ h => h) dJ2_coder_7 ?_
  refine lv_goto (tgt := 14) hx hb dJ2_coder_10 (by decide) ?_
  exact hret _ _ _ _ _ dJ2_coder_14 I hf rfl
def pj_length  : Int32 :=
  ((12 : Int32) >>> ((0 : Int32) &&& 31))
theorem hdJ2_length : w6_hd yJ2_length 0 := by decide +kernel
abbrev rmJ2_length : Room := { frames := 1, cells := 0, slots := 0, locals := 20 }
set_option maxHeartbeats 4000000 in
set_option maxRecDepth 100000 in
theorem ctpj_length (l : Launch) (D : va_G) (g : Nat → ClassId)  (r : Int32) (hf : pj_length  = r) : CTi l D g yJ2_length cJ2_length 1 .int rmJ2_length [.ref (g 7)] [] [] r := by
  intro sz
  refine w6_starti RJ2 (by decide) (Nat.le_of_ble_eq_true rfl) rfl ?_
  intro p e s m below meth c A ls Q hx hb hown hts F I hl hret
  have hl : lv_has ls 1 [(0, .ref (g 7))] := hl
  unfold pj_length at hf
  refine lv_aload_n hx hb dJ2_length_0 rfl (lv_at hl 0 rfl) ?_
  refine vk_getf hx hb (w6_strV F) I.2.2 hown (hts _ q1067) (fun _ h => h) dJ2_length_1 ?_
  refine va_tlen (v := (12 : Int32)) hx hb (w6_strB F) I.2.2 rfl dJ2_length_4 ?_
  refine lv_aload_n hx hb dJ2_length_5 rfl (lv_at hl 0 rfl) ?_
  refine xz_PVi F I (ctpj_coder l D g (0 : Int32) rfl) (lw_V q499 q500 q501 q57 q502) hdJ2_coder rfl (Nat.le_of_ble_eq_true rfl) (Nat.le_of_ble_eq_true rfl) (w6_strR F I) rfl hl.1 [.int (12 : Int32)] rfl (Nat.le_of_ble_eq_true rfl) dJ2_length_6 ⟨Nat.le_of_ble_eq_true rfl, Nat.le_of_ble_eq_true rfl⟩ (fun H locs I => ?_)
  refine lv_ishr hx hb dJ2_length_9 ?_
  exact hret _ _ _ _ _ dJ2_length_10 I hf rfl
def pl_canEncode (p1 : Int32) : Int32 :=
  if p1 < (0 : Int32) then ((0 : Int32)) else (if (255 : Int32) < p1 then ((0 : Int32)) else ((1 : Int32)))
theorem hdJ3_canEncode : w6_hd yJ3_canEncode 1 := by decide +kernel
abbrev rmJ3_canEncode : Room := { frames := 0, cells := 0, slots := 0, locals := 0 }
set_option maxHeartbeats 4000000 in
set_option maxRecDepth 100000 in
theorem ctpl_canEncode (l : Launch) (D : va_G) (g : Nat → ClassId) (p1 : Int32) (r : Int32) (hf : pl_canEncode p1 = r) : CTi l D g yJ3_canEncode cJ3_canEncode 1 .boolean rmJ3_canEncode [.int p1] [] [] r := by
  intro sz
  refine w6_starti RJ3 (by decide) (Nat.le_of_ble_eq_true rfl) rfl ?_
  intro p e s m below meth c A ls Q hx hb hown hts F I hl hret
  have hl : lv_has ls 1 [(0, .int p1)] := hl
  unfold pl_canEncode at hf
  refine lv_iload_n hx hb dJ3_canEncode_0 rfl (lv_at hl 0 rfl) ?_
  refine lv_if_lt (tgt := 15) hx hb dJ3_canEncode_1 (by decide) (fun c => ?_) (fun c => ?_)
  · have hf := if_p c hf
    refine lv_iconst (v := (0 : Int32)) hx hb dJ3_canEncode_15 (by decide) ?_
    exact hret _ _ _ _ _ dJ3_canEncode_16 I hf rfl
  · have hf := if_n c hf
    refine lv_iload_n hx hb dJ3_canEncode_4 rfl (lv_at hl 0 rfl) ?_
    refine lv_sipush (v := (255 : Int32)) hx hb dJ3_canEncode_5 (by decide) ?_
    refine lv_icmp_gt (tgt := 15) hx hb dJ3_canEncode_8 (by decide) (fun c => ?_) (fun c => ?_)
    · have hf := if_p c hf
      refine lv_iconst (v := (0 : Int32)) hx hb dJ3_canEncode_15 (by decide) ?_
      exact hret _ _ _ _ _ dJ3_canEncode_16 I hf rfl
    · have hf := if_n c hf
      refine lv_iconst (v := (1 : Int32)) hx hb dJ3_canEncode_11 (by decide) ?_
      refine lv_goto (tgt := 16) hx hb dJ3_canEncode_12 (by decide) ?_
      exact hret _ _ _ _ _ dJ3_canEncode_16 I hf rfl
def l_indexOfChar_l7 (p2 : Int32) (p3 : Int32) (p4 : Int32) : Nat → Int32 → Int32 → Option Int32
  | 0, _, _ => none
  | n7 + 1, a4, a5 =>
  if p4 ≤ a5 then (some (-1 : Int32)) else (gd_ (ix_ a5 12) (if (zsWho.getD a5.toNatClampNeg 0) = a4 then (some a5) else (lt_ (a5 + (1 : Int32)) fun v3 => l_indexOfChar_l7 p2 p3 p4 n7 a4 v3)))
def l_indexOfChar (p2 : Int32) (p3 : Int32) (p4 : Int32) : Option Int32 :=
  lt_ ((p2.toInt8.toInt32)) fun v1 => l_indexOfChar_l7 p2 p3 p4 200 v1 p3
theorem hdJ3_indexOfChar : w6_hd yJ3_indexOfChar 4 := by decide +kernel
abbrev rmJ3_indexOfChar : Room := { frames := 0, cells := 0, slots := 0, locals := 0 }
set_option maxHeartbeats 4000000 in
set_option maxRecDepth 100000 in
theorem ctl_indexOfChar (l : Launch) (D : va_G) (g : Nat → ClassId) (p2 : Int32) (p3 : Int32) (p4 : Int32) (r : Int32) (hf : l_indexOfChar p2 p3 p4 = some r) : CTi l D g yJ3_indexOfChar cJ3_indexOfChar 6 .int rmJ3_indexOfChar [.ref (g 8), .int p2, .int p3, .int p4] [] [] r := by
  intro sz
  refine w6_starti RJ3 (by decide) (Nat.le_of_ble_eq_true rfl) rfl ?_
  intro p e s m below meth c A ls Q hx hb hown hts F I hl hret
  have hl : lv_has ls 6 [(0, .ref (g 8)), (1, .int p2), (2, .int p3), (3, .int p4)] := hl
  have hL7 : ∀ (n7 : Nat) (a4 : Int32) (a5 : Int32) (H : Heap) (locs : List Loc) (ls : Array Slot), l_indexOfChar_l7 p2 p3 p4 n7 a4 a5 = some r → w6_I D ([] ++ []) A s H locs → lv_has ls 6 [(0, .ref (g 8)), (3, .int p4), (4, .int a4), (5, .int a5)] → W p l e rmJ3_indexOfChar s m ([.ref (g 8), .int p2, .int p3, .int p4] : List Value).toArray below meth c H locs 0 0 Q (F0 m 7 ls []) := by
    intro n7
    induction n7 with
    | zero =>
      intro a4 a5 H locs ls hf
      rw [l_indexOfChar_l7] at hf
      cases hf
    | succ n7 ih7 =>
      intro a4 a5 H locs ls hf I hl
      rw [l_indexOfChar_l7] at hf
      refine lv_iload hx hb dJ3_indexOfChar_7 (lv_at hl 3 rfl) ?_
      refine lv_iload_n hx hb dJ3_indexOfChar_9 rfl (lv_at hl 1 rfl) ?_
      refine lv_icmp_ge (tgt := 31) hx hb dJ3_indexOfChar_10 (by decide) (fun c => ?_) (fun c => ?_)
      · have hf := if_p c hf
        refine lv_iconst (v := (-1 : Int32)) hx hb dJ3_indexOfChar_31 (by decide) ?_
        exact hret _ _ _ _ _ dJ3_indexOfChar_32 I (Option.some.inj hf) rfl
      · have hf := if_n c hf
        refine lv_aload_n hx hb dJ3_indexOfChar_13 rfl (lv_at hl 0 rfl) ?_
        refine lv_iload hx hb dJ3_indexOfChar_14 (lv_at hl 3 rfl) ?_
        obtain ⟨g2, hf⟩ := gd_e hf
        refine w6_bld (j := a5.toNatClampNeg) F I g2 rfl dJ3_indexOfChar_16 ?_
        refine lv_iload hx hb dJ3_indexOfChar_17 (lv_at hl 2 rfl) ?_
        refine lv_icmp_ne (tgt := 25) hx hb dJ3_indexOfChar_19 (by decide) (fun c => ?_) (fun c => ?_)
        · have hf := if_n c hf
          obtain ⟨v3, ev3, hf⟩ := lt_e hf
          refine lv_iinc (v := v3) (lv' := [(5, .int v3), (0, .ref (g 8)), (3, .int p4), (4, .int a4)]) hx hb dJ3_indexOfChar_25 hl (k := 3) rfl (by rw [ev3]; rfl) (by decide) rfl (fun ls hl => ?_)
          refine lv_goto (tgt := 7) hx hb dJ3_indexOfChar_28 (by decide) ?_
          exact ih7 a4 v3 _ _ ls hf I (lv_sub hl [1, 2, 3, 0] rfl)
        · have hf := if_p c hf
          refine lv_iload hx hb dJ3_indexOfChar_22 (lv_at hl 3 rfl) ?_
          exact hret _ _ _ _ _ dJ3_indexOfChar_24 I (Option.some.inj hf) rfl
  unfold l_indexOfChar at hf
  refine lv_iload_n hx hb dJ3_indexOfChar_0 rfl (lv_at hl 1 rfl) ?_
  refine lv_i2b (v := (p2.toInt8.toInt32)) hx hb dJ3_indexOfChar_1 rfl ?_
  obtain ⟨v1, ev1, hf⟩ := lt_e hf
  refine w6_nmi ev1 ?_
  refine lv_istore (lv' := [(4, .int v1), (0, .ref (g 8)), (1, .int p2), (2, .int p3), (3, .int p4)]) hx hb dJ3_indexOfChar_2 hl (by decide) rfl (fun ls hl => ?_)
  refine lv_iload_n hx hb dJ3_indexOfChar_4 rfl (lv_at hl 3 rfl) ?_
  refine lv_istore (lv' := [(5, .int p3), (4, .int v1), (0, .ref (g 8)), (1, .int p2), (2, .int p3), (3, .int p4)]) hx hb dJ3_indexOfChar_5 hl (by decide) rfl (fun ls hl => ?_)
  exact hL7 200 v1 p3 _ _ ls hf I (lv_sub hl [2, 5, 1, 0] rfl)
def l_indexOf (p2 : Int32) (p3 : Int32) (p4 : Int32) : Option Int32 :=
  if (pl_canEncode p2) = (0 : Int32) then (some (-1 : Int32)) else (lt_ ((if p3 < (0 : Int32) then (0 : Int32) else p3)) fun v1 => lt_ ((if (12 : Int32) < p4 then (12 : Int32) else p4)) fun v2 => if v1 < v2 then ((l_indexOfChar p2 v1 v2).bind fun r4 => some r4) else (some (-1 : Int32)))
theorem hdJ3_indexOf : w6_hd yJ3_indexOf 4 := by decide +kernel
abbrev rmJ3_indexOf : Room := { frames := 1, cells := 0, slots := 0, locals := 25 }
set_option maxHeartbeats 4000000 in
set_option maxRecDepth 100000 in
theorem ctl_indexOf (l : Launch) (D : va_G) (g : Nat → ClassId) (p2 : Int32) (p3 : Int32) (p4 : Int32) (r : Int32) (hf : l_indexOf p2 p3 p4 = some r) : CTi l D g yJ3_indexOf cJ3_indexOf 4 .int rmJ3_indexOf [.ref (g 8), .int p2, .int p3, .int p4] [] [] r := by
  intro sz
  refine w6_starti RJ3 (by decide) (Nat.le_of_ble_eq_true rfl) rfl ?_
  intro p e s m below meth c A ls Q hx hb hown hts F I hl hret
  have hl : lv_has ls 4 [(0, .ref (g 8)), (1, .int p2), (2, .int p3), (3, .int p4)] := hl
  unfold l_indexOf at hf
  refine lv_iload_n hx hb dJ3_indexOf_0 rfl (lv_at hl 1 rfl) ?_
  refine xz_Pi F I (ctpl_canEncode l D g p2 _ rfl) (lw_S q506 q507 q58 q508) hdJ3_canEncode (Nat.le_of_ble_eq_true rfl) (Nat.le_of_ble_eq_true rfl) rfl hl.1 [] rfl (Nat.le_of_ble_eq_true rfl) dJ3_indexOf_1 ⟨Nat.le_of_ble_eq_true rfl, Nat.le_of_ble_eq_true rfl⟩ (fun H locs I => ?_)
  refine lv_if_ne (tgt := 9) hx hb dJ3_indexOf_4 (by decide) (fun c => ?_) (fun c => ?_)
  · have hf := if_n c hf
    refine lv_iload_n hx hb dJ3_indexOf_9 rfl (lv_at hl 2 rfl) ?_
    refine lv_iconst (v := (0 : Int32)) hx hb dJ3_indexOf_10 (by decide) ?_
    refine va_mmax hx hb (by rw [F.1.2.2.1]; exact hl.1.symm) hown (hts _ q509) (hts _ q510) (hts _ q52) (hts _ q511) (Nat.le_of_ble_eq_true rfl) (Nat.le_of_ble_eq_true rfl) (Nat.le_of_ble_eq_true rfl) (Nat.le_of_ble_eq_true rfl) dJ3_indexOf_11 ?_
    obtain ⟨v1, ev1, hf⟩ := lt_e hf
    refine w6_nmi ev1 ?_
    refine lv_istore_n (lv' := [(2, .int v1), (0, .ref (g 8)), (1, .int p2), (3, .int p4)]) hx hb dJ3_indexOf_14 rfl hl (by decide) rfl (fun ls hl => ?_)
    refine lv_iload_n hx hb dJ3_indexOf_15 rfl (lv_at hl 3 rfl) ?_
    refine lv_aload_n hx hb dJ3_indexOf_16 rfl (lv_at hl 1 rfl) ?_
    refine va_tlen (v := (12 : Int32)) hx hb (w6_strB F) I.2.2 rfl dJ3_indexOf_17 ?_
    refine va_mmin hx hb (by rw [F.1.2.2.1]; exact hl.1.symm) hown (hts _ q512) (hts _ q398) (hts _ q52) (hts _ q399) (Nat.le_of_ble_eq_true rfl) (Nat.le_of_ble_eq_true rfl) (Nat.le_of_ble_eq_true rfl) (Nat.le_of_ble_eq_true rfl) dJ3_indexOf_18 ?_
    obtain ⟨v2, ev2, hf⟩ := lt_e hf
    refine w6_nmi ev2 ?_
    refine lv_istore_n (lv' := [(3, .int v2), (2, .int v1), (0, .ref (g 8)), (1, .int p2)]) hx hb dJ3_indexOf_21 rfl hl (by decide) rfl (fun ls hl => ?_)
    refine lv_iload_n hx hb dJ3_indexOf_22 rfl (lv_at hl 1 rfl) ?_
    refine lv_iload_n hx hb dJ3_indexOf_23 rfl (lv_at hl 0 rfl) ?_
    refine lv_icmp_lt (tgt := 29) hx hb dJ3_indexOf_24 (by decide) (fun c => ?_) (fun c => ?_)
    · have hf := if_p c hf
      refine lv_aload_n hx hb dJ3_indexOf_29 rfl (lv_at hl 2 rfl) ?_
      refine lv_iload_n hx hb dJ3_indexOf_30 rfl (lv_at hl 3 rfl) ?_
      refine lv_iload_n hx hb dJ3_indexOf_31 rfl (lv_at hl 1 rfl) ?_
      refine lv_iload_n hx hb dJ3_indexOf_32 rfl (lv_at hl 0 rfl) ?_
      obtain ⟨r4, h3, hf⟩ := bn_e hf
      refine xz_Pi F I (ctl_indexOfChar l D g p2 v1 v2 r4 h3) (lw_S q513 q514 q58 q515) hdJ3_indexOfChar (Nat.le_of_ble_eq_true rfl) (Nat.le_of_ble_eq_true rfl) rfl hl.1 [] rfl (Nat.le_of_ble_eq_true rfl) dJ3_indexOf_33 ⟨Nat.le_of_ble_eq_true rfl, Nat.le_of_ble_eq_true rfl⟩ (fun H locs I => ?_)
      exact hret _ _ _ _ _ dJ3_indexOf_36 I (Option.some.inj hf) rfl
    · have hf := if_n c hf
      refine lv_iconst (v := (-1 : Int32)) hx hb dJ3_indexOf_27 (by decide) ?_
      exact hret _ _ _ _ _ dJ3_indexOf_28 I (Option.some.inj hf) rfl
  · have hf := if_p c hf
    refine lv_iconst (v := (-1 : Int32)) hx hb dJ3_indexOf_7 (by decide) ?_
    exact hret _ _ _ _ _ dJ3_indexOf_8 I (Option.some.inj hf) rfl
def j_indexOf_2 (p1 : Int32) (p2 : Int32) : Option Int32 :=
  (l_indexOf p1 p2 ((12 : Int32) >>> ((0 : Int32) &&& 31))).bind fun r2 => some r2
theorem hdJ2_indexOf_2 : w6_hd yJ2_indexOf_2 2 := by decide +kernel
abbrev rmJ2_indexOf_2 : Room := { frames := 2, cells := 0, slots := 0, locals := 48 }
set_option maxHeartbeats 4000000 in
set_option maxRecDepth 100000 in
theorem ctj_indexOf_2 (l : Launch) (D : va_G) (g : Nat → ClassId) (p1 : Int32) (p2 : Int32) (r : Int32) (hf : j_indexOf_2 p1 p2 = some r) : CTi l D g yJ2_indexOf_2 cJ2_indexOf_2 3 .int rmJ2_indexOf_2 [.ref (g 7), .int p1, .int p2] [] [] r := by
  intro sz
  refine w6_starti RJ2 (by decide) (Nat.le_of_ble_eq_true rfl) rfl ?_
  intro p e s m below meth c A ls Q hx hb hown hts F I hl hret
  have hl : lv_has ls 3 [(0, .ref (g 7)), (1, .int p1), (2, .int p2)] := hl
  unfold j_indexOf_2 at hf
  refine lv_aload_n hx hb dJ2_indexOf_2_0 rfl (lv_at hl 0 rfl) ?_
  refine xz_PVi F I (ctpj_isLatin1 l D g (1 : Int32) rfl) (lw_V q489 q490 q491 q57 q492) hdJ2_isLatin1 rfl (Nat.le_of_ble_eq_true rfl) (Nat.le_of_ble_eq_true rfl) (w6_strR F I) rfl hl.1 [] rfl (Nat.le_of_ble_eq_true rfl) dJ2_indexOf_2_1 ⟨Nat.le_of_ble_eq_true rfl, Nat.le_of_ble_eq_true rfl⟩ (fun H locs I => ?_)
  refine lv_if_eq (tgt := 23) hx hb dJ2_indexOf_2_4 (by decide) (fun c => absurd c (by decide)) (fun _ => ?_)
  refine lv_aload_n hx hb dJ2_indexOf_2_7 rfl (lv_at hl 0 rfl) ?_
  refine vk_getf hx hb (w6_strV F) I.2.2 hown (hts _ q1067) (fun _ h => h) dJ2_indexOf_2_8 ?_
  refine lv_iload_n hx hb dJ2_indexOf_2_11 rfl (lv_at hl 1 rfl) ?_
  refine lv_iload_n hx hb dJ2_indexOf_2_12 rfl (lv_at hl 2 rfl) ?_
  refine lv_aload_n hx hb dJ2_indexOf_2_13 rfl (lv_at hl 0 rfl) ?_
  refine xz_PVi F I (ctpj_length l D g ((12 : Int32) >>> ((0 : Int32) &&& 31)) rfl) (lw_V q495 q496 q497 q57 q498) hdJ2_length rfl (Nat.le_of_ble_eq_true rfl) (Nat.le_of_ble_eq_true rfl) (w6_strR F I) rfl hl.1 [.int p2, .int p1, .ref (g 8)] rfl (Nat.le_of_ble_eq_true rfl) dJ2_indexOf_2_14 ⟨Nat.le_of_ble_eq_true rfl, Nat.le_of_ble_eq_true rfl⟩ (fun H locs I => ?_)
  obtain ⟨r2, h1, hf⟩ := bn_e hf
  refine xz_Pi F I (ctl_indexOf l D g p1 p2 ((12 : Int32) >>> ((0 : Int32) &&& 31)) r2 h1) (lw_S q503 q504 q58 q505) hdJ3_indexOf (Nat.le_of_ble_eq_true rfl) (Nat.le_of_ble_eq_true rfl) rfl hl.1 [] rfl (Nat.le_of_ble_eq_true rfl) dJ2_indexOf_2_17 ⟨Nat.le_of_ble_eq_true rfl, Nat.le_of_ble_eq_true rfl⟩ (fun H locs I => ?_)
  refine lv_goto (tgt := 36) hx hb dJ2_indexOf_2_20 (by decide) ?_
  exact hret _ _ _ _ _ dJ2_indexOf_2_36 I (Option.some.inj hf) rfl
def j_indexOf (p1 : Int32) : Option Int32 :=
  (j_indexOf_2 p1 (0 : Int32)).bind fun r2 => some r2
theorem hdJ2_indexOf : w6_hd yJ2_indexOf 1 := by decide +kernel
abbrev rmJ2_indexOf : Room := { frames := 3, cells := 0, slots := 0, locals := 70 }
set_option maxHeartbeats 4000000 in
set_option maxRecDepth 100000 in
theorem ctj_indexOf (l : Launch) (D : va_G) (g : Nat → ClassId) (p1 : Int32) (r : Int32) (hf : j_indexOf p1 = some r) : CTi l D g yJ2_indexOf cJ2_indexOf 2 .int rmJ2_indexOf [.ref (g 7), .int p1] [] [] r := by
  intro sz
  refine w6_starti RJ2 (by decide) (Nat.le_of_ble_eq_true rfl) rfl ?_
  intro p e s m below meth c A ls Q hx hb hown hts F I hl hret
  have hl : lv_has ls 2 [(0, .ref (g 7)), (1, .int p1)] := hl
  unfold j_indexOf at hf
  refine lv_aload_n hx hb dJ2_indexOf_0 rfl (lv_at hl 0 rfl) ?_
  refine lv_iload_n hx hb dJ2_indexOf_1 rfl (lv_at hl 1 rfl) ?_
  refine lv_iconst (v := (0 : Int32)) hx hb dJ2_indexOf_2 (by decide) ?_
  obtain ⟨r2, h1, hf⟩ := bn_e hf
  refine xz_PVi F I (ctj_indexOf_2 l D g p1 (0 : Int32) r2 h1) (lw_V q485 q486 q487 q57 q488) hdJ2_indexOf_2 rfl (Nat.le_of_ble_eq_true rfl) (Nat.le_of_ble_eq_true rfl) (w6_strR F I) rfl hl.1 [] rfl (Nat.le_of_ble_eq_true rfl) dJ2_indexOf_3 ⟨Nat.le_of_ble_eq_true rfl, Nat.le_of_ble_eq_true rfl⟩ (fun H locs I => ?_)
  exact hret _ _ _ _ _ dJ2_indexOf_6 I (Option.some.inj hf) rfl
def x_player_j41 (V : Mm)  (s0 : Int32) : Option (Int32 × Mm) :=
  if s0 < (0 : Int32) then (lt_ (mset V 0 13 ((V.1 0 13) + (0 : Int32))) fun V1 => some (s0, V1)) else (lt_ (mset V 0 13 ((V.1 0 13) + (1 : Int32))) fun V2 => some (s0, V2))
def x_player_j40 (V : Mm)   : Option (Int32 × Mm) :=
  x_player_j41 V (-1 : Int32)
def x_player (V : Mm) : Option (Int32 × Mm) :=
  if (V.1 0 14) ≤ (V.1 0 13) then (x_player_j40 V) else (gd_ (ix_ (V.1 0 13) 100) (if (V.1 67 ((V.1 0 13).toNatClampNeg)) ≤ (0 : Int32) then (x_player_j40 V) else (gd_ (ix_ (V.1 0 13) 100) ((j_indexOf (V.1 67 ((V.1 0 13).toNatClampNeg))).bind fun r6 => x_player_j41 V r6))))
theorem hdX1_player : w6_hd yX1_player 0 := by decide +kernel
abbrev rmX1_player : Room := { frames := 4, cells := 0, slots := 0, locals := 91 }
set_option maxHeartbeats 4000000 in
set_option maxRecDepth 100000 in
theorem ctx_player (l : Launch) (D : va_G) (g : Nat → ClassId) (ad : Nat → Nat) (V : Mm) (r : Int32) (V' : Mm) (hf : x_player V = some (r, V'))  : CTi l D g yX1_player cX1_player 2 .int rmX1_player [.ref (ad 0)] (xw g ad V) (xw g ad V') r := by
  intro sz
  refine w6_starti RX1 (by decide) (Nat.le_of_ble_eq_true rfl) rfl ?_
  intro p e s m below meth c A ls Q hx hb hown hts F I hl hret
  have hl : lv_has ls 2 [(0, .ref (ad 0))] := hl
  have hJ41 : ∀ (V : Mm) (s0 : Int32) (H : Heap) (locs : List Loc) (ls : Array Slot), x_player_j41 V s0 = some (r, V') → w6_I D (xw g ad V ++ []) A s H locs → lv_has ls 2 [(0, .ref (ad 0))] → W p l e rmX1_player s m ([.ref (ad 0)] : List Value).toArray below meth c H locs 0 0 Q (F0 m 41 ls [.int s0]) := by
    intro V s0 H locs ls hf I hl
    unfold x_player_j41 at hf
    refine lv_istore_n (lv' := [(1, .int s0), (0, .ref (ad 0))]) hx hb dX1_player_41 rfl hl (by decide) rfl (fun ls hl => ?_)
    refine lv_aload_n hx hb dX1_player_42 rfl (lv_at hl 1 rfl) ?_
    refine lv_dup hx hb dX1_player_43 rfl ?_
    refine w6_get F I xo_ob rfl in_X1 13 (by decide) q170 rfl rfl dX1_player_44 ?_
    refine lv_iload_n hx hb dX1_player_47 rfl (lv_at hl 0 rfl) ?_
    refine lv_if_lt (tgt := 55) hx hb dX1_player_48 (by decide) (fun c => ?_) (fun c => ?_)
    · have hf := if_p c hf
      refine lv_iconst (v := (0 : Int32)) hx hb dX1_player_55 (by decide) ?_
      refine lv_iadd hx hb dX1_player_56 ?_
      obtain ⟨V1, eV1, hf⟩ := lt_e hf
      refine w6_put xsh_lc F I xo_ob rfl in_X1 tyX1 tyX1_ok nmX1 13 (by decide) (xo_nf 13 (by decide)) q170 rfl rfl (tyX1_ok 13 (by decide)) rfl rfl dX1_player_57 eV1 (fun H locs I => ?_)
      refine lv_iload_n hx hb dX1_player_60 rfl (lv_at hl 0 rfl) ?_
      exact hret _ _ _ _ _ dX1_player_61 (w6_mv (so_e hf).2 I) (so_e hf).1 rfl
    · have hf := if_n c hf
      refine lv_iconst (v := (1 : Int32)) hx hb dX1_player_51 (by decide) ?_
      refine lv_goto (tgt := 56) hx hb dX1_player_52 (by decide) ?_
      refine lv_iadd hx hb dX1_player_56 ?_
      obtain ⟨V2, eV2, hf⟩ := lt_e hf
      refine w6_put xsh_lc F I xo_ob rfl in_X1 tyX1 tyX1_ok nmX1 13 (by decide) (xo_nf 13 (by decide)) q170 rfl rfl (tyX1_ok 13 (by decide)) rfl rfl dX1_player_57 eV2 (fun H locs I => ?_)
      refine lv_iload_n hx hb dX1_player_60 rfl (lv_at hl 0 rfl) ?_
      exact hret _ _ _ _ _ dX1_player_61 (w6_mv (so_e hf).2 I) (so_e hf).1 rfl
  have hJ40 : ∀ (V : Mm)  (H : Heap) (locs : List Loc) (ls : Array Slot), x_player_j40 V = some (r, V') → w6_I D (xw g ad V ++ []) A s H locs → lv_has ls 2 [(0, .ref (ad 0))] → W p l e rmX1_player s m ([.ref (ad 0)] : List Value).toArray below meth c H locs 0 0 Q (F0 m 40 ls []) := by
    intro V H locs ls hf I hl
    unfold x_player_j40 at hf
    refine lv_iconst (v := (-1 : Int32)) hx hb dX1_player_40 (by decide) ?_
    exact hJ41 V (-1 : Int32) _ _ ls hf I (lv_sub hl [0] rfl)
  unfold x_player at hf
  refine lv_aload_n hx hb dX1_player_0 rfl (lv_at hl 0 rfl) ?_
  refine w6_get F I xo_ob rfl in_X1 13 (by decide) q170 rfl rfl dX1_player_1 ?_
  refine lv_aload_n hx hb dX1_player_4 rfl (lv_at hl 0 rfl) ?_
  refine w6_get F I xo_ob rfl in_X1 14 (by decide) q171 rfl rfl dX1_player_5 ?_
  refine lv_icmp_ge (tgt := 40) hx hb dX1_player_8 (by decide) (fun c => ?_) (fun c => ?_)
  · have hf := if_p c hf
    exact hJ40 V _ _ ls hf I (lv_sub hl [0] rfl)
  · have hf := if_n c hf
    refine lv_aload_n hx hb dX1_player_11 rfl (lv_at hl 0 rfl) ?_
    refine w6_get F I xo_ob rfl in_X1 11 (by decide) q168 rfl rfl dX1_player_12 ?_
    refine lv_aload_n hx hb dX1_player_15 rfl (lv_at hl 0 rfl) ?_
    refine w6_get F I xo_ob rfl in_X1 13 (by decide) q170 rfl rfl dX1_player_16 ?_
    obtain ⟨g3, hf⟩ := gd_e hf
    refine w6_iald (j := (V.1 0 13).toNatClampNeg) F I (x_ar 67 100 (by decide) rfl) g3 rfl dX1_player_19 ?_
    refine lv_if_le (tgt := 40) hx hb dX1_player_20 (by decide) (fun c => ?_) (fun c => ?_)
    · have hf := if_p c hf
      exact hJ40 V _ _ ls hf I (lv_sub hl [0] rfl)
    · have hf := if_n c hf
      refine va_ldcS hx hb hown F.2.2.1.2.2.1 dX1_player_23 ?_
      refine lv_aload_n hx hb dX1_player_25 rfl (lv_at hl 0 rfl) ?_
      refine w6_get F I xo_ob rfl in_X1 11 (by decide) q168 rfl rfl dX1_player_26 ?_
      refine lv_aload_n hx hb dX1_player_29 rfl (lv_at hl 0 rfl) ?_
      refine w6_get F I xo_ob rfl in_X1 13 (by decide) q170 rfl rfl dX1_player_30 ?_
      obtain ⟨g4, hf⟩ := gd_e hf
      refine w6_iald (j := (V.1 0 13).toNatClampNeg) F I (x_ar 67 100 (by decide) rfl) g4 rfl dX1_player_33 ?_
      obtain ⟨r6, h5, hf⟩ := bn_e hf
      refine xz_PVi F I (ctj_indexOf l D g (V.1 67 ((V.1 0 13).toNatClampNeg)) r6 h5) (lw_V q481 q482 q483 q57 q484) hdJ2_indexOf rfl (Nat.le_of_ble_eq_true rfl) (Nat.le_of_ble_eq_true rfl) (w6_strR F I) rfl hl.1 [] rfl (Nat.le_of_ble_eq_true rfl) dX1_player_34 ⟨Nat.le_of_ble_eq_true rfl, Nat.le_of_ble_eq_true rfl⟩ (fun H locs I => ?_)
      refine lv_goto (tgt := 41) hx hb dX1_player_37 (by decide) ?_
      exact hJ41 V r6 _ _ ls hf I (lv_sub hl [0] rfl)
def x_lineUp_j136 (p1 : Int32) (p2 : Int32) (p3 : Int32) (p4 : Int32) (p5 : Int32) (p6 : Int32) (p7 : Int32) (V : Mm) (f : Nat → Int32)   : Option (Int32 × Mm) :=
  gd_ (ix_ p1 2) (lt_ (mrow V (3 + 9 * p1.toNatClampNeg + 2) (va_cpy f (V.1 (3 + 9 * p1.toNatClampNeg + 2)) 0 0 6)) fun V9 => gd_ (ix_ p1 2) (lt_ (mset V9 (3 + 9 * p1.toNatClampNeg) 16 (1 : Int32)) fun V12 => some ((1 : Int32), V12)))
def x_lineUp_l72 (p1 : Int32) (p2 : Int32) (p3 : Int32) (p4 : Int32) (p5 : Int32) (p6 : Int32) (p7 : Int32) : Nat → Mm → (Nat → Int32) → Int32 → Int32 → Int32 → Option (Int32 × Mm)
  | 0, _, _, _, _, _ => none
  | n72 + 1, V, f, a9, a11, a12 =>
  if a11 ≤ a12 then (x_lineUp_j136 p1 p2 p3 p4 p5 p6 p7 V f) else (gd_ (ix_ a12 6) (lt_ ((f a12.toNatClampNeg)) fun v14 => if (px_isPlayer v14) = (0 : Int32) then (some ((0 : Int32), V)) else (gd_ (ix_ p1 2) (if v14 = (V.1 (3 + 9 * p1.toNatClampNeg) 13) then (some ((0 : Int32), V)) else (if ((a9 >>> (v14 &&& 31)) &&& (1 : Int32)) = (1 : Int32) then (some ((0 : Int32), V)) else (lt_ ((a9 ||| ((1 : Int32) <<< (v14 &&& 31)))) fun v17 => lt_ (a12 + (1 : Int32)) fun v18 => x_lineUp_l72 p1 p2 p3 p4 p5 p6 p7 n72 V f v17 a11 v18))))))
def x_lineUp (V : Mm) (p1 : Int32) (p2 : Int32) (p3 : Int32) (p4 : Int32) (p5 : Int32) (p6 : Int32) (p7 : Int32) : Option (Int32 × Mm) :=
  lt_ (fun _ => (0 : Int32)) fun f0 => lt_ (upd f0 0 p2) fun f1 => lt_ (upd f1 1 p3) fun f2 => lt_ (upd f2 2 p4) fun f3 => lt_ (upd f3 3 p5) fun f4 => lt_ (upd f4 4 p6) fun f5 => lt_ (upd f5 5 p7) fun f6 => if (px_isTeam p1) = (0 : Int32) then (some ((0 : Int32), V)) else (if (V.1 0 10) = (0 : Int32) then (if (V.1 0 8) < (0 : Int32) then (x_lineUp_l72 p1 p2 p3 p4 p5 p6 p7 200 V f6 (0 : Int32) (6 : Int32) (0 : Int32)) else (some ((0 : Int32), V))) else (some ((0 : Int32), V)))
theorem hdX1_lineUp : w6_hd yX1_lineUp 7 := by decide +kernel
abbrev rmX1_lineUp : Room := { frames := 2, cells := 1, slots := 6, locals := 45 }
set_option maxHeartbeats 4000000 in
set_option maxRecDepth 100000 in
theorem ctx_lineUp (l : Launch) (D : va_G) (g : Nat → ClassId) (ad : Nat → Nat) (V : Mm) (p1 : Int32) (p2 : Int32) (p3 : Int32) (p4 : Int32) (p5 : Int32) (p6 : Int32) (p7 : Int32) (r : Int32) (V' : Mm) (hf : x_lineUp V p1 p2 p3 p4 p5 p6 p7 = some (r, V'))  : CTi l D g yX1_lineUp cX1_lineUp 14 .boolean rmX1_lineUp [.ref (ad 0), .int p1, .int p2, .int p3, .int p4, .int p5, .int p6, .int p7] (xw g ad V) (xw g ad V') r := by
  intro sz
  refine w6_starti RX1 (by decide) (Nat.le_of_ble_eq_true rfl) rfl ?_
  intro p e s m below meth c A ls Q hx hb hown hts F I hl hret
  have hl : lv_has ls 14 [(0, .ref (ad 0)), (1, .int p1), (2, .int p2), (3, .int p3), (4, .int p4), (5, .int p5), (6, .int p6), (7, .int p7)] := hl
  have hJ136 : ∀ (V : Mm) (f : Nat → Int32)  (H : Heap) (locs : List Loc) (ls : Array Slot) (q : Nat), x_lineUp_j136 p1 p2 p3 p4 p5 p6 p7 V f = some (r, V') → w6_I D (xw g ad V ++ [(q, .inl (g 0, 6, .inl f))]) A s H locs → lv_has ls 14 [(0, .ref (ad 0)), (1, .int p1), (8, .ref q)] → W p l e rmX1_lineUp s m ([.ref (ad 0), .int p1, .int p2, .int p3, .int p4, .int p5, .int p6, .int p7] : List Value).toArray below meth c H locs 1 6 Q (F0 m 136 ls []) := by
    intro V f H locs ls q hf I hl
    unfold x_lineUp_j136 at hf
    refine lv_aload hx hb dX1_lineUp_136 (lv_at hl 2 rfl) ?_
    refine lv_iconst (v := (0 : Int32)) hx hb dX1_lineUp_138 (by decide) ?_
    refine lv_aload_n hx hb dX1_lineUp_139 rfl (lv_at hl 0 rfl) ?_
    refine w6_get F I xo_ob rfl in_X1 0 (by decide) q157 rfl rfl dX1_lineUp_140 ?_
    refine lv_iload_n hx hb dX1_lineUp_143 rfl (lv_at hl 1 rfl) ?_
    obtain ⟨g7, hf⟩ := gd_e hf
    refine w6_aald (j := p1.toNatClampNeg) F I x_sides rfl rfl g7 rfl dX1_lineUp_144 ?_
    have s8 : isSide (3 + 9 * p1.toNatClampNeg) := isSide_s (ix_l g7 (rfl : _ = p1.toNatClampNeg))
    refine w6_getN F I (so_ob s8) rfl in_X2 1 (by decide) (List.mem_of_getElem? (i := 1) rfl) rfl rfl dX1_lineUp_145 ?_
    refine lv_iconst (v := (0 : Int32)) hx hb dX1_lineUp_148 (by decide) ?_
    refine lv_bipush (v := (6 : Int32)) hx hb dX1_lineUp_149 (by decide) ?_
    obtain ⟨V9, eV9, hf⟩ := lt_e hf
    refine w6_cpyT (sp' := 0) (dp' := 0) (n' := 6) xsh_lc F I hl.1 q267 (s_ar s8 2 6 (by decide) rfl) (by decide) (by decide) (by decide) rfl rfl rfl (by decide) (by decide) (Nat.le_of_ble_eq_true rfl) (Nat.le_of_ble_eq_true rfl) dX1_lineUp_151 eV9 (fun H locs I => ?_)
    refine lv_aload_n hx hb dX1_lineUp_154 rfl (lv_at hl 0 rfl) ?_
    refine w6_get F I xo_ob rfl in_X1 0 (by decide) q157 rfl rfl dX1_lineUp_155 ?_
    refine lv_iload_n hx hb dX1_lineUp_158 rfl (lv_at hl 1 rfl) ?_
    obtain ⟨g10, hf⟩ := gd_e hf
    refine w6_aald (j := p1.toNatClampNeg) F I x_sides rfl rfl g10 rfl dX1_lineUp_159 ?_
    have s11 : isSide (3 + 9 * p1.toNatClampNeg) := isSide_s (ix_l g10 (rfl : _ = p1.toNatClampNeg))
    refine lv_iconst (v := (1 : Int32)) hx hb dX1_lineUp_160 (by decide) ?_
    obtain ⟨V12, eV12, hf⟩ := lt_e hf
    refine w6_putN xsh_lc F I (so_ob s11) rfl in_X2 tyX2 tyX2_ok nmX2 16 (by decide) (so_nf _ 16 (by decide)) (List.mem_of_getElem? (i := 13) rfl) rfl rfl (tyX2_ok 16 (by decide)) rfl rfl dX1_lineUp_161 eV12 (fun H locs I => ?_)
    refine lv_iconst (v := (1 : Int32)) hx hb dX1_lineUp_164 (by decide) ?_
    exact hret _ _ _ _ _ dX1_lineUp_165 (w6_mv (so_e hf).2 I.drop) (so_e hf).1 rfl
  have hL72 : ∀ (n72 : Nat) (V : Mm) (f : Nat → Int32) (a9 : Int32) (a11 : Int32) (a12 : Int32) (H : Heap) (locs : List Loc) (ls : Array Slot) (q : Nat), x_lineUp_l72 p1 p2 p3 p4 p5 p6 p7 n72 V f a9 a11 a12 = some (r, V') → w6_I D (xw g ad V ++ [(q, .inl (g 0, 6, .inl f))]) A s H locs → lv_has ls 14 [(0, .ref (ad 0)), (1, .int p1), (8, .ref q), (9, .int a9), (10, .ref q), (11, .int a11), (12, .int a12)] → W p l e rmX1_lineUp s m ([.ref (ad 0), .int p1, .int p2, .int p3, .int p4, .int p5, .int p6, .int p7] : List Value).toArray below meth c H locs 1 6 Q (F0 m 72 ls []) := by
    intro n72
    induction n72 with
    | zero =>
      intro V f a9 a11 a12 H locs ls q hf
      rw [x_lineUp_l72] at hf
      cases hf
    | succ n72 ih72 =>
      intro V f a9 a11 a12 H locs ls q hf I hl
      rw [x_lineUp_l72] at hf
      refine lv_iload hx hb dX1_lineUp_72 (lv_at hl 6 rfl) ?_
      refine lv_iload hx hb dX1_lineUp_74 (lv_at hl 5 rfl) ?_
      refine lv_icmp_ge (tgt := 136) hx hb dX1_lineUp_76 (by decide) (fun c => ?_) (fun c => ?_)
      · have hf := if_p c hf
        exact hJ136 V f _ _ ls _ hf I (lv_sub hl [0, 1, 2] rfl)
      · have hf := if_n c hf
        refine lv_aload hx hb dX1_lineUp_79 (lv_at hl 4 rfl) ?_
        refine lv_iload hx hb dX1_lineUp_81 (lv_at hl 6 rfl) ?_
        obtain ⟨g13, hf⟩ := gd_e hf
        refine w6_tmld (j := a12.toNatClampNeg) F I g13 rfl dX1_lineUp_83 ?_
        obtain ⟨v14, ev14, hf⟩ := lt_e hf
        refine w6_nmi ev14 ?_
        refine lv_istore (lv' := [(13, .int v14), (0, .ref (ad 0)), (1, .int p1), (8, .ref q), (9, .int a9), (10, .ref q), (11, .int a11), (12, .int a12)]) hx hb dX1_lineUp_84 hl (by decide) rfl (fun ls hl => ?_)
        refine lv_iload hx hb dX1_lineUp_86 (lv_at hl 0 rfl) ?_
        refine xz_Pi F I (ctpx_isPlayer l D g v14 _ rfl) (lw_S q240 q241 q47 q242) hdX1_isPlayer (Nat.le_of_ble_eq_true rfl) (Nat.le_of_ble_eq_true rfl) rfl hl.1 [] rfl (Nat.le_of_ble_eq_true rfl) dX1_lineUp_88 ⟨Nat.le_of_ble_eq_true rfl, Nat.le_of_ble_eq_true rfl⟩ (fun H locs I => ?_)
        refine lv_if_eq (tgt := 119) hx hb dX1_lineUp_91 (by decide) (fun c => ?_) (fun c => ?_)
        · have hf := if_p c hf
          refine lv_iconst (v := (0 : Int32)) hx hb dX1_lineUp_119 (by decide) ?_
          exact hret _ _ _ _ _ dX1_lineUp_120 (w6_mv (so_e hf).2 I.drop) (so_e hf).1 rfl
        · have hf := if_n c hf
          refine lv_iload hx hb dX1_lineUp_94 (lv_at hl 0 rfl) ?_
          refine lv_aload_n hx hb dX1_lineUp_96 rfl (lv_at hl 1 rfl) ?_
          refine w6_get F I xo_ob rfl in_X1 0 (by decide) q157 rfl rfl dX1_lineUp_97 ?_
          refine lv_iload_n hx hb dX1_lineUp_100 rfl (lv_at hl 2 rfl) ?_
          obtain ⟨g15, hf⟩ := gd_e hf
          refine w6_aald (j := p1.toNatClampNeg) F I x_sides rfl rfl g15 rfl dX1_lineUp_101 ?_
          have s16 : isSide (3 + 9 * p1.toNatClampNeg) := isSide_s (ix_l g15 (rfl : _ = p1.toNatClampNeg))
          refine w6_getN F I (so_ob s16) rfl in_X2 13 (by decide) (List.mem_of_getElem? (i := 10) rfl) rfl rfl dX1_lineUp_102 ?_
          refine lv_icmp_eq (tgt := 119) hx hb dX1_lineUp_105 (by decide) (fun c => ?_) (fun c => ?_)
          · have hf := if_p c hf
            refine lv_iconst (v := (0 : Int32)) hx hb dX1_lineUp_119 (by decide) ?_
            exact hret _ _ _ _ _ dX1_lineUp_120 (w6_mv (so_e hf).2 I.drop) (so_e hf).1 rfl
          · have hf := if_n c hf
            refine lv_iload hx hb dX1_lineUp_108 (lv_at hl 4 rfl) ?_
            refine lv_iload hx hb dX1_lineUp_110 (lv_at hl 0 rfl) ?_
            refine lv_ishr hx hb dX1_lineUp_112 ?_
            refine lv_iconst (v := (1 : Int32)) hx hb dX1_lineUp_113 (by decide) ?_
            refine lv_iand hx hb dX1_lineUp_114 ?_
            refine lv_iconst (v := (1 : Int32)) hx hb dX1_lineUp_115 (by decide) ?_
            refine lv_icmp_ne (tgt := 121) hx hb dX1_lineUp_116 (by decide) (fun c => ?_) (fun c => ?_)
            · have hf := if_n c hf
              refine lv_iload hx hb dX1_lineUp_121 (lv_at hl 4 rfl) ?_
              refine lv_iconst (v := (1 : Int32)) hx hb dX1_lineUp_123 (by decide) ?_
              refine lv_iload hx hb dX1_lineUp_124 (lv_at hl 0 rfl) ?_
              refine lv_ishl hx hb dX1_lineUp_126 ?_
              refine lv_ior hx hb dX1_lineUp_127 ?_
              obtain ⟨v17, ev17, hf⟩ := lt_e hf
              refine w6_nmi ev17 ?_
              refine lv_istore (lv' := [(9, .int v17), (13, .int v14), (0, .ref (ad 0)), (1, .int p1), (8, .ref q), (10, .ref q), (11, .int a11), (12, .int a12)]) hx hb dX1_lineUp_128 hl (by decide) rfl (fun ls hl => ?_)
              obtain ⟨v18, ev18, hf⟩ := lt_e hf
              refine lv_iinc (v := v18) (lv' := [(12, .int v18), (9, .int v17), (13, .int v14), (0, .ref (ad 0)), (1, .int p1), (8, .ref q), (10, .ref q), (11, .int a11)]) hx hb dX1_lineUp_130 hl (k := 7) rfl (by rw [ev18]; rfl) (by decide) rfl (fun ls hl => ?_)
              refine lv_goto (tgt := 72) hx hb dX1_lineUp_133 (by decide) ?_
              exact ih72 V f v17 a11 v18 _ _ ls _ hf I (lv_sub hl [3, 4, 5, 1, 6, 7, 0] rfl)
            · have hf := if_p c hf
              refine lv_iconst (v := (0 : Int32)) hx hb dX1_lineUp_119 (by decide) ?_
              exact hret _ _ _ _ _ dX1_lineUp_120 (w6_mv (so_e hf).2 I.drop) (so_e hf).1 rfl
  unfold x_lineUp at hf
  refine lv_bipush (v := (6 : Int32)) hx hb dX1_lineUp_0 (by decide) ?_
  obtain ⟨f0, ef0, hf⟩ := lt_e hf
  refine w6_newa (atype := .int) (t := 0) (n' := 6) (a0 := (6, .inl (fun _ => 0))) F I q148 rfl rfl (fun _ => rfl) (by decide) rfl (by decide) (Nat.le_of_ble_eq_true rfl) (Nat.le_of_ble_eq_true rfl) dX1_lineUp_2 (fun q H I => ?_)
  rw [← ef0] at I
  have I : w6_I D (xw g ad V ++ [(q, .inl (g 0, 6, .inl f0))]) A s H [] := by rw [List.append_nil] at I; exact I
  refine lv_dup hx hb dX1_lineUp_4 rfl ?_
  refine lv_iconst (v := (0 : Int32)) hx hb dX1_lineUp_5 (by decide) ?_
  refine lv_iload_n hx hb dX1_lineUp_6 rfl (lv_at hl 2 rfl) ?_
  obtain ⟨f1, ef1, hf⟩ := lt_e hf
  refine w6_tmst (j := 0) F I (show ix_ (0 : Int32) 6 by decide) rfl dX1_lineUp_7 ef1 (fun H locs I => ?_)
  refine lv_dup hx hb dX1_lineUp_8 rfl ?_
  refine lv_iconst (v := (1 : Int32)) hx hb dX1_lineUp_9 (by decide) ?_
  refine lv_iload_n hx hb dX1_lineUp_10 rfl (lv_at hl 3 rfl) ?_
  obtain ⟨f2, ef2, hf⟩ := lt_e hf
  refine w6_tmst (j := 1) F I (show ix_ (1 : Int32) 6 by decide) rfl dX1_lineUp_11 ef2 (fun H locs I => ?_)
  refine lv_dup hx hb dX1_lineUp_12 rfl ?_
  refine lv_iconst (v := (2 : Int32)) hx hb dX1_lineUp_13 (by decide) ?_
  refine lv_iload hx hb dX1_lineUp_14 (lv_at hl 4 rfl) ?_
  obtain ⟨f3, ef3, hf⟩ := lt_e hf
  refine w6_tmst (j := 2) F I (show ix_ (2 : Int32) 6 by decide) rfl dX1_lineUp_16 ef3 (fun H locs I => ?_)
  refine lv_dup hx hb dX1_lineUp_17 rfl ?_
  refine lv_iconst (v := (3 : Int32)) hx hb dX1_lineUp_18 (by decide) ?_
  refine lv_iload hx hb dX1_lineUp_19 (lv_at hl 5 rfl) ?_
  obtain ⟨f4, ef4, hf⟩ := lt_e hf
  refine w6_tmst (j := 3) F I (show ix_ (3 : Int32) 6 by decide) rfl dX1_lineUp_21 ef4 (fun H locs I => ?_)
  refine lv_dup hx hb dX1_lineUp_22 rfl ?_
  refine lv_iconst (v := (4 : Int32)) hx hb dX1_lineUp_23 (by decide) ?_
  refine lv_iload hx hb dX1_lineUp_24 (lv_at hl 6 rfl) ?_
  obtain ⟨f5, ef5, hf⟩ := lt_e hf
  refine w6_tmst (j := 4) F I (show ix_ (4 : Int32) 6 by decide) rfl dX1_lineUp_26 ef5 (fun H locs I => ?_)
  refine lv_dup hx hb dX1_lineUp_27 rfl ?_
  refine lv_iconst (v := (5 : Int32)) hx hb dX1_lineUp_28 (by decide) ?_
  refine lv_iload hx hb dX1_lineUp_29 (lv_at hl 7 rfl) ?_
  obtain ⟨f6, ef6, hf⟩ := lt_e hf
  refine w6_tmst (j := 5) F I (show ix_ (5 : Int32) 6 by decide) rfl dX1_lineUp_31 ef6 (fun H locs I => ?_)
  refine lv_astore (lv' := [(8, .ref q), (0, .ref (ad 0)), (1, .int p1), (2, .int p2), (3, .int p3), (4, .int p4), (5, .int p5), (6, .int p6), (7, .int p7)]) hx hb dX1_lineUp_32 hl (by decide) rfl (fun ls hl => ?_)
  refine lv_iload_n hx hb dX1_lineUp_34 rfl (lv_at hl 2 rfl) ?_
  refine xz_Pi F I (ctpx_isTeam l D g p1 _ rfl) (lw_S q237 q238 q47 q239) hdX1_isTeam (Nat.le_of_ble_eq_true rfl) (Nat.le_of_ble_eq_true rfl) rfl hl.1 [] rfl (Nat.le_of_ble_eq_true rfl) dX1_lineUp_35 ⟨Nat.le_of_ble_eq_true rfl, Nat.le_of_ble_eq_true rfl⟩ (fun H locs I => ?_)
  refine lv_if_eq (tgt := 55) hx hb dX1_lineUp_38 (by decide) (fun c => ?_) (fun c => ?_)
  · have hf := if_p c hf
    refine lv_iconst (v := (0 : Int32)) hx hb dX1_lineUp_55 (by decide) ?_
    exact hret _ _ _ _ _ dX1_lineUp_56 (w6_mv (so_e hf).2 I.drop) (so_e hf).1 rfl
  · have hf := if_n c hf
    refine lv_aload_n hx hb dX1_lineUp_41 rfl (lv_at hl 1 rfl) ?_
    refine w6_get F I xo_ob rfl in_X1 10 (by decide) q167 rfl rfl dX1_lineUp_42 ?_
    refine lv_if_ne (tgt := 55) hx hb dX1_lineUp_45 (by decide) (fun c => ?_) (fun c => ?_)
    · have hf := if_n c hf
      refine lv_iconst (v := (0 : Int32)) hx hb dX1_lineUp_55 (by decide) ?_
      exact hret _ _ _ _ _ dX1_lineUp_56 (w6_mv (so_e hf).2 I.drop) (so_e hf).1 rfl
    · have hf := if_p c hf
      refine lv_aload_n hx hb dX1_lineUp_48 rfl (lv_at hl 1 rfl) ?_
      refine w6_get F I xo_ob rfl in_X1 8 (by decide) q165 rfl rfl dX1_lineUp_49 ?_
      refine lv_if_lt (tgt := 57) hx hb dX1_lineUp_52 (by decide) (fun c => ?_) (fun c => ?_)
      · have hf := if_p c hf
        refine lv_iconst (v := (0 : Int32)) hx hb dX1_lineUp_57 (by decide) ?_
        refine lv_istore (lv' := [(9, .int (0 : Int32)), (8, .ref q), (0, .ref (ad 0)), (1, .int p1), (2, .int p2), (3, .int p3), (4, .int p4), (5, .int p5), (6, .int p6), (7, .int p7)]) hx hb dX1_lineUp_58 hl (by decide) rfl (fun ls hl => ?_)
        refine lv_aload hx hb dX1_lineUp_60 (lv_at hl 1 rfl) ?_
        refine lv_astore (lv' := [(10, .ref q), (9, .int (0 : Int32)), (8, .ref q), (0, .ref (ad 0)), (1, .int p1), (2, .int p2), (3, .int p3), (4, .int p4), (5, .int p5), (6, .int p6), (7, .int p7)]) hx hb dX1_lineUp_62 hl (by decide) rfl (fun ls hl => ?_)
        refine lv_aload hx hb dX1_lineUp_64 (lv_at hl 0 rfl) ?_
        refine w6_tmlen (v := (6 : Int32)) F I rfl dX1_lineUp_66 ?_
        refine lv_istore (lv' := [(11, .int (6 : Int32)), (10, .ref q), (9, .int (0 : Int32)), (8, .ref q), (0, .ref (ad 0)), (1, .int p1), (2, .int p2), (3, .int p3), (4, .int p4), (5, .int p5), (6, .int p6), (7, .int p7)]) hx hb dX1_lineUp_67 hl (by decide) rfl (fun ls hl => ?_)
        refine lv_iconst (v := (0 : Int32)) hx hb dX1_lineUp_69 (by decide) ?_
        refine lv_istore (lv' := [(12, .int (0 : Int32)), (11, .int (6 : Int32)), (10, .ref q), (9, .int (0 : Int32)), (8, .ref q), (0, .ref (ad 0)), (1, .int p1), (2, .int p2), (3, .int p3), (4, .int p4), (5, .int p5), (6, .int p6), (7, .int p7)]) hx hb dX1_lineUp_70 hl (by decide) rfl (fun ls hl => ?_)
        exact hL72 200 V f6 (0 : Int32) (6 : Int32) (0 : Int32) _ _ ls _ hf I (lv_sub hl [5, 6, 4, 3, 2, 1, 0] rfl)
      · have hf := if_n c hf
        refine lv_iconst (v := (0 : Int32)) hx hb dX1_lineUp_55 (by decide) ?_
        exact hret _ _ _ _ _ dX1_lineUp_56 (w6_mv (so_e hf).2 I.drop) (so_e hf).1 rfl
