/-! sheet -/
set_option maxRecDepth 100000
def x_sheet_l : List (It × Int32) → Mm → Option (Int32 × Mm)
  | [], V => some (V.1 0 15, V)
  | z :: L, V => bi_ (x_done V z.1) fun r V1 => if r = 0 then (x_putsBack V1).bind fun V2 => some ((-1001 : Int32) - z.2, V2) else x_sheet_l L V1
def x_sheet_b (V : Mm) (L : List (It × Int32)) (gs : Int32) : Option (Int32 × Mm) := if gs = 0 then some ((-1 : Int32) - V.1 0 13, V) else (x_keeps V).bind fun V5 => x_sheet_l L V5
def itL (res : Option (List (It × Int32))) : List (It × Int32) := match res with
  | none => []
  | some L => L
def x_goes (V : Mm) (n : Nat) : Int32 := if V.1 0 13 = V.1 0 14 then (if n = 0 then (if V.1 0 14 = 0 then 1 else 0) else 1) else 0
def x_sheet (V : Mm) : Option (Int32 × Mm) :=
  lt_ (V.1 0 12) fun n => lt_ (mset V 0 12 0) fun V1 => if V1.1 0 10 = 0 then some ((-100 : Int32), V1) else
  lt_ (mset V1 0 13 0) fun V2 => lt_ (mset V2 0 14 (if (80 : Int32) < n then 80 else n)) fun V3 =>
  bi_ (x_items V3) fun res V4 => lt_ (x_goes V4 (itL res).length) fun gs =>
  if n ≤ (80 : Int32) then x_sheet_b V4 (itL res) gs else
  if gs = 0 then (if V4.1 0 13 = (80 : Int32) then some ((-81 : Int32), V4) else x_sheet_b V4 (itL res) gs) else some ((-81 : Int32), V4)
theorem itX_L {x0 : Nat} {qa : Nat → Nat} {res : Option (List (It × Int32))} : itX x0 qa res = itw x0 qa (itL res) := by
  cases res with
  | none => rfl
  | some L => rfl
theorem itR_L {qa : Nat → Nat} {res : Option (List (It × Int32))} : itR qa res = itN qa (itL res).length 0 := by
  cases res with
  | none => rfl
  | some L => rfl
theorem hdX1_sheet : w6_hd yX1_sheet 0 := by decide +kernel
abbrev rmX1_sheet : Room := { frames := 8, cells := 80, slots := 560, locals := 180 }
set_option maxHeartbeats 8000000 in
theorem ctx_sheet (l : Launch) (D : va_G) (g : Nat → ClassId) (ad : Nat → Nat) (V : Mm) (r : Int32) (V' : Mm) (hf : x_sheet V = some (r, V')) : CTi l D g yX1_sheet cX1_sheet 5 .int rmX1_sheet [.ref (ad 0)] (xw g ad V) (xw g ad V') r := by
  intro sz
  refine w6_starti RX1 (by decide) (Nat.le_of_ble_eq_true rfl) rfl ?_
  intro p e s m below meth c A ls Q hx hb hown hts F I hl hret
  have hl : lv_has ls 5 [(0, .ref (ad 0))] := hl
  have hret : ∀ (v : Int32) (V1 : Mm) (wr : va_W) (pc : Nat) (H : Heap) (locs : List Loc) (ls : Array Slot), decode cX1_sheet pc = .ok (.ireturn, 1) → w6_I D (xw g ad V1 ++ wr) A s H locs → some (v, V1) = some (r, V') → W p l e rmX1_sheet s m ([.ref (ad 0)] : List Value).toArray below meth c H locs 80 560 Q (F0 m pc ls [.int v]) := by
    intro v V1 wr pc H locs ls hdg I hf
    obtain ⟨e1, e2⟩ := so_e hf
    subst e1 e2
    exact hret _ _ _ _ _ hdg I.drop rfl rfl
  have hL : ∀ (L : List (It × Int32)) (qa : Nat → Nat) (n k : Nat) (V : Mm) (H : Heap) (locs : List Loc) (ls : Array Slot), k + n = L.length → x_sheet_l (L.drop k) V = some (r, V') → w6_I D (xw g ad V ++ itw (ad 0) qa L) A s H locs → lv_has ls 5 [(0, .ref (ad 0)), (4, va_rf (itN qa L.length k))] → W p l e rmX1_sheet s m ([.ref (ad 0)] : List Value).toArray below meth c H locs 80 560 Q (F0 m 108 ls []) := by
    intro L qa n
    induction n with
    | zero =>
      intro k V H locs ls hk hf I hl
      rw [List.drop_eq_nil_of_le (by omega), x_sheet_l] at hf
      have e1 : itN qa L.length k = none := by unfold itN; rw [if_neg (by omega)]
      rw [e1] at hl
      refine lv_aloadN hx hb dX1_sheet_108 (lv_at hl 1 rfl) ?_
      refine lv_ifnullN (tgt := 148) hx hb dX1_sheet_110 (by decide) ?_
      refine lv_aload_n hx hb dX1_sheet_148 rfl (lv_at hl 0 rfl) ?_
      refine w6_get F I xo_ob rfl in_X1 15 (by decide) q172 rfl rfl dX1_sheet_149 ?_
      exact hret _ _ _ _ _ _ _ dX1_sheet_152 I hf
    | succ n ih =>
      intro k V H locs ls hk hf I hl
      have hkl : k < L.length := by omega
      have e0 : L.getD k itD = L[k] := by simp [List.getD_eq_getElem?_getD, hkl]
      rw [List.drop_eq_getElem_cons hkl, x_sheet_l, ← e0] at hf
      obtain ⟨r1, V1, h1, hf⟩ := bi_e hf
      have e1 : itN qa L.length k = some (qa k) := by unfold itN; rw [if_pos hkl]
      rw [e1] at hl
      have hl : lv_has ls 5 [(0, .ref (ad 0)), (4, .ref (qa k))] := hl
      refine lv_aload hx hb dX1_sheet_108 (lv_at hl 1 rfl) ?_
      refine lv_ifnull hx hb dX1_sheet_110 ?_
      refine lv_aload hx hb dX1_sheet_113 (lv_at hl 1 rfl) ?_
      have hpm := w6_er (itw (ad 0) qa L) k _ (itw_at hkl)
      have I2 : w6_I D ((xw g ad V ++ [(qa k, itE (ad 0) qa L k)]) ++ (itw (ad 0) qa L).eraseIdx k) A s H locs := by
        refine I.perm ?_
        rw [List.append_assoc]
        exact List.Perm.append_left _ hpm
      refine w6_itdone F I2 h1 hl.1 dX1_sheet_115 (Nat.le_of_ble_eq_true rfl) (Nat.le_of_ble_eq_true rfl) ⟨(Nat.le_of_ble_eq_true rfl), (Nat.le_of_ble_eq_true rfl)⟩ (Nat.le_of_ble_eq_true rfl) (fun H locs I2 => ?_)
      have I : w6_I D (xw g ad V1 ++ itw (ad 0) qa L) A s H locs := by
        refine I2.perm ?_
        rw [List.append_assoc]
        exact List.Perm.append_left _ hpm.symm
      have hk9 : (xw g ad V1 ++ itw (ad 0) qa L)[71 + k]? = some (qa k, itE (ad 0) qa L k) := w6_fl_last.trans (itw_at hkl)
      refine lv_if_eq (tgt := 124) hx hb dX1_sheet_118 (by decide) (fun b0 => ?_) (fun b0 => ?_)
      · have hf := if_p b0 hf
        obtain ⟨V2, h2, hf⟩ := bn_e hf
        refine lv_aload_n hx hb dX1_sheet_124 rfl (lv_at hl 0 rfl) ?_
        refine xz_Vv F I (ctx_putsBack l D g ad V1 V2 h2) (lw_V q615 q617 qs11 q47 q618) hdX1_putsBack rfl (Nat.le_of_ble_eq_true rfl) (Nat.le_of_ble_eq_true rfl) (w6_recv F I xo_ob rfl) rfl hl.1 [] rfl (Nat.le_of_ble_eq_true rfl) dX1_sheet_125 ⟨(Nat.le_of_ble_eq_true rfl), (Nat.le_of_ble_eq_true rfl)⟩ (fun H locs I => ?_)
        have hk9 : (xw g ad V2 ++ itw (ad 0) qa L)[71 + k]? = some (qa k, itE (ad 0) qa L k) := w6_fl_last.trans (itw_at hkl)
        refine lv_sipush (v := (-1001 : Int32)) hx hb dX1_sheet_128 (by decide) ?_
        refine lv_aload hx hb dX1_sheet_131 (lv_at hl 1 rfl) ?_
        refine w6_itget_begin F I hk9 dX1_sheet_133 ?_
        refine lv_isub hx hb dX1_sheet_136 ?_
        exact hret _ _ _ _ _ _ _ dX1_sheet_137 I hf
      · have hf := if_n b0 hf
        refine lv_goto (tgt := 138) hx hb dX1_sheet_121 (by decide) ?_
        refine lv_aload hx hb dX1_sheet_138 (lv_at hl 1 rfl) ?_
        refine w6_itget_next F I hk9 dX1_sheet_140 ?_
        by_cases hk2 : k + 1 < L.length
        · rw [if_pos hk2]
          refine lv_astore (lv' := [(4, .ref (qa (k + 1))), (0, .ref (ad 0))]) hx hb dX1_sheet_143 hl (by decide) rfl (fun ls hl => ?_)
          refine lv_goto (tgt := 108) hx hb dX1_sheet_145 (by decide) ?_
          have e2 : itN qa L.length (k + 1) = some (qa (k + 1)) := by unfold itN; rw [if_pos hk2]
          exact ih (k + 1) V1 _ _ ls (by omega) hf I (by rw [e2]; exact lv_sub hl [1, 0] rfl)
        · rw [if_neg hk2]
          refine lv_astoreN (lv' := [(4, .null), (0, .ref (ad 0))]) hx hb dX1_sheet_143 hl (by decide) rfl (fun ls hl => ?_)
          refine lv_goto (tgt := 108) hx hb dX1_sheet_145 (by decide) ?_
          have e2 : itN qa L.length (k + 1) = none := by unfold itN; rw [if_neg hk2]
          exact ih (k + 1) V1 _ _ ls (by omega) hf I (by rw [e2]; exact lv_sub hl [1, 0] rfl)
  have hB : ∀ (V : Mm) (L : List (It × Int32)) (qa : Nat → Nat) (gs : Int32) (u : Option Nat) (H : Heap) (locs : List Loc) (ls : Array Slot), x_sheet_b V L gs = some (r, V') → w6_I D (xw g ad V ++ itw (ad 0) qa L) A s H locs → u = itN qa L.length 0 → lv_has ls 5 [(3, .int gs), (2, va_rf u), (0, .ref (ad 0))] → W p l e rmX1_sheet s m ([.ref (ad 0)] : List Value).toArray below meth c H locs 80 560 Q (F0 m 90 ls []) := by
    intro V L qa gs u H locs ls hf I hu hl
    unfold x_sheet_b at hf
    refine lv_iload_n hx hb dX1_sheet_90 rfl (lv_at hl 0 rfl) ?_
    refine lv_if_ne (tgt := 101) hx hb dX1_sheet_91 (by decide) (fun b0 => ?_) (fun b0 => ?_)
    · have hf := if_n b0 hf
      obtain ⟨V5, h5, hf⟩ := bn_e hf
      refine lv_aload_n hx hb dX1_sheet_101 rfl (lv_at hl 2 rfl) ?_
      refine xz_Vv F I (ctx_keeps l D g ad V V5 h5) (lw_V q588 q590 qs10 q47 q591) hdX1_keeps rfl (Nat.le_of_ble_eq_true rfl) (Nat.le_of_ble_eq_true rfl) (w6_recv F I xo_ob rfl) rfl hl.1 [] rfl (Nat.le_of_ble_eq_true rfl) dX1_sheet_102 ⟨(Nat.le_of_ble_eq_true rfl), (Nat.le_of_ble_eq_true rfl)⟩ (fun H locs I => ?_)
      cases u with
      | none =>
        refine lv_aload_nN hx hb dX1_sheet_105 rfl (lv_at hl 1 rfl) ?_
        refine lv_astoreN (lv' := [(4, .null), (2, .null), (0, .ref (ad 0))]) hx hb dX1_sheet_106 (lv_sub hl [1, 2] rfl) (by decide) rfl (fun ls hl => ?_)
        exact hL L qa L.length 0 V5 _ _ ls (by omega) hf I (by rw [← hu]; exact lv_sub hl [2, 0] rfl)
      | some q =>
        refine lv_aload_n hx hb dX1_sheet_105 rfl (lv_at hl 1 rfl) ?_
        refine lv_astore (lv' := [(4, .ref q), (2, .ref q), (0, .ref (ad 0))]) hx hb dX1_sheet_106 (lv_sub hl [1, 2] rfl) (by decide) rfl (fun ls hl => ?_)
        exact hL L qa L.length 0 V5 _ _ ls (by omega) hf I (by rw [← hu]; exact lv_sub hl [2, 0] rfl)
    · have hf := if_p b0 hf
      refine lv_iconst (v := (-1 : Int32)) hx hb dX1_sheet_94 (by decide) ?_
      refine lv_aload_n hx hb dX1_sheet_95 rfl (lv_at hl 2 rfl) ?_
      refine w6_get F I xo_ob rfl in_X1 13 (by decide) q170 rfl rfl dX1_sheet_96 ?_
      refine lv_isub hx hb dX1_sheet_99 ?_
      exact hret _ _ _ _ _ _ _ dX1_sheet_100 I hf
  have hC : ∀ (V : Mm) (n gs : Int32) (L : List (It × Int32)) (qa : Nat → Nat) (u : Option Nat) (H : Heap) (locs : List Loc) (ls : Array Slot), (if n ≤ (80 : Int32) then x_sheet_b V L gs else if gs = 0 then (if V.1 0 13 = (80 : Int32) then some ((-81 : Int32), V) else x_sheet_b V L gs) else some ((-81 : Int32), V)) = some (r, V') → w6_I D (xw g ad V ++ itw (ad 0) qa L) A s H locs → u = itN qa L.length 0 → lv_has ls 5 [(2, va_rf u), (1, .int n), (0, .ref (ad 0))] → W p l e rmX1_sheet s m ([.ref (ad 0)] : List Value).toArray below meth c H locs 80 560 Q (F0 m 67 ls [.int gs]) := by
    intro V n gs L qa u H locs ls hf I hu hl
    refine lv_istore_n (lv' := [(3, .int gs), (2, va_rf u), (1, .int n), (0, .ref (ad 0))]) hx hb dX1_sheet_67 rfl hl (by decide) (by cases u <;> rfl) (fun ls hl => ?_)
    refine lv_iload_n hx hb dX1_sheet_68 rfl (lv_at hl 2 rfl) ?_
    refine lv_bipush (v := (80 : Int32)) hx hb dX1_sheet_69 (by decide) ?_
    refine lv_icmp_le (tgt := 90) hx hb dX1_sheet_71 (by decide) (fun b0 => ?_) (fun b0 => ?_)
    · have hf := if_p b0 hf
      exact hB V L qa gs u _ _ ls hf I hu (lv_sub hl [0, 1, 3] rfl)
    · have hf := if_n b0 hf
      refine lv_iload_n hx hb dX1_sheet_74 rfl (lv_at hl 0 rfl) ?_
      refine lv_if_ne (tgt := 87) hx hb dX1_sheet_75 (by decide) (fun b1 => ?_) (fun b1 => ?_)
      · have hf := if_n b1 hf
        refine lv_bipush (v := (-81 : Int32)) hx hb dX1_sheet_87 (by decide) ?_
        exact hret _ _ _ _ _ _ _ dX1_sheet_89 I hf
      · have hf := if_p b1 hf
        refine lv_aload_n hx hb dX1_sheet_78 rfl (lv_at hl 3 rfl) ?_
        refine w6_get F I xo_ob rfl in_X1 13 (by decide) q170 rfl rfl dX1_sheet_79 ?_
        refine lv_bipush (v := (80 : Int32)) hx hb dX1_sheet_82 (by decide) ?_
        refine lv_icmp_ne (tgt := 90) hx hb dX1_sheet_84 (by decide) (fun b2 => ?_) (fun b2 => ?_)
        · have hf := if_n b2 hf
          exact hB V L qa gs u _ _ ls hf I hu (lv_sub hl [0, 1, 3] rfl)
        · have hf := if_p b2 hf
          refine lv_bipush (v := (-81 : Int32)) hx hb dX1_sheet_87 (by decide) ?_
          exact hret _ _ _ _ _ _ _ dX1_sheet_89 I hf
  unfold x_sheet at hf
  obtain ⟨n, en, hf⟩ := lt_e hf
  obtain ⟨V1, eV1, hf⟩ := lt_e hf
  refine lv_aload_n hx hb dX1_sheet_0 rfl (lv_at hl 0 rfl) ?_
  refine w6_get F I xo_ob rfl in_X1 12 (by decide) q169 rfl rfl dX1_sheet_1 ?_
  refine w6_nmi en ?_
  refine lv_istore_n (lv' := [(1, .int n), (0, .ref (ad 0))]) hx hb dX1_sheet_4 rfl hl (by decide) rfl (fun ls hl => ?_)
  refine lv_aload_n hx hb dX1_sheet_5 rfl (lv_at hl 1 rfl) ?_
  refine lv_iconst (v := (0 : Int32)) hx hb dX1_sheet_6 (by decide) ?_
  refine w6_put xsh_lc F I xo_ob rfl in_X1 tyX1 tyX1_ok nmX1 12 (by decide) (xo_nf 12 (by decide)) q169 rfl rfl (tyX1_ok 12 (by decide)) rfl rfl dX1_sheet_7 eV1 (fun H locs I => ?_)
  refine lv_aload_n hx hb dX1_sheet_10 rfl (lv_at hl 1 rfl) ?_
  refine w6_get F I xo_ob rfl in_X1 10 (by decide) q167 rfl rfl dX1_sheet_11 ?_
  refine lv_if_ne (tgt := 20) hx hb dX1_sheet_14 (by decide) (fun b0 => ?_) (fun b0 => ?_)
  rotate_left
  · have hf := if_p b0 hf
    refine lv_bipush (v := (-100 : Int32)) hx hb dX1_sheet_17 (by decide) ?_
    refine W.widen (k := 80) (n := 560) (Nat.le_of_ble_eq_true rfl) (Nat.le_of_ble_eq_true rfl) ?_
    exact hret _ _ _ _ _ _ _ dX1_sheet_19 I hf
  have hf := if_n b0 hf
  obtain ⟨V2, eV2, hf⟩ := lt_e hf
  obtain ⟨V3, eV3, hf⟩ := lt_e hf
  obtain ⟨res, V4, h4, hf⟩ := bi_e hf
  obtain ⟨gs, egs, hf⟩ := lt_e hf
  refine lv_aload_n hx hb dX1_sheet_20 rfl (lv_at hl 1 rfl) ?_
  refine lv_iconst (v := (0 : Int32)) hx hb dX1_sheet_21 (by decide) ?_
  refine w6_put xsh_lc F I xo_ob rfl in_X1 tyX1 tyX1_ok nmX1 13 (by decide) (xo_nf 13 (by decide)) q170 rfl rfl (tyX1_ok 13 (by decide)) rfl rfl dX1_sheet_22 eV2 (fun H locs I => ?_)
  refine lv_aload_n hx hb dX1_sheet_25 rfl (lv_at hl 1 rfl) ?_
  refine lv_iload_n hx hb dX1_sheet_26 rfl (lv_at hl 0 rfl) ?_
  refine lv_bipush (v := (80 : Int32)) hx hb dX1_sheet_27 (by decide) ?_
  refine va_mmin hx hb (by rw [F.1.2.2.1]; exact hl.1.symm) hown (hts _ q397) (hts _ q398) (hts _ q52) (hts _ q399) (Nat.le_of_ble_eq_true rfl) (Nat.le_of_ble_eq_true rfl) (Nat.le_of_ble_eq_true rfl) (Nat.le_of_ble_eq_true rfl) dX1_sheet_29 ?_
  refine w6_put xsh_lc F I xo_ob rfl in_X1 tyX1 tyX1_ok nmX1 14 (by decide) (xo_nf 14 (by decide)) q171 rfl rfl (tyX1_ok 14 (by decide)) rfl rfl dX1_sheet_32 eV3 (fun H locs I => ?_)
  refine lv_aload_n hx hb dX1_sheet_35 rfl (lv_at hl 1 rfl) ?_
  refine va_callq (va_runV (As := []) (rest := []) F.1 (ctx_items l D g ad V3 res V4 h4 H.size) (cwV 0 hts (lw_V q400 q402 qs5 q47 q403) rfl rfl rfl ⟨rfl, hdX1_items⟩ ⟨(Nat.le_of_ble_eq_true rfl), (Nat.le_of_ble_eq_true rfl)⟩) ⟨w6_Pc_blind, w6_recv F I xo_ob rfl, fun U hU hW => w6_pre F I U hU hW⟩ rfl rfl hl.1 rfl (lv_room (Nat.le_of_ble_eq_true rfl)) dX1_sheet_36 ⟨(Nat.le_of_ble_eq_true rfl), (Nat.le_of_ble_eq_true rfl)⟩) I.2.2 (fun q _ h => w6_free F I q h) (w6_free F I) (fun u qa t H1 locs1 ht hvm hw hB1 hz hk hS => ?_)
  obtain ⟨hP1, hK1, hD1⟩ := hB1
  rw [ht] at hP1
  have I := w6_join F I hk hP1 hD1 hS
  have I := I.nil
  rw [itX_L] at I
  rw [itR_L] at hw
  refine W.widen (k := 80) (n := 560) (Nat.le_of_ble_eq_true rfl) (Nat.le_of_ble_eq_true rfl) ?_
  have hA2 : ∀ (ls : Array Slot), lv_has ls 5 [(2, va_rf u), (1, .int n), (0, .ref (ad 0))] → W p l e rmX1_sheet s m ([.ref (ad 0)] : List Value).toArray below meth c H1 locs1 80 560 Q (F0 m 40 ls []) := by
    intro ls hl
    refine lv_aload_n hx hb dX1_sheet_40 rfl (lv_at hl 2 rfl) ?_
    refine w6_get F I xo_ob rfl in_X1 13 (by decide) q170 rfl rfl dX1_sheet_41 ?_
    refine lv_aload_n hx hb dX1_sheet_44 rfl (lv_at hl 2 rfl) ?_
    refine w6_get F I xo_ob rfl in_X1 14 (by decide) q171 rfl rfl dX1_sheet_45 ?_
    unfold x_goes at egs
    refine lv_icmp_ne (tgt := 66) hx hb dX1_sheet_48 (by decide) (fun b1 => ?_) (fun b1 => ?_)
    · rw [if_neg b1] at egs
      refine lv_iconst (v := (0 : Int32)) hx hb dX1_sheet_66 (by decide) ?_
      subst egs
      exact hC V4 n 0 _ qa u _ _ ls hf I hw hl
    · rw [if_pos b1] at egs
      by_cases hz : (itL res).length = 0
      · rw [if_pos hz] at egs
        have hu : u = none := by rw [hw]; unfold itN; rw [if_neg (by omega)]
        subst hu
        refine lv_aload_nN hx hb dX1_sheet_51 rfl (lv_at hl 0 rfl) ?_
        refine lv_ifnonnullN hx hb dX1_sheet_52 ?_
        refine lv_aload_n hx hb dX1_sheet_55 rfl (lv_at hl 2 rfl) ?_
        refine w6_get F I xo_ob rfl in_X1 14 (by decide) q171 rfl rfl dX1_sheet_56 ?_
        refine lv_if_ne (tgt := 66) hx hb dX1_sheet_59 (by decide) (fun b2 => ?_) (fun b2 => ?_)
        · rw [if_neg b2] at egs
          refine lv_iconst (v := (0 : Int32)) hx hb dX1_sheet_66 (by decide) ?_
          subst egs
          exact hC V4 n 0 _ qa none _ _ ls hf I hw hl
        · rw [if_pos b2] at egs
          refine lv_iconst (v := (1 : Int32)) hx hb dX1_sheet_62 (by decide) ?_
          refine lv_goto (tgt := 67) hx hb dX1_sheet_63 (by decide) ?_
          subst egs
          exact hC V4 n 1 _ qa none _ _ ls hf I hw hl
      · rw [if_neg hz] at egs
        have hu : u = some (qa 0) := by rw [hw]; unfold itN; rw [if_pos (by omega)]
        subst hu
        refine lv_aload_n hx hb dX1_sheet_51 rfl (lv_at hl 0 rfl) ?_
        refine lv_ifnonnull (tgt := 62) hx hb dX1_sheet_52 (by decide) ?_
        refine lv_iconst (v := (1 : Int32)) hx hb dX1_sheet_62 (by decide) ?_
        refine lv_goto (tgt := 67) hx hb dX1_sheet_63 (by decide) ?_
        subst egs
        exact hC V4 n 1 _ qa _ _ _ ls hf I hw hl
  cases u with
  | none =>
    refine lv_astore_nN (lv' := [(2, .null), (1, .int n), (0, .ref (ad 0))]) hx hb dX1_sheet_39 rfl hl (by decide) rfl (fun ls hl => ?_)
    exact hA2 ls hl
  | some q =>
    refine lv_astore_n (lv' := [(2, .ref q), (1, .int n), (0, .ref (ad 0))]) hx hb dX1_sheet_39 rfl hl (by decide) rfl (fun ls hl => ?_)
    exact hA2 ls hl
