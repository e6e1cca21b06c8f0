/-! items, sheet: the chain of items beside the world -/
set_option maxRecDepth 100000
def itD : It × Int32 := ((0, 0, 0, 0), 0)
def itE (x0 : Nat) (qa : Nat → Nat) (L : List (It × Int32)) (k : Nat) : va_E := itc x0 (L.getD k itD).1 (L.getD k itD).2 (if k + 1 < L.length then .ref (qa (k + 1)) else .null)
def itw (x0 : Nat) (qa : Nat → Nat) (L : List (It × Int32)) : va_W := w6_fl L.length qa (itE x0 qa L)
theorem itw_at {x0 : Nat} {qa : Nat → Nat} {L : List (It × Int32)} {k : Nat} (h : k < L.length) : (itw x0 qa L)[k]? = some (qa k, itE x0 qa L k) := by
  have := w6_fl_at (ad := qa) (E := itE x0 qa L) (wr := []) h
  rw [List.append_nil] at this
  exact this
theorem itw_no {x0 : Nat} {qa : Nat → Nat} {L : List (It × Int32)} {k : Nat} (h : L.length ≤ k) : (itw x0 qa L)[k]? = none := List.getElem?_eq_none (by unfold itw; rw [w6_fl_len]; exact h)
theorem itw_len {x0 : Nat} {qa : Nat → Nat} {L : List (It × Int32)} : (itw x0 qa L).length = L.length := w6_fl_len _ _ _
theorem itw_one {x0 q : Nat} {qa : Nat → Nat} {z : It × Int32} : itw x0 qa [] ++ [(q, itc x0 z.1 z.2 .null)] = itw x0 (va_up qa 0 q) ([] ++ [z]) := by
  show [(q, itc x0 z.1 z.2 .null)] = [(va_up qa 0 q 0, itE x0 (va_up qa 0 q) [z] 0)]
  simp [va_up, itE]
theorem itw_snoc {x0 q : Nat} {qa : Nat → Nat} {L : List (It × Int32)} {z : It × Int32} (h : 0 < L.length) : (itw x0 qa L ++ [(q, itc x0 z.1 z.2 .null)]).set (L.length - 1) (qa (L.length - 1), itc x0 (L.getD (L.length - 1) itD).1 (L.getD (L.length - 1) itD).2 (.ref q)) = itw x0 (va_up qa L.length q) (L ++ [z]) := by
  apply List.ext_getElem?
  intro j
  rw [List.getElem?_set]
  have hlen : (itw x0 qa L).length = L.length := itw_len
  by_cases hj : L.length - 1 = j
  · subst hj
    rw [if_pos rfl, if_pos (by rw [List.length_append, hlen]; show _ < L.length + 1; omega), itw_at (by rw [List.length_append]; show _ < L.length + 1; omega)]
    unfold itE
    rw [if_pos (by rw [List.length_append]; show _ < L.length + 1; omega)]
    have e1 : (L ++ [z]).getD (L.length - 1) itD = L.getD (L.length - 1) itD := by
      simp only [List.getD_eq_getElem?_getD]
      rw [List.getElem?_append_left (by omega)]
    rw [e1]
    have e2 : L.length - 1 + 1 = L.length := by omega
    have e3 : va_up qa L.length q (L.length - 1) = qa (L.length - 1) := by unfold va_up; rw [if_neg (by omega)]
    have e4 : va_up qa L.length q L.length = q := by unfold va_up; rw [if_pos rfl]
    rw [e2, e3, e4]
  · rw [if_neg hj]
    by_cases h1 : j < L.length
    · rw [List.getElem?_append_left (by rw [hlen]; exact h1), itw_at h1, itw_at (by rw [List.length_append]; show _ < L.length + 1; omega)]
      unfold itE
      have e1 : (L ++ [z]).getD j itD = L.getD j itD := by
        simp only [List.getD_eq_getElem?_getD]
        rw [List.getElem?_append_left h1]
      have e3 : va_up qa L.length q j = qa j := by unfold va_up; rw [if_neg (by omega)]
      have e4 : va_up qa L.length q (j + 1) = qa (j + 1) := by unfold va_up; rw [if_neg (by omega)]
      rw [e1, e3, e4, if_pos (show j + 1 < L.length by omega), if_pos (by rw [List.length_append]; show _ < L.length + 1; omega)]
    · rw [List.getElem?_append_right (by rw [hlen]; omega), hlen]
      by_cases h2 : j = L.length
      · subst h2
        rw [itw_at (by rw [List.length_append]; show _ < L.length + 1; omega), Nat.sub_self]
        unfold itE
        have e1 : (L ++ [z]).getD L.length itD = z := by simp [List.getD_eq_getElem?_getD]
        have e4 : va_up qa L.length q L.length = q := by unfold va_up; rw [if_pos rfl]
        rw [e1, e4, if_neg (by rw [List.length_append]; show ¬ _ < L.length + 1; omega)]
        rfl
      · rw [itw_no (by rw [List.length_append]; show L.length + 1 ≤ j; omega)]
        rw [List.getElem?_eq_none (by show 1 ≤ _; omega)]
theorem w6_er {α : Type} : ∀ (l : List α) (k : Nat) (x : α), l[k]? = some x → l.Perm (x :: l.eraseIdx k)
  | [], k, x, h => by simp at h
  | a :: l, 0, x, h => by
    rw [List.getElem?_cons_zero] at h
    cases h
    exact List.Perm.refl _
  | a :: l, k + 1, x, h => by
    rw [List.getElem?_cons_succ] at h
    have := w6_er l k x h
    rw [List.eraseIdx_cons_succ]
    exact (this.cons a).trans (List.Perm.swap x a _)
def x_items_l : Nat → Mm → List (It × Int32) → Option (Option (List (It × Int32)) × Mm)
  | 0, _, _ => none
  | n + 1, V, L => if V.1 0 14 ≤ V.1 0 13 then some (some L, V) else gd_ (L.length < 80) (bi_ (x_item V) fun i V1 => match i with
    | none => some (none, V1)
    | some z => lt_ (mset V1 0 15 (V1.1 0 15 + 1)) fun V2 => x_items_l n V2 (L ++ [z]))
def x_items (V : Mm) : Option (Option (List (It × Int32)) × Mm) := lt_ (mset V 0 15 0) fun V1 => x_items_l 200 V1 []
def itN (qa : Nat → Nat) (n : Nat) (k : Nat) : Option Nat := if k < n then some (qa k) else none
def itR (qa : Nat → Nat) (res : Option (List (It × Int32))) : Option Nat := match res with
  | none => none
  | some L => itN qa L.length 0
def itX (x0 : Nat) (qa : Nat → Nat) (res : Option (List (It × Int32))) : va_W := match res with
  | none => []
  | some L => itw x0 qa L
def CTit (l : Launch) (D : va_G) (g : Nat → ClassId) (rm : Room) (x0 : Nat) (w w' : va_W) (res : Option (List (It × Int32))) : Prop :=
  ∀ sz, Met l yX1_items (ws_ yX1_items cX1_items 4 (some (.object "SixWhoTurn$Item"))) rm (w6_Pc D g [.ref x0] w sz) (va_Qq (fun (r : Option Nat) (u : Nat → Nat) => r = itR u res) (fun u t => w6_B D g w (w' ++ itX x0 u res) sz t) (va_A w sz)) rm.cells rm.slots (va_A w sz)
theorem hdX1_items : w6_hd yX1_items 0 := by decide +kernel
abbrev rmX1_items : Room := { frames := 7, cells := 80, slots := 560, locals := 157 }
set_option maxHeartbeats 4000000 in
theorem ctx_items (l : Launch) (D : va_G) (g : Nat → ClassId) (ad : Nat → Nat) (V : Mm) (res : Option (List (It × Int32))) (V' : Mm) (hf : x_items V = some (res, V')) : CTit l D g rmX1_items (ad 0) (xw g ad V) (xw g ad V') res := by
  intro sz
  refine w6_start RX1 (by decide) (Nat.le_of_ble_eq_true rfl) rfl (fun p e s m below meth c A ls hsz hA hr hlocks F I hl => ?_)
  subst hsz
  have hx := F.1.1
  have hb := F.1.2.1
  have hown := F.1.2.2.2.1
  have hts := F.1.2.2.2.2
  have hl : lv_has ls 4 [(0, .ref (ad 0))] := hl
  have hret : ∀ (qa : Nat → Nat) (V1 : Mm) (r1 : Option (List (It × Int32))) (u : Option Nat) (pc : Nat) (H : Heap) (locs : List Loc) (ls : Array Slot), decode cX1_items pc = .ok (.areturn, 1) → w6_I D (xw g ad V1 ++ itX (ad 0) qa r1) A s H locs → u = itR qa r1 → some (r1, V1) = some (res, V') → W p l e rmX1_items s m ([.ref (ad 0)] : List Value).toArray below meth c H locs 80 560 (MQ below (va_Qq (fun (r : Option Nat) (u : Nat → Nat) => r = itR u res) (fun u t => w6_B D g (xw g ad V) (xw g ad V' ++ itX (ad 0) u res) s.heap.size t) (va_A (xw g ad V) s.heap.size)) ([.ref (ad 0)] : List Value).toArray s 80 560 A) (F0 m pc ls [va_rf u]) := by
    intro qa V1 r1 u pc H locs ls hdg I hu hf
    obtain ⟨e1, e2⟩ := so_e hf
    subst e1 e2
    exact W.aret F.1.1 F.1.2.1 hr (Or.inl ⟨_, rfl⟩) (va_rf_or u) (fun t ht hW => ⟨⟨u, qa, rfl, hu, (w6_end F hA I.nil' ht hW).1⟩, (w6_end F hA I.nil' ht hW).2⟩) I.2.2.2.2 hdg hlocks
  show W p l e rmX1_items s m _ below meth c s.heap [] 0 0 (MQ below _ _ s 80 560 A) _
  generalize hQ : MQ below _ ([.ref (ad 0)] : List Value).toArray s 80 560 A = Q at hret ⊢
  have hL : ∀ (n : Nat) (V : Mm) (L : List (It × Int32)) (qa : Nat → Nat) (H : Heap) (locs : List Loc) (ls : Array Slot) (kc ks : Nat), x_items_l n V L = some (res, V') → w6_I D (xw g ad V ++ itw (ad 0) qa L) A s H locs → lv_has ls 4 [(0, .ref (ad 0)), (1, va_rf (itN qa L.length 0)), (2, va_rf (itN qa L.length (L.length - 1)))] → L.length ≤ 80 → kc = L.length → ks = 7 * L.length → W p l e rmX1_items s m ([.ref (ad 0)] : List Value).toArray below meth c H locs kc ks Q (F0 m 9 ls []) := by
    intro n
    induction n with
    | zero =>
      intro V L qa H locs ls kc ks hf
      rw [x_items_l] at hf
      cases hf
    | succ n ih =>
      intro V L qa H locs ls kc ks hf I hl hle hkc hks
      rw [x_items_l] at hf
      refine lv_aload_n hx hb dX1_items_9 rfl (lv_at hl 0 rfl) ?_
      refine w6_get F I xo_ob rfl in_X1 13 (by decide) q170 rfl rfl dX1_items_10 ?_
      refine lv_aload_n hx hb dX1_items_13 rfl (lv_at hl 0 rfl) ?_
      refine w6_get F I xo_ob rfl in_X1 14 (by decide) q171 rfl rfl dX1_items_14 ?_
      refine lv_icmp_ge (tgt := 60) hx hb dX1_items_17 (by decide) (fun b0 => ?_) (fun b0 => ?_)
      · have hf := if_p b0 hf
        refine W.widen (k := 80) (n := 560) (by omega) (by omega) ?_
        have key : ∀ u, u = itN qa L.length 0 → lv_has ls 4 [(1, va_rf u)] → W p l e rmX1_items s m ([.ref (ad 0)] : List Value).toArray below meth c H locs 80 560 Q (F0 m 60 ls []) := by
          intro u hu hl
          cases u with
          | none =>
            refine lv_aload_nN hx hb dX1_items_60 rfl (lv_at hl 0 rfl) ?_
            exact hret qa V (some L) none _ _ _ _ dX1_items_61 I hu hf
          | some q =>
            refine lv_aload_n hx hb dX1_items_60 rfl (lv_at hl 0 rfl) ?_
            exact hret qa V (some L) (some q) _ _ _ _ dX1_items_61 I hu hf
        exact key _ rfl (lv_sub hl [1] rfl)
      · have hf := if_n b0 hf
        obtain ⟨hlt, hf⟩ := gd_e hf
        obtain ⟨z, V1, h1, hf⟩ := bi_e hf
        refine lv_aload_n hx hb dX1_items_20 rfl (lv_at hl 0 rfl) ?_
        refine xc_Vq F I (ctx_item l D g ad V z V1 h1) (lw_V q404 q406 qs6 q47 q407) hdX1_item rfl (Nat.le_of_ble_eq_true rfl) (Nat.le_of_ble_eq_true rfl) (w6_recv F I xo_ob rfl) rfl hl.1 [] rfl (Nat.le_of_ble_eq_true rfl) dX1_items_21 ⟨by show kc + 1 ≤ 80; omega, by show ks + 7 ≤ 560; omega⟩ (fun u H locs hu I => ?_)
        cases z with
        | none =>
          cases u with
          | some q => cases hu
          | none =>
            refine lv_astore_nN (lv' := [(3, .null), (0, .ref (ad 0)), (1, va_rf (itN qa L.length 0)), (2, va_rf (itN qa L.length (L.length - 1)))]) hx hb dX1_items_24 rfl hl (by decide) (by cases itN qa L.length (L.length - 1) <;> rfl) (fun ls hl => ?_)
            refine lv_aload_nN hx hb dX1_items_25 rfl (lv_at hl 0 rfl) ?_
            refine lv_ifnonnullN hx hb dX1_items_26 ?_
            refine lv_null hx hb dX1_items_29 ?_
            refine W.widen (k := 80) (n := 560) (by show kc + 1 ≤ 80; omega) (by show ks + 7 ≤ 560; omega) ?_
            exact hret qa V1 none none _ _ _ _ dX1_items_30 (w6_I.drop I) rfl hf
        | some z =>
          cases u with
          | none => cases hu
          | some q =>
            obtain ⟨V2, eV2, hf⟩ := lt_e hf
            have I : w6_I D (xw g ad V1 ++ (itw (ad 0) qa L ++ [(q, itc (ad 0) z.1 z.2 .null)])) A s H locs := by
              refine I.perm ?_
              show ((xw g ad V1 ++ [(q, itc (ad 0) z.1 z.2 .null)]) ++ itw (ad 0) qa L).Perm _
              rw [List.append_assoc]
              exact List.Perm.append_left _ List.perm_append_comm
            refine lv_astore_n (lv' := [(3, .ref q), (0, .ref (ad 0)), (1, va_rf (itN qa L.length 0)), (2, va_rf (itN qa L.length (L.length - 1)))]) hx hb dX1_items_24 rfl hl (by decide) (by cases itN qa L.length (L.length - 1) <;> rfl) (fun ls hl => ?_)
            refine lv_aload_n hx hb dX1_items_25 rfl (lv_at hl 0 rfl) ?_
            refine lv_ifnonnull (tgt := 31) hx hb dX1_items_26 (by decide) ?_
            have hJ : ∀ (H : Heap) (locs : List Loc) (ls : Array Slot), w6_I D (xw g ad V1 ++ itw (ad 0) (va_up qa L.length q) (L ++ [z])) A s H locs → lv_has ls 4 [(0, .ref (ad 0)), (1, .ref (va_up qa L.length q 0)), (3, .ref q)] → W p l e rmX1_items s m ([.ref (ad 0)] : List Value).toArray below meth c H locs (kc + rmX1_item.cells) (ks + rmX1_item.slots) Q (F0 m 45 ls []) := by
              intro H locs ls I hl
              refine lv_aload_n hx hb dX1_items_45 rfl (lv_at hl 2 rfl) ?_
              refine lv_astore_n (lv' := [(2, .ref q), (0, .ref (ad 0)), (1, .ref (va_up qa L.length q 0)), (3, .ref q)]) hx hb dX1_items_46 rfl hl (by decide) rfl (fun ls hl => ?_)
              refine lv_aload_n hx hb dX1_items_47 rfl (lv_at hl 1 rfl) ?_
              refine lv_dup hx hb dX1_items_48 rfl ?_
              refine w6_get F I xo_ob rfl in_X1 15 (by decide) q172 rfl rfl dX1_items_49 ?_
              refine lv_iconst (v := 1) hx hb dX1_items_52 (by decide) ?_
              refine lv_iadd hx hb dX1_items_53 ?_
              refine w6_put xsh_lc F I xo_ob rfl in_X1 tyX1 tyX1_ok nmX1 15 (by decide) (xo_nf 15 (by decide)) q172 rfl rfl (tyX1_ok 15 (by decide)) rfl rfl dX1_items_54 eV2 (fun H locs I => ?_)
              refine lv_goto (tgt := 9) hx hb dX1_items_57 (by decide) ?_
              have e0 : (L ++ [z]).length = L.length + 1 := by rw [List.length_append]; rfl
              have e1 : itN (va_up qa L.length q) (L ++ [z]).length 0 = some (va_up qa L.length q 0) := by unfold itN; rw [if_pos (by omega)]
              have e2 : itN (va_up qa L.length q) (L ++ [z]).length ((L ++ [z]).length - 1) = some q := by
                unfold itN
                rw [if_pos (by omega), e0, Nat.add_sub_cancel]
                unfold va_up
                rw [if_pos rfl]
              refine ih V2 (L ++ [z]) (va_up qa L.length q) _ _ ls _ _ hf I ?_ (by omega) (by show kc + 1 = _; omega) (by show ks + 7 = _; omega)
              rw [e1, e2]
              exact lv_sub hl [1, 2, 0] rfl
            by_cases hz : L.length = 0
            · have hL0 : L = [] := List.length_eq_zero_iff.mp hz
              subst hL0
              refine lv_aload_nN hx hb dX1_items_31 rfl (lv_at hl 3 rfl) ?_
              refine lv_ifnonnullN hx hb dX1_items_32 ?_
              refine lv_aload_n hx hb dX1_items_35 rfl (lv_at hl 0 rfl) ?_
              refine lv_astore_n (lv' := [(1, .ref q), (3, .ref q), (0, .ref (ad 0)), (2, .null)]) hx hb dX1_items_36 rfl hl (by decide) rfl (fun ls hl => ?_)
              refine lv_goto (tgt := 45) hx hb dX1_items_37 (by decide) ?_
              rw [itw_one] at I
              exact hJ _ _ ls I (lv_sub hl [2, 0, 1] rfl)
            · have hz : 0 < L.length := by omega
              have e1 : itN qa L.length 0 = some (qa 0) := by unfold itN; rw [if_pos hz]
              have e2 : itN qa L.length (L.length - 1) = some (qa (L.length - 1)) := by unfold itN; rw [if_pos (by omega)]
              rw [e1, e2] at hl
              have hl : lv_has ls 4 [(3, .ref q), (0, .ref (ad 0)), (1, .ref (qa 0)), (2, .ref (qa (L.length - 1)))] := hl
              refine lv_aload_n hx hb dX1_items_31 rfl (lv_at hl 3 rfl) ?_
              refine lv_ifnonnull (tgt := 40) hx hb dX1_items_32 (by decide) ?_
              refine lv_aload_n hx hb dX1_items_40 rfl (lv_at hl 3 rfl) ?_
              refine lv_aload_n hx hb dX1_items_41 rfl (lv_at hl 0 rfl) ?_
              have hk : (xw g ad V1 ++ (itw (ad 0) qa L ++ [(q, itc (ad 0) z.1 z.2 .null)]))[71 + (L.length - 1)]? = some (qa (L.length - 1), itc (ad 0) (L.getD (L.length - 1) itD).1 (L.getD (L.length - 1) itD).2 .null) := by
                refine w6_fl_last.trans ?_
                rw [List.getElem?_append_left (by rw [itw_len]; omega), itw_at (by omega)]
                unfold itE
                rw [if_neg (by omega)]
              refine w6_itput_next (k := 71 + (L.length - 1)) F I hk dX1_items_42 (fun H locs I => ?_)
              have I := w6_setr I
              rw [itw_snoc hz] at I
              have e3 : va_up qa L.length q 0 = qa 0 := by unfold va_up; rw [if_neg (by omega)]
              exact hJ _ _ ls I (by rw [e3]; exact lv_sub hl [1, 2, 0] rfl)
  unfold x_items at hf
  obtain ⟨V1, eV1, hf⟩ := lt_e hf
  refine lv_null hx hb dX1_items_0 ?_
  refine lv_astore_nN (lv' := [(1, .null), (0, .ref (ad 0))]) hx hb dX1_items_1 rfl hl (by decide) rfl (fun ls hl => ?_)
  refine lv_null hx hb dX1_items_2 ?_
  refine lv_astore_nN (lv' := [(2, .null), (1, .null), (0, .ref (ad 0))]) hx hb dX1_items_3 rfl hl (by decide) rfl (fun ls hl => ?_)
  refine lv_aload_n hx hb dX1_items_4 rfl (lv_at hl 2 rfl) ?_
  refine lv_iconst (v := 0) hx hb dX1_items_5 (by decide) ?_
  refine w6_put xsh_lc F I xo_ob rfl in_X1 tyX1 tyX1_ok nmX1 15 (by decide) (xo_nf 15 (by decide)) q172 rfl rfl (tyX1_ok 15 (by decide)) rfl rfl dX1_items_6 eV1 (fun H locs I => ?_)
  exact hL 200 V1 [] (fun _ => 0) _ _ ls 0 0 hf I (lv_sub hl [2, 1, 0] rfl) (by decide) rfl rfl
section W6D
variable {p : Program} {l : Launch} {e : Env} {R : Room} {s : State} {m : MethodId} {args : Array Value} {below : List Frame} {meth : Method} {c : Code} {H : Heap} {locs : List Loc} {cells slots : Nat} {Q : State → Prop}
variable {cc : ByteArray} {nL pc : Nat} {ls : Array Slot} {rest : List Value} {D : va_G} {g : Nat → ClassId} {A : Nat → Prop} {ad : Nat → Nat} {wr : va_W}
theorem w6_itdone {V V' : Mm} {q : Nat} {i : It} {b : Int32} {nx : Value} {r : Int32} (F : w6_F p s m args c cc nL "SixWhoTurn" D g A) (I : w6_I D ((xw g ad V ++ [(q, itc (ad 0) i b nx)]) ++ wr) A s H locs) (hf : x_done V i = some (r, V')) (hl : ls.size = nL) (hdg : decode cc pc = .ok (.invokevirtual 291, 3)) (hfr : 6 ≤ R.frames) (hlo : 112 ≤ R.locals) (hcs : cells ≤ R.cells ∧ slots ≤ R.slots) (hW : (rest.map fun v => v.category).sum ≤ 8)
    (kk : ∀ (H1 : Heap) (locs1 : List Loc), w6_I D ((xw g ad V' ++ [(q, itc (ad 0) i b nx)]) ++ wr) A s H1 locs1 → W p l e R s m args below meth c H1 locs1 cells slots Q (F0 m (pc + 3) ls (.int r :: rest))) : W p l e R s m args below meth c H locs cells slots Q (F0 m pc ls (.ref q :: rest)) := by
  by_cases h0 : i.1 = 0
  · exact xz_Ui (C := RX5) (owner := "SixWhoTurn$Item") (x := yItemDone) (n := 0) F I (ctX5_isDone l D g ad V i q b nx r V' hf h0) q613 q54 q596 q598 (va_Decl.abs F.2.2.1.1.2.2.2.1) q611 q612 (by decide) (by decide +kernel) (Nat.le_trans (by decide) hfr) (Nat.le_trans (by decide) hlo) (va_recv F.2.1 I.1 (ci := 3) (q := (RX5, TX5, 5)) (q0 := 71 + 0) rfl ((List.getElem?_append_left (by rw [List.length_append]; show 71 + 0 < (w6_fl 71 ad (xsh g ad V)).length + 1; rw [w6_fl_len]; decide)).trans (w6_fl_last.trans (congrArg (fun z => some (q, z)) (itc_0 h0))))) rfl hl rest rfl hW hdg hcs kk
  by_cases h1 : i.1 = 1
  · exact xz_Ui (C := RX6) (owner := "SixWhoTurn$Item") (x := yItemDone) (n := 0) F I (ctX6_isDone l D g ad V i q b nx r V' hf h1) q609 q55 q596 q598 (va_Decl.abs F.2.2.1.1.2.2.2.1) q607 q608 (by decide) (by decide +kernel) (Nat.le_trans (by decide) hfr) (Nat.le_trans (by decide) hlo) (va_recv F.2.1 I.1 (ci := 4) (q := (RX6, TX6, 5)) (q0 := 71 + 0) rfl ((List.getElem?_append_left (by rw [List.length_append]; show 71 + 0 < (w6_fl 71 ad (xsh g ad V)).length + 1; rw [w6_fl_len]; decide)).trans (w6_fl_last.trans (congrArg (fun z => some (q, z)) (itc_1 h1))))) rfl hl rest rfl hW hdg hcs kk
  by_cases h2 : i.1 = 2
  · exact xz_Ui (C := RX7) (owner := "SixWhoTurn$Item") (x := yItemDone) (n := 0) F I (ctX7_isDone l D g ad V i q b nx r V' hf h2) q605 q56 q596 q598 (va_Decl.abs F.2.2.1.1.2.2.2.1) q603 q604 (by decide) (by decide +kernel) (Nat.le_trans (by decide) hfr) (Nat.le_trans (by decide) hlo) (va_recv F.2.1 I.1 (ci := 5) (q := (RX7, TX7, 6)) (q0 := 71 + 0) rfl ((List.getElem?_append_left (by rw [List.length_append]; show 71 + 0 < (w6_fl 71 ad (xsh g ad V)).length + 1; rw [w6_fl_len]; decide)).trans (w6_fl_last.trans (congrArg (fun z => some (q, z)) (itc_2 h2))))) rfl hl rest rfl hW hdg hcs kk
  exact xz_Ui (C := RX8) (owner := "SixWhoTurn$Item") (x := yItemDone) (n := 0) F I (ctX8_isDone l D g ad V i q b nx r V' hf ⟨h0, h1, h2⟩) q601 q62 q596 q598 (va_Decl.abs F.2.2.1.1.2.2.2.1) q599 q600 (by decide) (by decide +kernel) (Nat.le_trans (by decide) hfr) (Nat.le_trans (by decide) hlo) (va_recv F.2.1 I.1 (ci := 6) (q := (RX8, TX8, 7)) (q0 := 71 + 0) rfl ((List.getElem?_append_left (by rw [List.length_append]; show 71 + 0 < (w6_fl 71 ad (xsh g ad V)).length + 1; rw [w6_fl_len]; decide)).trans (w6_fl_last.trans (congrArg (fun z => some (q, z)) (itc_3 ⟨h0, h1, h2⟩))))) rfl hl rest rfl hW hdg hcs kk
end W6D
