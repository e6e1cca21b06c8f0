/-! the model's constructor: printed by gen/ctor.py -/
set_option maxRecDepth 100000
def m_init2_j247 (V : Mm)   : Option Mm :=
  (m_stand V).bind fun V5 => some V5
def m_init2_j241 (rec205 : Mm → Int32 → Option Mm) (V : Mm)  (a1 : Int32) : Option Mm :=
  lt_ (a1 + (1 : Int32)) fun v9 => rec205 V v9
def m_init2_l219 (rec205 : Mm → Int32 → Option Mm) : Nat → Mm → Int32 → Int32 → Option Mm
  | 0, _, _, _ => none
  | n219 + 1, V, a1, a2 =>
  if (6 : Int32) ≤ a2 then (m_init2_j241 rec205 V a1) else ((m_put V a1 ((8 : Int32) + a2) (-1 : Int32)).bind fun V10 => lt_ (a2 + (1 : Int32)) fun v12 => m_init2_l219 rec205 n219 V10 a1 v12)
def m_init2_l205 : Nat → Mm → Int32 → Option Mm
  | 0, _, _ => none
  | n205 + 1, V, a1 =>
  if (2 : Int32) ≤ a1 then (m_init2_j247 V) else ((m_put V a1 (4 : Int32) (-1 : Int32)).bind fun V7 => m_init2_l219 (m_init2_l205 n205) 200 V7 a1 (0 : Int32))
def m_init2_j175 (V : Mm)   : Option Mm :=
  lt_ (mset V 6 0 (-1 : Int32)) fun V1 => lt_ (mset V1 6 2 (-1 : Int32)) fun V2 => lt_ (mset V2 6 4 (-1 : Int32)) fun V3 => lt_ (mset V3 6 5 (-1 : Int32)) fun V4 => m_init2_l205 200 V4 (0 : Int32)
def m_init2_l152 : Nat → Mm → Int32 → Option Mm
  | 0, _, _ => none
  | n152 + 1, V, a1 =>
  if (96 : Int32) ≤ a1 then (m_init2_j175 V) else (gd_ (ix_ a1 96) (lt_ (mset V 1 a1.toNatClampNeg (50 : Int32)) fun V14 => lt_ (a1 + (1 : Int32)) fun v15 => m_init2_l152 n152 V14 v15))
def m_init2 (V : Mm) : Option Mm :=
  m_init2_l152 200 V (0 : Int32)
abbrev rmX3_init : Room := { frames := 1, cells := 14, slots := 69736, locals := 23 }
set_option maxHeartbeats 4000000 in
theorem m_init2_tail {p : Program} {l : Launch} {e : Env} {s : State} {m : MethodId} {args : Array Value} {below : List Frame} {meth : Method} {c : Code} {H : Heap} {locs : List Loc} {ls : Array Slot} {D : va_G} {g : Nat → ClassId} {A : Nat → Prop} {ad : Nat → Nat} {Q : State → Prop} (V V' : Mm) (hf : m_init2 V = some V') (F : w6_F p s m args c cX3_init 3 RX3 D g A) (I : w6_I D (mw g ad V ++ []) A s H locs) (hl : lv_has ls 3 [(0, .ref (ad 0))]) (hret : ∀ (pc : Nat) (H : Heap) (locs : List Loc) (ls : Array Slot), decode cX3_init pc = .ok (.return_, 1) → w6_I D (mw g ad V' ++ []) A s H locs → W p l e rmX3_init s m args below meth c H locs 14 69736 Q (F0 m pc ls [])) : W p l e rmX3_init s m args below meth c H locs 14 69736 Q (F0 m 150 ls []) := by
  have hx := F.1.1
  have hb := F.1.2.1
  have hown := F.1.2.2.2.1
  have hts := F.1.2.2.2.2
  have hJ247 : ∀ (V : Mm)  (H : Heap) (locs : List Loc) (ls : Array Slot), m_init2_j247 V = some V' → w6_I D (mw g ad V ++ []) A s H locs → lv_has ls 3 [(0, .ref (ad 0))] → W p l e rmX3_init s m args below meth c H locs 14 69736 Q (F0 m 247 ls []) := by
    intro V H locs ls hf I hl
    unfold m_init2_j247 at hf
    refine lv_aload_n hx hb dX3_init_247 rfl (lv_at hl 0 rfl) ?_
    obtain ⟨V5, h6, hf⟩ := bn_e hf
    refine xz_Vv F I (ctm_stand l D g ad V V5 h6 ) (lw_V q760 q762 qs21 q50 q763) hdX3_stand rfl (Nat.le_of_ble_eq_true rfl) (Nat.le_of_ble_eq_true rfl) (w6_recv F I mo_ob rfl) rfl hl.1 [] rfl (Nat.le_of_ble_eq_true rfl) dX3_init_248 ⟨Nat.le_of_ble_eq_true rfl, Nat.le_of_ble_eq_true rfl⟩ (fun H locs I => ?_)
    exact hret _ _ _ _ dX3_init_251 (w6_mv (Option.some.inj hf) I)
  have hL205 : ∀ (n205 : Nat) (V : Mm) (a1 : Int32) (H : Heap) (locs : List Loc) (ls : Array Slot), m_init2_l205 n205 V a1 = some V' → w6_I D (mw g ad V ++ []) A s H locs → lv_has ls 3 [(0, .ref (ad 0)), (1, .int a1)] → W p l e rmX3_init s m args below meth c H locs 14 69736 Q (F0 m 205 ls []) := by
    intro n205
    induction n205 with
    | zero =>
      intro V a1 H locs ls hf
      rw [m_init2_l205] at hf
      cases hf
    | succ n205 ih205 =>
      have hJ241 : ∀ (V : Mm) (a1 : Int32) (H : Heap) (locs : List Loc) (ls : Array Slot), m_init2_j241 (m_init2_l205 n205) V a1 = some V' → w6_I D (mw g ad V ++ []) A s H locs → lv_has ls 3 [(0, .ref (ad 0)), (1, .int a1)] → W p l e rmX3_init s m args below meth c H locs 14 69736 Q (F0 m 241 ls []) := by
        intro V a1 H locs ls hf I hl
        unfold m_init2_j241 at hf
        obtain ⟨v9, ev9, hf⟩ := lt_e hf
        refine lv_iinc (v := v9) (lv' := [(1, .int v9), (0, .ref (ad 0))]) hx hb dX3_init_241 hl (k := 1) rfl (by rw [ev9]; rfl) (by decide) rfl (fun ls hl => ?_)
        refine lv_goto (tgt := 205) hx hb dX3_init_244 (by decide) ?_
        exact ih205 V v9 _ _ ls hf I (lv_sub hl [1, 0] rfl)
      have hL219 : ∀ (n219 : Nat) (V : Mm) (a1 : Int32) (a2 : Int32) (H : Heap) (locs : List Loc) (ls : Array Slot), m_init2_l219 (m_init2_l205 n205) n219 V a1 a2 = some V' → w6_I D (mw g ad V ++ []) A s H locs → lv_has ls 3 [(0, .ref (ad 0)), (1, .int a1), (2, .int a2)] → W p l e rmX3_init s m args below meth c H locs 14 69736 Q (F0 m 219 ls []) := by
        intro n219
        induction n219 with
        | zero =>
          intro V a1 a2 H locs ls hf
          rw [m_init2_l219] at hf
          cases hf
        | succ n219 ih219 =>
          intro V a1 a2 H locs ls hf I hl
          rw [m_init2_l219] at hf
          refine lv_iload_n hx hb dX3_init_219 rfl (lv_at hl 2 rfl) ?_
          refine lv_bipush (v := (6 : Int32)) hx hb dX3_init_220 (by decide) ?_
          refine lv_icmp_ge (tgt := 241) hx hb dX3_init_222 (by decide) (fun c => ?_) (fun c => ?_)
          · have hf := if_p c hf
            exact hJ241 V a1 _ _ ls hf I (lv_sub hl [0, 1] rfl)
          · have hf := if_n c hf
            refine lv_aload_n hx hb dX3_init_225 rfl (lv_at hl 0 rfl) ?_
            refine lv_iload_n hx hb dX3_init_226 rfl (lv_at hl 1 rfl) ?_
            refine lv_bipush (v := (8 : Int32)) hx hb dX3_init_227 (by decide) ?_
            refine lv_iload_n hx hb dX3_init_229 rfl (lv_at hl 2 rfl) ?_
            refine lv_iadd hx hb dX3_init_230 ?_
            refine lv_iconst (v := (-1 : Int32)) hx hb dX3_init_231 (by decide) ?_
            obtain ⟨V10, h11, hf⟩ := bn_e hf
            refine xz_Vv F I (ctm_put l D g ad V a1 ((8 : Int32) + a2) (-1 : Int32) V10 h11 ) (lw_V q756 q758 qs20 q50 q759) hdX3_put rfl (Nat.le_of_ble_eq_true rfl) (Nat.le_of_ble_eq_true rfl) (w6_recv F I mo_ob rfl) rfl hl.1 [] rfl (Nat.le_of_ble_eq_true rfl) dX3_init_232 ⟨Nat.le_of_ble_eq_true rfl, Nat.le_of_ble_eq_true rfl⟩ (fun H locs I => ?_)
            obtain ⟨v12, ev12, hf⟩ := lt_e hf
            refine lv_iinc (v := v12) (lv' := [(2, .int v12), (0, .ref (ad 0)), (1, .int a1)]) hx hb dX3_init_235 hl (k := 2) rfl (by rw [ev12]; rfl) (by decide) rfl (fun ls hl => ?_)
            refine lv_goto (tgt := 219) hx hb dX3_init_238 (by decide) ?_
            exact ih219 V10 a1 v12 _ _ ls hf I (lv_sub hl [1, 2, 0] rfl)
      intro V a1 H locs ls hf I hl
      rw [m_init2_l205] at hf
      refine lv_iload_n hx hb dX3_init_205 rfl (lv_at hl 1 rfl) ?_
      refine lv_iconst (v := (2 : Int32)) hx hb dX3_init_206 (by decide) ?_
      refine lv_icmp_ge (tgt := 247) hx hb dX3_init_207 (by decide) (fun c => ?_) (fun c => ?_)
      · have hf := if_p c hf
        exact hJ247 V _ _ ls hf I (lv_sub hl [0] rfl)
      · have hf := if_n c hf
        refine lv_aload_n hx hb dX3_init_210 rfl (lv_at hl 0 rfl) ?_
        refine lv_iload_n hx hb dX3_init_211 rfl (lv_at hl 1 rfl) ?_
        refine lv_iconst (v := (4 : Int32)) hx hb dX3_init_212 (by decide) ?_
        refine lv_iconst (v := (-1 : Int32)) hx hb dX3_init_213 (by decide) ?_
        obtain ⟨V7, h8, hf⟩ := bn_e hf
        refine xz_Vv F I (ctm_put l D g ad V a1 (4 : Int32) (-1 : Int32) V7 h8 ) (lw_V q756 q758 qs20 q50 q759) hdX3_put rfl (Nat.le_of_ble_eq_true rfl) (Nat.le_of_ble_eq_true rfl) (w6_recv F I mo_ob rfl) rfl hl.1 [] rfl (Nat.le_of_ble_eq_true rfl) dX3_init_214 ⟨Nat.le_of_ble_eq_true rfl, Nat.le_of_ble_eq_true rfl⟩ (fun H locs I => ?_)
        refine lv_iconst (v := (0 : Int32)) hx hb dX3_init_217 (by decide) ?_
        refine lv_istore_n (lv' := [(2, .int (0 : Int32)), (0, .ref (ad 0)), (1, .int a1)]) hx hb dX3_init_218 rfl hl (by decide) rfl (fun ls hl => ?_)
        exact hL219 200 V7 a1 (0 : Int32) _ _ ls hf I (lv_sub hl [1, 2, 0] rfl)
  have hJ175 : ∀ (V : Mm)  (H : Heap) (locs : List Loc) (ls : Array Slot), m_init2_j175 V = some V' → w6_I D (mw g ad V ++ []) A s H locs → lv_has ls 3 [(0, .ref (ad 0))] → W p l e rmX3_init s m args below meth c H locs 14 69736 Q (F0 m 175 ls []) := by
    intro V H locs ls hf I hl
    unfold m_init2_j175 at hf
    refine lv_aload_n hx hb dX3_init_175 rfl (lv_at hl 0 rfl) ?_
    refine w6_get F I mo_ob rfl in_X3 5 (by decide) q769 rfl rfl dX3_init_176 ?_
    refine lv_iconst (v := (0 : Int32)) hx hb dX3_init_179 (by decide) ?_
    refine lv_iconst (v := (-1 : Int32)) hx hb dX3_init_180 (by decide) ?_
    obtain ⟨V1, eV1, hf⟩ := lt_e hf
    refine w6_iast (j := 0) msh_lc F I (m_ar 6 106 (by decide) rfl) (show ix_ (0 : Int32) 106 by decide) rfl dX3_init_181 eV1 (fun H locs I => ?_)
    refine lv_aload_n hx hb dX3_init_182 rfl (lv_at hl 0 rfl) ?_
    refine w6_get F I mo_ob rfl in_X3 5 (by decide) q769 rfl rfl dX3_init_183 ?_
    refine lv_iconst (v := (2 : Int32)) hx hb dX3_init_186 (by decide) ?_
    refine lv_iconst (v := (-1 : Int32)) hx hb dX3_init_187 (by decide) ?_
    obtain ⟨V2, eV2, hf⟩ := lt_e hf
    refine w6_iast (j := 2) msh_lc F I (m_ar 6 106 (by decide) rfl) (show ix_ (2 : Int32) 106 by decide) rfl dX3_init_188 eV2 (fun H locs I => ?_)
    refine lv_aload_n hx hb dX3_init_189 rfl (lv_at hl 0 rfl) ?_
    refine w6_get F I mo_ob rfl in_X3 5 (by decide) q769 rfl rfl dX3_init_190 ?_
    refine lv_iconst (v := (4 : Int32)) hx hb dX3_init_193 (by decide) ?_
    refine lv_iconst (v := (-1 : Int32)) hx hb dX3_init_194 (by decide) ?_
    obtain ⟨V3, eV3, hf⟩ := lt_e hf
    refine w6_iast (j := 4) msh_lc F I (m_ar 6 106 (by decide) rfl) (show ix_ (4 : Int32) 106 by decide) rfl dX3_init_195 eV3 (fun H locs I => ?_)
    refine lv_aload_n hx hb dX3_init_196 rfl (lv_at hl 0 rfl) ?_
    refine w6_get F I mo_ob rfl in_X3 5 (by decide) q769 rfl rfl dX3_init_197 ?_
    refine lv_iconst (v := (5 : Int32)) hx hb dX3_init_200 (by decide) ?_
    refine lv_iconst (v := (-1 : Int32)) hx hb dX3_init_201 (by decide) ?_
    obtain ⟨V4, eV4, hf⟩ := lt_e hf
    refine w6_iast (j := 5) msh_lc F I (m_ar 6 106 (by decide) rfl) (show ix_ (5 : Int32) 106 by decide) rfl dX3_init_202 eV4 (fun H locs I => ?_)
    refine lv_iconst (v := (0 : Int32)) hx hb dX3_init_203 (by decide) ?_
    refine lv_istore_n (lv' := [(1, .int (0 : Int32)), (0, .ref (ad 0))]) hx hb dX3_init_204 rfl hl (by decide) rfl (fun ls hl => ?_)
    exact hL205 200 V4 (0 : Int32) _ _ ls hf I (lv_sub hl [1, 0] rfl)
  have hL152 : ∀ (n152 : Nat) (V : Mm) (a1 : Int32) (H : Heap) (locs : List Loc) (ls : Array Slot), m_init2_l152 n152 V a1 = some V' → w6_I D (mw g ad V ++ []) A s H locs → lv_has ls 3 [(0, .ref (ad 0)), (1, .int a1)] → W p l e rmX3_init s m args below meth c H locs 14 69736 Q (F0 m 152 ls []) := by
    intro n152
    induction n152 with
    | zero =>
      intro V a1 H locs ls hf
      rw [m_init2_l152] at hf
      cases hf
    | succ n152 ih152 =>
      intro V a1 H locs ls hf I hl
      rw [m_init2_l152] at hf
      refine lv_iload_n hx hb dX3_init_152 rfl (lv_at hl 1 rfl) ?_
      refine lv_aload_n hx hb dX3_init_153 rfl (lv_at hl 0 rfl) ?_
      refine w6_get F I mo_ob rfl in_X3 0 (by decide) q764 rfl rfl dX3_init_154 ?_
      refine w6_alen (v := (96 : Int32)) F I (m_ar 1 96 (by decide) rfl) rfl rfl dX3_init_157 ?_
      refine lv_icmp_ge (tgt := 175) hx hb dX3_init_158 (by decide) (fun c => ?_) (fun c => ?_)
      · have hf := if_p c hf
        exact hJ175 V _ _ ls hf I (lv_sub hl [0] rfl)
      · have hf := if_n c hf
        refine lv_aload_n hx hb dX3_init_161 rfl (lv_at hl 0 rfl) ?_
        refine w6_get F I mo_ob rfl in_X3 0 (by decide) q764 rfl rfl dX3_init_162 ?_
        refine lv_iload_n hx hb dX3_init_165 rfl (lv_at hl 1 rfl) ?_
        refine lv_bipush (v := (50 : Int32)) hx hb dX3_init_166 (by decide) ?_
        obtain ⟨g13, hf⟩ := gd_e hf
        obtain ⟨V14, eV14, hf⟩ := lt_e hf
        refine w6_iast (j := a1.toNatClampNeg) msh_lc F I (m_ar 1 96 (by decide) rfl) g13 rfl dX3_init_168 eV14 (fun H locs I => ?_)
        obtain ⟨v15, ev15, hf⟩ := lt_e hf
        refine lv_iinc (v := v15) (lv' := [(1, .int v15), (0, .ref (ad 0))]) hx hb dX3_init_169 hl (k := 1) rfl (by rw [ev15]; rfl) (by decide) rfl (fun ls hl => ?_)
        refine lv_goto (tgt := 152) hx hb dX3_init_172 (by decide) ?_
        exact ih152 V14 v15 _ _ ls hf I (lv_sub hl [1, 0] rfl)
  unfold m_init2 at hf
  refine lv_iconst (v := (0 : Int32)) hx hb dX3_init_150 (by decide) ?_
  refine lv_istore_n (lv' := [(1, .int (0 : Int32)), (0, .ref (ad 0))]) hx hb dX3_init_151 rfl hl (by decide) rfl (fun ls hl => ?_)
  exact hL152 200 V (0 : Int32) _ _ ls hf I (lv_sub hl [1, 0] rfl)
def mAd (q0 q1 q2 q3 q4 q5 q6 q7 q8 q9 q10 q11 q12 q13 q14 : Nat) : Nat → Nat := fun k => [q0, q1, q2, q3, q4, q5, q6, q7, q8, q9, q10, q11, q12, q13, q14].getD k 0
def mU0 : Mm := (fun k => if k = 2 then (upd (upd (fun _ => 0) 0 (-1 : Int32)) 1 (-1 : Int32)) else if k = 3 then (upd (upd (upd (upd (upd (upd (fun _ => 0) 0 (25 : Int32)) 1 (30 : Int32)) 2 (15 : Int32)) 3 (2 : Int32)) 4 (6 : Int32)) 5 (2 : Int32)) else fun _ => 0, fun _ => 0)
def m_init : Option Mm := m_init2 mU0
theorem hdX3_init : w6_hd yX3_init 0 := by decide +kernel
set_option maxHeartbeats 8000000 in
theorem ctm_init (l : Launch) (D : va_G) (g : Nat → ClassId) (q0 : Nat) (U' : Mm) (hf : m_init = some U') (sz : Nat) : Met l yX3_init (ws_ yX3_init cX3_init 3 none) rmX3_init (w6_Pc D g [.ref q0] [(q0, .inr (2, [.null, .null, .null, .null, .null, .null, .null, .null, .null, .null, .int 0, .int 0, .int 0, .int 0, .null, .null, .null, .null]))] sz) (va_Qv (fun (ad : Nat → Nat) => ad 0 = q0) (fun ad t => w6_B D g [(q0, .inr (2, [.null, .null, .null, .null, .null, .null, .null, .null, .null, .null, .int 0, .int 0, .int 0, .int 0, .null, .null, .null, .null]))] (mw g ad U') sz t) (va_A [(q0, .inr (2, [.null, .null, .null, .null, .null, .null, .null, .null, .null, .null, .int 0, .int 0, .int 0, .int 0, .null, .null, .null, .null]))] sz)) rmX3_init.cells rmX3_init.slots (va_A [(q0, .inr (2, [.null, .null, .null, .null, .null, .null, .null, .null, .null, .null, .int 0, .int 0, .int 0, .int 0, .null, .null, .null, .null]))] sz) := by
  refine w6_startc RX3 (by decide) (Nat.le_of_ble_eq_true rfl) rfl (fun p e s m below meth c A ls hsz hA hin hr hlocks hx hb hown hts F I hl => ?_)
  subst hsz
  have hl : lv_has ls 3 [(0, .ref q0)] := hl
  have I := I.nil
  refine lv_aload_n hx hb dX3_init_0 rfl (lv_at hl 0 rfl) ?_
  refine W.objInit hx hb hown (hts _ q754) (hts _ q73) (hts _ q74) rfl (hl.1.trans F.1.2.2.1.symm) rfl dX3_init_1 (Nat.le_of_ble_eq_true rfl) (Nat.le_of_ble_eq_true rfl) ?_
  refine W.eq (g2 := F0 m 4 ls []) rfl ?_
  refine lv_aload_n hx hb dX3_init_4 rfl (lv_at hl 0 rfl) ?_
  refine lv_bipush (v := (96 : Int32)) hx hb dX3_init_5 (by decide) ?_
  refine w6_newa (atype := .int) (t := 0) (n' := 96) (a0 := (96, .inl (fun _ => 0))) F I q148 rfl rfl (fun _ => rfl) (by decide) rfl (Nat.le_of_ble_eq_true rfl) (Nat.le_of_ble_eq_true rfl) (Nat.le_of_ble_eq_true rfl) dX3_init_7 (fun q1 H I => ?_)
  have I : w6_I D [(q0, .inr (2, [.null, .null, .null, .null, .null, .null, .null, .null, .null, .null, .int 0, .int 0, .int 0, .int 0, .null, .null, .null, .null])), (q1, .inl (g 0, 96, .inl (fun _ => 0)))] A s H _ := I
  refine va_putF (D := D) (ci := 2) (v := .ref q1) (ty := .array .int) (C := RX3) (T := TX3) (N := 18) hx hb hts in_X3 tyX3 tyX3_ok nmX3 hown F.2.1 I.1 I.2.1 I.2.2 0 rfl rfl 0 (by decide) (hts _ q764) (fun _ h => h) rfl hin rfl (by decide +kernel) rfl rfl (Nat.le_of_ble_eq_true rfl) dX3_init_9 (fun H locs hP hD hS => ?_)
  have I : w6_I D [(q0, .inr (2, [.ref q1, .null, .null, .null, .null, .null, .null, .null, .null, .null, .int 0, .int 0, .int 0, .int 0, .null, .null, .null, .null])), (q1, .inl (g 0, 96, .inl (fun _ => 0)))] A s H _ := ⟨hP, hD, hS⟩
  refine lv_aload_n hx hb dX3_init_12 rfl (lv_at hl 0 rfl) ?_
  refine lv_iconst (v := (2 : Int32)) hx hb dX3_init_13 (by decide) ?_
  refine w6_newa (atype := .int) (t := 0) (n' := 2) (a0 := (2, .inl (fun _ => 0))) F I q148 rfl rfl (fun _ => rfl) (by decide) rfl (Nat.le_of_ble_eq_true rfl) (Nat.le_of_ble_eq_true rfl) (Nat.le_of_ble_eq_true rfl) dX3_init_14 (fun q2 H I => ?_)
  have I : w6_I D [(q0, .inr (2, [.ref q1, .null, .null, .null, .null, .null, .null, .null, .null, .null, .int 0, .int 0, .int 0, .int 0, .null, .null, .null, .null])), (q1, .inl (g 0, 96, .inl (fun _ => 0))), (q2, .inl (g 0, 2, .inl (fun _ => 0)))] A s H _ := I
  refine lv_dup hx hb dX3_init_16 rfl ?_
  refine lv_iconst (v := (0 : Int32)) hx hb dX3_init_17 (by decide) ?_
  refine lv_iconst (v := (-1 : Int32)) hx hb dX3_init_18 (by decide) ?_
  refine va_iast hx hb F.2.1 I.1 I.2.1 I.2.2 2 0 rfl rfl (show ix_ (0 : Int32) 2 by decide) dX3_init_19 (fun H locs hP hD hS => ?_)
  have I : w6_I D [(q0, .inr (2, [.ref q1, .null, .null, .null, .null, .null, .null, .null, .null, .null, .int 0, .int 0, .int 0, .int 0, .null, .null, .null, .null])), (q1, .inl (g 0, 96, .inl (fun _ => 0))), (q2, .inl (g 0, 2, .inl (upd (fun _ => 0) 0 (-1 : Int32))))] A s H _ := ⟨hP, hD, hS⟩
  refine lv_dup hx hb dX3_init_20 rfl ?_
  refine lv_iconst (v := (1 : Int32)) hx hb dX3_init_21 (by decide) ?_
  refine lv_iconst (v := (-1 : Int32)) hx hb dX3_init_22 (by decide) ?_
  refine va_iast hx hb F.2.1 I.1 I.2.1 I.2.2 2 0 rfl rfl (show ix_ (1 : Int32) 2 by decide) dX3_init_23 (fun H locs hP hD hS => ?_)
  have I : w6_I D [(q0, .inr (2, [.ref q1, .null, .null, .null, .null, .null, .null, .null, .null, .null, .int 0, .int 0, .int 0, .int 0, .null, .null, .null, .null])), (q1, .inl (g 0, 96, .inl (fun _ => 0))), (q2, .inl (g 0, 2, .inl (upd (upd (fun _ => 0) 0 (-1 : Int32)) 1 (-1 : Int32))))] A s H _ := ⟨hP, hD, hS⟩
  refine va_putF (D := D) (ci := 2) (v := .ref q2) (ty := .array .int) (C := RX3) (T := TX3) (N := 18) hx hb hts in_X3 tyX3 tyX3_ok nmX3 hown F.2.1 I.1 I.2.1 I.2.2 0 rfl rfl 1 (by decide) (hts _ q765) (fun _ h => h) rfl hin rfl (by decide +kernel) rfl rfl (Nat.le_of_ble_eq_true rfl) dX3_init_24 (fun H locs hP hD hS => ?_)
  have I : w6_I D [(q0, .inr (2, [.ref q1, .ref q2, .null, .null, .null, .null, .null, .null, .null, .null, .int 0, .int 0, .int 0, .int 0, .null, .null, .null, .null])), (q1, .inl (g 0, 96, .inl (fun _ => 0))), (q2, .inl (g 0, 2, .inl (upd (upd (fun _ => 0) 0 (-1 : Int32)) 1 (-1 : Int32))))] A s H _ := ⟨hP, hD, hS⟩
  refine lv_aload_n hx hb dX3_init_27 rfl (lv_at hl 0 rfl) ?_
  refine lv_bipush (v := (6 : Int32)) hx hb dX3_init_28 (by decide) ?_
  refine w6_newa (atype := .int) (t := 0) (n' := 6) (a0 := (6, .inl (fun _ => 0))) F I q148 rfl rfl (fun _ => rfl) (by decide) rfl (Nat.le_of_ble_eq_true rfl) (Nat.le_of_ble_eq_true rfl) (Nat.le_of_ble_eq_true rfl) dX3_init_30 (fun q3 H I => ?_)
  have I : w6_I D [(q0, .inr (2, [.ref q1, .ref q2, .null, .null, .null, .null, .null, .null, .null, .null, .int 0, .int 0, .int 0, .int 0, .null, .null, .null, .null])), (q1, .inl (g 0, 96, .inl (fun _ => 0))), (q2, .inl (g 0, 2, .inl (upd (upd (fun _ => 0) 0 (-1 : Int32)) 1 (-1 : Int32)))), (q3, .inl (g 0, 6, .inl (fun _ => 0)))] A s H _ := I
  refine lv_dup hx hb dX3_init_32 rfl ?_
  refine lv_iconst (v := (0 : Int32)) hx hb dX3_init_33 (by decide) ?_
  refine lv_bipush (v := (25 : Int32)) hx hb dX3_init_34 (by decide) ?_
  refine va_iast hx hb F.2.1 I.1 I.2.1 I.2.2 3 0 rfl rfl (show ix_ (0 : Int32) 6 by decide) dX3_init_36 (fun H locs hP hD hS => ?_)
  have I : w6_I D [(q0, .inr (2, [.ref q1, .ref q2, .null, .null, .null, .null, .null, .null, .null, .null, .int 0, .int 0, .int 0, .int 0, .null, .null, .null, .null])), (q1, .inl (g 0, 96, .inl (fun _ => 0))), (q2, .inl (g 0, 2, .inl (upd (upd (fun _ => 0) 0 (-1 : Int32)) 1 (-1 : Int32)))), (q3, .inl (g 0, 6, .inl (upd (fun _ => 0) 0 (25 : Int32))))] A s H _ := ⟨hP, hD, hS⟩
  refine lv_dup hx hb dX3_init_37 rfl ?_
  refine lv_iconst (v := (1 : Int32)) hx hb dX3_init_38 (by decide) ?_
  refine lv_bipush (v := (30 : Int32)) hx hb dX3_init_39 (by decide) ?_
  refine va_iast hx hb F.2.1 I.1 I.2.1 I.2.2 3 0 rfl rfl (show ix_ (1 : Int32) 6 by decide) dX3_init_41 (fun H locs hP hD hS => ?_)
  have I : w6_I D [(q0, .inr (2, [.ref q1, .ref q2, .null, .null, .null, .null, .null, .null, .null, .null, .int 0, .int 0, .int 0, .int 0, .null, .null, .null, .null])), (q1, .inl (g 0, 96, .inl (fun _ => 0))), (q2, .inl (g 0, 2, .inl (upd (upd (fun _ => 0) 0 (-1 : Int32)) 1 (-1 : Int32)))), (q3, .inl (g 0, 6, .inl (upd (upd (fun _ => 0) 0 (25 : Int32)) 1 (30 : Int32))))] A s H _ := ⟨hP, hD, hS⟩
  refine lv_dup hx hb dX3_init_42 rfl ?_
  refine lv_iconst (v := (2 : Int32)) hx hb dX3_init_43 (by decide) ?_
  refine lv_bipush (v := (15 : Int32)) hx hb dX3_init_44 (by decide) ?_
  refine va_iast hx hb F.2.1 I.1 I.2.1 I.2.2 3 0 rfl rfl (show ix_ (2 : Int32) 6 by decide) dX3_init_46 (fun H locs hP hD hS => ?_)
  have I : w6_I D [(q0, .inr (2, [.ref q1, .ref q2, .null, .null, .null, .null, .null, .null, .null, .null, .int 0, .int 0, .int 0, .int 0, .null, .null, .null, .null])), (q1, .inl (g 0, 96, .inl (fun _ => 0))), (q2, .inl (g 0, 2, .inl (upd (upd (fun _ => 0) 0 (-1 : Int32)) 1 (-1 : Int32)))), (q3, .inl (g 0, 6, .inl (upd (upd (upd (fun _ => 0) 0 (25 : Int32)) 1 (30 : Int32)) 2 (15 : Int32))))] A s H _ := ⟨hP, hD, hS⟩
  refine lv_dup hx hb dX3_init_47 rfl ?_
  refine lv_iconst (v := (3 : Int32)) hx hb dX3_init_48 (by decide) ?_
  refine lv_iconst (v := (2 : Int32)) hx hb dX3_init_49 (by decide) ?_
  refine va_iast hx hb F.2.1 I.1 I.2.1 I.2.2 3 0 rfl rfl (show ix_ (3 : Int32) 6 by decide) dX3_init_50 (fun H locs hP hD hS => ?_)
  have I : w6_I D [(q0, .inr (2, [.ref q1, .ref q2, .null, .null, .null, .null, .null, .null, .null, .null, .int 0, .int 0, .int 0, .int 0, .null, .null, .null, .null])), (q1, .inl (g 0, 96, .inl (fun _ => 0))), (q2, .inl (g 0, 2, .inl (upd (upd (fun _ => 0) 0 (-1 : Int32)) 1 (-1 : Int32)))), (q3, .inl (g 0, 6, .inl (upd (upd (upd (upd (fun _ => 0) 0 (25 : Int32)) 1 (30 : Int32)) 2 (15 : Int32)) 3 (2 : Int32))))] A s H _ := ⟨hP, hD, hS⟩
  refine lv_dup hx hb dX3_init_51 rfl ?_
  refine lv_iconst (v := (4 : Int32)) hx hb dX3_init_52 (by decide) ?_
  refine lv_bipush (v := (6 : Int32)) hx hb dX3_init_53 (by decide) ?_
  refine va_iast hx hb F.2.1 I.1 I.2.1 I.2.2 3 0 rfl rfl (show ix_ (4 : Int32) 6 by decide) dX3_init_55 (fun H locs hP hD hS => ?_)
  have I : w6_I D [(q0, .inr (2, [.ref q1, .ref q2, .null, .null, .null, .null, .null, .null, .null, .null, .int 0, .int 0, .int 0, .int 0, .null, .null, .null, .null])), (q1, .inl (g 0, 96, .inl (fun _ => 0))), (q2, .inl (g 0, 2, .inl (upd (upd (fun _ => 0) 0 (-1 : Int32)) 1 (-1 : Int32)))), (q3, .inl (g 0, 6, .inl (upd (upd (upd (upd (upd (fun _ => 0) 0 (25 : Int32)) 1 (30 : Int32)) 2 (15 : Int32)) 3 (2 : Int32)) 4 (6 : Int32))))] A s H _ := ⟨hP, hD, hS⟩
  refine lv_dup hx hb dX3_init_56 rfl ?_
  refine lv_iconst (v := (5 : Int32)) hx hb dX3_init_57 (by decide) ?_
  refine lv_iconst (v := (2 : Int32)) hx hb dX3_init_58 (by decide) ?_
  refine va_iast hx hb F.2.1 I.1 I.2.1 I.2.2 3 0 rfl rfl (show ix_ (5 : Int32) 6 by decide) dX3_init_59 (fun H locs hP hD hS => ?_)
  have I : w6_I D [(q0, .inr (2, [.ref q1, .ref q2, .null, .null, .null, .null, .null, .null, .null, .null, .int 0, .int 0, .int 0, .int 0, .null, .null, .null, .null])), (q1, .inl (g 0, 96, .inl (fun _ => 0))), (q2, .inl (g 0, 2, .inl (upd (upd (fun _ => 0) 0 (-1 : Int32)) 1 (-1 : Int32)))), (q3, .inl (g 0, 6, .inl (upd (upd (upd (upd (upd (upd (fun _ => 0) 0 (25 : Int32)) 1 (30 : Int32)) 2 (15 : Int32)) 3 (2 : Int32)) 4 (6 : Int32)) 5 (2 : Int32))))] A s H _ := ⟨hP, hD, hS⟩
  refine va_putF (D := D) (ci := 2) (v := .ref q3) (ty := .array .int) (C := RX3) (T := TX3) (N := 18) hx hb hts in_X3 tyX3 tyX3_ok nmX3 hown F.2.1 I.1 I.2.1 I.2.2 0 rfl rfl 2 (by decide) (hts _ q766) (fun _ h => h) rfl hin rfl (by decide +kernel) rfl rfl (Nat.le_of_ble_eq_true rfl) dX3_init_60 (fun H locs hP hD hS => ?_)
  have I : w6_I D [(q0, .inr (2, [.ref q1, .ref q2, .ref q3, .null, .null, .null, .null, .null, .null, .null, .int 0, .int 0, .int 0, .int 0, .null, .null, .null, .null])), (q1, .inl (g 0, 96, .inl (fun _ => 0))), (q2, .inl (g 0, 2, .inl (upd (upd (fun _ => 0) 0 (-1 : Int32)) 1 (-1 : Int32)))), (q3, .inl (g 0, 6, .inl (upd (upd (upd (upd (upd (upd (fun _ => 0) 0 (25 : Int32)) 1 (30 : Int32)) 2 (15 : Int32)) 3 (2 : Int32)) 4 (6 : Int32)) 5 (2 : Int32))))] A s H _ := ⟨hP, hD, hS⟩
  refine lv_aload_n hx hb dX3_init_63 rfl (lv_at hl 0 rfl) ?_
  refine lv_bipush (v := (12 : Int32)) hx hb dX3_init_64 (by decide) ?_
  refine w6_newa (atype := .int) (t := 0) (n' := 12) (a0 := (12, .inl (fun _ => 0))) F I q148 rfl rfl (fun _ => rfl) (by decide) rfl (Nat.le_of_ble_eq_true rfl) (Nat.le_of_ble_eq_true rfl) (Nat.le_of_ble_eq_true rfl) dX3_init_66 (fun q4 H I => ?_)
  have I : w6_I D [(q0, .inr (2, [.ref q1, .ref q2, .ref q3, .null, .null, .null, .null, .null, .null, .null, .int 0, .int 0, .int 0, .int 0, .null, .null, .null, .null])), (q1, .inl (g 0, 96, .inl (fun _ => 0))), (q2, .inl (g 0, 2, .inl (upd (upd (fun _ => 0) 0 (-1 : Int32)) 1 (-1 : Int32)))), (q3, .inl (g 0, 6, .inl (upd (upd (upd (upd (upd (upd (fun _ => 0) 0 (25 : Int32)) 1 (30 : Int32)) 2 (15 : Int32)) 3 (2 : Int32)) 4 (6 : Int32)) 5 (2 : Int32)))), (q4, .inl (g 0, 12, .inl (fun _ => 0)))] A s H _ := I
  refine va_putF (D := D) (ci := 2) (v := .ref q4) (ty := .array .int) (C := RX3) (T := TX3) (N := 18) hx hb hts in_X3 tyX3 tyX3_ok nmX3 hown F.2.1 I.1 I.2.1 I.2.2 0 rfl rfl 3 (by decide) (hts _ q767) (fun _ h => h) rfl hin rfl (by decide +kernel) rfl rfl (Nat.le_of_ble_eq_true rfl) dX3_init_68 (fun H locs hP hD hS => ?_)
  have I : w6_I D [(q0, .inr (2, [.ref q1, .ref q2, .ref q3, .ref q4, .null, .null, .null, .null, .null, .null, .int 0, .int 0, .int 0, .int 0, .null, .null, .null, .null])), (q1, .inl (g 0, 96, .inl (fun _ => 0))), (q2, .inl (g 0, 2, .inl (upd (upd (fun _ => 0) 0 (-1 : Int32)) 1 (-1 : Int32)))), (q3, .inl (g 0, 6, .inl (upd (upd (upd (upd (upd (upd (fun _ => 0) 0 (25 : Int32)) 1 (30 : Int32)) 2 (15 : Int32)) 3 (2 : Int32)) 4 (6 : Int32)) 5 (2 : Int32)))), (q4, .inl (g 0, 12, .inl (fun _ => 0)))] A s H _ := ⟨hP, hD, hS⟩
  refine lv_aload_n hx hb dX3_init_71 rfl (lv_at hl 0 rfl) ?_
  refine lv_iconst (v := (2 : Int32)) hx hb dX3_init_72 (by decide) ?_
  refine w6_newa (atype := .boolean) (t := 1) (n' := 2) (a0 := (2, .inl (fun _ => 0))) F I q149 rfl rfl (fun _ => rfl) (by decide) rfl (Nat.le_of_ble_eq_true rfl) (Nat.le_of_ble_eq_true rfl) (Nat.le_of_ble_eq_true rfl) dX3_init_73 (fun q5 H I => ?_)
  have I : w6_I D [(q0, .inr (2, [.ref q1, .ref q2, .ref q3, .ref q4, .null, .null, .null, .null, .null, .null, .int 0, .int 0, .int 0, .int 0, .null, .null, .null, .null])), (q1, .inl (g 0, 96, .inl (fun _ => 0))), (q2, .inl (g 0, 2, .inl (upd (upd (fun _ => 0) 0 (-1 : Int32)) 1 (-1 : Int32)))), (q3, .inl (g 0, 6, .inl (upd (upd (upd (upd (upd (upd (fun _ => 0) 0 (25 : Int32)) 1 (30 : Int32)) 2 (15 : Int32)) 3 (2 : Int32)) 4 (6 : Int32)) 5 (2 : Int32)))), (q4, .inl (g 0, 12, .inl (fun _ => 0))), (q5, .inl (g 1, 2, .inl (fun _ => 0)))] A s H _ := I
  refine va_putF (D := D) (ci := 2) (v := .ref q5) (ty := .array .boolean) (C := RX3) (T := TX3) (N := 18) hx hb hts in_X3 tyX3 tyX3_ok nmX3 hown F.2.1 I.1 I.2.1 I.2.2 0 rfl rfl 4 (by decide) (hts _ q768) (fun _ h => h) rfl hin rfl (by decide +kernel) rfl rfl (Nat.le_of_ble_eq_true rfl) dX3_init_75 (fun H locs hP hD hS => ?_)
  have I : w6_I D [(q0, .inr (2, [.ref q1, .ref q2, .ref q3, .ref q4, .ref q5, .null, .null, .null, .null, .null, .int 0, .int 0, .int 0, .int 0, .null, .null, .null, .null])), (q1, .inl (g 0, 96, .inl (fun _ => 0))), (q2, .inl (g 0, 2, .inl (upd (upd (fun _ => 0) 0 (-1 : Int32)) 1 (-1 : Int32)))), (q3, .inl (g 0, 6, .inl (upd (upd (upd (upd (upd (upd (fun _ => 0) 0 (25 : Int32)) 1 (30 : Int32)) 2 (15 : Int32)) 3 (2 : Int32)) 4 (6 : Int32)) 5 (2 : Int32)))), (q4, .inl (g 0, 12, .inl (fun _ => 0))), (q5, .inl (g 1, 2, .inl (fun _ => 0)))] A s H _ := ⟨hP, hD, hS⟩
  refine lv_aload_n hx hb dX3_init_78 rfl (lv_at hl 0 rfl) ?_
  refine lv_bipush (v := (106 : Int32)) hx hb dX3_init_79 (by decide) ?_
  refine w6_newa (atype := .int) (t := 0) (n' := 106) (a0 := (106, .inl (fun _ => 0))) F I q148 rfl rfl (fun _ => rfl) (by decide) rfl (Nat.le_of_ble_eq_true rfl) (Nat.le_of_ble_eq_true rfl) (Nat.le_of_ble_eq_true rfl) dX3_init_81 (fun q6 H I => ?_)
  have I : w6_I D [(q0, .inr (2, [.ref q1, .ref q2, .ref q3, .ref q4, .ref q5, .null, .null, .null, .null, .null, .int 0, .int 0, .int 0, .int 0, .null, .null, .null, .null])), (q1, .inl (g 0, 96, .inl (fun _ => 0))), (q2, .inl (g 0, 2, .inl (upd (upd (fun _ => 0) 0 (-1 : Int32)) 1 (-1 : Int32)))), (q3, .inl (g 0, 6, .inl (upd (upd (upd (upd (upd (upd (fun _ => 0) 0 (25 : Int32)) 1 (30 : Int32)) 2 (15 : Int32)) 3 (2 : Int32)) 4 (6 : Int32)) 5 (2 : Int32)))), (q4, .inl (g 0, 12, .inl (fun _ => 0))), (q5, .inl (g 1, 2, .inl (fun _ => 0))), (q6, .inl (g 0, 106, .inl (fun _ => 0)))] A s H _ := I
  refine va_putF (D := D) (ci := 2) (v := .ref q6) (ty := .array .int) (C := RX3) (T := TX3) (N := 18) hx hb hts in_X3 tyX3 tyX3_ok nmX3 hown F.2.1 I.1 I.2.1 I.2.2 0 rfl rfl 5 (by decide) (hts _ q769) (fun _ h => h) rfl hin rfl (by decide +kernel) rfl rfl (Nat.le_of_ble_eq_true rfl) dX3_init_83 (fun H locs hP hD hS => ?_)
  have I : w6_I D [(q0, .inr (2, [.ref q1, .ref q2, .ref q3, .ref q4, .ref q5, .ref q6, .null, .null, .null, .null, .int 0, .int 0, .int 0, .int 0, .null, .null, .null, .null])), (q1, .inl (g 0, 96, .inl (fun _ => 0))), (q2, .inl (g 0, 2, .inl (upd (upd (fun _ => 0) 0 (-1 : Int32)) 1 (-1 : Int32)))), (q3, .inl (g 0, 6, .inl (upd (upd (upd (upd (upd (upd (fun _ => 0) 0 (25 : Int32)) 1 (30 : Int32)) 2 (15 : Int32)) 3 (2 : Int32)) 4 (6 : Int32)) 5 (2 : Int32)))), (q4, .inl (g 0, 12, .inl (fun _ => 0))), (q5, .inl (g 1, 2, .inl (fun _ => 0))), (q6, .inl (g 0, 106, .inl (fun _ => 0)))] A s H _ := ⟨hP, hD, hS⟩
  refine lv_aload_n hx hb dX3_init_86 rfl (lv_at hl 0 rfl) ?_
  refine lv_bipush (v := (106 : Int32)) hx hb dX3_init_87 (by decide) ?_
  refine w6_newa (atype := .int) (t := 0) (n' := 106) (a0 := (106, .inl (fun _ => 0))) F I q148 rfl rfl (fun _ => rfl) (by decide) rfl (Nat.le_of_ble_eq_true rfl) (Nat.le_of_ble_eq_true rfl) (Nat.le_of_ble_eq_true rfl) dX3_init_89 (fun q7 H I => ?_)
  have I : w6_I D [(q0, .inr (2, [.ref q1, .ref q2, .ref q3, .ref q4, .ref q5, .ref q6, .null, .null, .null, .null, .int 0, .int 0, .int 0, .int 0, .null, .null, .null, .null])), (q1, .inl (g 0, 96, .inl (fun _ => 0))), (q2, .inl (g 0, 2, .inl (upd (upd (fun _ => 0) 0 (-1 : Int32)) 1 (-1 : Int32)))), (q3, .inl (g 0, 6, .inl (upd (upd (upd (upd (upd (upd (fun _ => 0) 0 (25 : Int32)) 1 (30 : Int32)) 2 (15 : Int32)) 3 (2 : Int32)) 4 (6 : Int32)) 5 (2 : Int32)))), (q4, .inl (g 0, 12, .inl (fun _ => 0))), (q5, .inl (g 1, 2, .inl (fun _ => 0))), (q6, .inl (g 0, 106, .inl (fun _ => 0))), (q7, .inl (g 0, 106, .inl (fun _ => 0)))] A s H _ := I
  refine va_putF (D := D) (ci := 2) (v := .ref q7) (ty := .array .int) (C := RX3) (T := TX3) (N := 18) hx hb hts in_X3 tyX3 tyX3_ok nmX3 hown F.2.1 I.1 I.2.1 I.2.2 0 rfl rfl 6 (by decide) (hts _ q770) (fun _ h => h) rfl hin rfl (by decide +kernel) rfl rfl (Nat.le_of_ble_eq_true rfl) dX3_init_91 (fun H locs hP hD hS => ?_)
  have I : w6_I D [(q0, .inr (2, [.ref q1, .ref q2, .ref q3, .ref q4, .ref q5, .ref q6, .ref q7, .null, .null, .null, .int 0, .int 0, .int 0, .int 0, .null, .null, .null, .null])), (q1, .inl (g 0, 96, .inl (fun _ => 0))), (q2, .inl (g 0, 2, .inl (upd (upd (fun _ => 0) 0 (-1 : Int32)) 1 (-1 : Int32)))), (q3, .inl (g 0, 6, .inl (upd (upd (upd (upd (upd (upd (fun _ => 0) 0 (25 : Int32)) 1 (30 : Int32)) 2 (15 : Int32)) 3 (2 : Int32)) 4 (6 : Int32)) 5 (2 : Int32)))), (q4, .inl (g 0, 12, .inl (fun _ => 0))), (q5, .inl (g 1, 2, .inl (fun _ => 0))), (q6, .inl (g 0, 106, .inl (fun _ => 0))), (q7, .inl (g 0, 106, .inl (fun _ => 0)))] A s H _ := ⟨hP, hD, hS⟩
  refine lv_aload_n hx hb dX3_init_94 rfl (lv_at hl 0 rfl) ?_
  refine lv_bipush (v := (12 : Int32)) hx hb dX3_init_95 (by decide) ?_
  refine w6_newa (atype := .int) (t := 0) (n' := 12) (a0 := (12, .inl (fun _ => 0))) F I q148 rfl rfl (fun _ => rfl) (by decide) rfl (Nat.le_of_ble_eq_true rfl) (Nat.le_of_ble_eq_true rfl) (Nat.le_of_ble_eq_true rfl) dX3_init_97 (fun q8 H I => ?_)
  have I : w6_I D [(q0, .inr (2, [.ref q1, .ref q2, .ref q3, .ref q4, .ref q5, .ref q6, .ref q7, .null, .null, .null, .int 0, .int 0, .int 0, .int 0, .null, .null, .null, .null])), (q1, .inl (g 0, 96, .inl (fun _ => 0))), (q2, .inl (g 0, 2, .inl (upd (upd (fun _ => 0) 0 (-1 : Int32)) 1 (-1 : Int32)))), (q3, .inl (g 0, 6, .inl (upd (upd (upd (upd (upd (upd (fun _ => 0) 0 (25 : Int32)) 1 (30 : Int32)) 2 (15 : Int32)) 3 (2 : Int32)) 4 (6 : Int32)) 5 (2 : Int32)))), (q4, .inl (g 0, 12, .inl (fun _ => 0))), (q5, .inl (g 1, 2, .inl (fun _ => 0))), (q6, .inl (g 0, 106, .inl (fun _ => 0))), (q7, .inl (g 0, 106, .inl (fun _ => 0))), (q8, .inl (g 0, 12, .inl (fun _ => 0)))] A s H _ := I
  refine va_putF (D := D) (ci := 2) (v := .ref q8) (ty := .array .int) (C := RX3) (T := TX3) (N := 18) hx hb hts in_X3 tyX3 tyX3_ok nmX3 hown F.2.1 I.1 I.2.1 I.2.2 0 rfl rfl 7 (by decide) (hts _ q771) (fun _ h => h) rfl hin rfl (by decide +kernel) rfl rfl (Nat.le_of_ble_eq_true rfl) dX3_init_99 (fun H locs hP hD hS => ?_)
  have I : w6_I D [(q0, .inr (2, [.ref q1, .ref q2, .ref q3, .ref q4, .ref q5, .ref q6, .ref q7, .ref q8, .null, .null, .int 0, .int 0, .int 0, .int 0, .null, .null, .null, .null])), (q1, .inl (g 0, 96, .inl (fun _ => 0))), (q2, .inl (g 0, 2, .inl (upd (upd (fun _ => 0) 0 (-1 : Int32)) 1 (-1 : Int32)))), (q3, .inl (g 0, 6, .inl (upd (upd (upd (upd (upd (upd (fun _ => 0) 0 (25 : Int32)) 1 (30 : Int32)) 2 (15 : Int32)) 3 (2 : Int32)) 4 (6 : Int32)) 5 (2 : Int32)))), (q4, .inl (g 0, 12, .inl (fun _ => 0))), (q5, .inl (g 1, 2, .inl (fun _ => 0))), (q6, .inl (g 0, 106, .inl (fun _ => 0))), (q7, .inl (g 0, 106, .inl (fun _ => 0))), (q8, .inl (g 0, 12, .inl (fun _ => 0)))] A s H _ := ⟨hP, hD, hS⟩
  refine lv_aload_n hx hb dX3_init_102 rfl (lv_at hl 0 rfl) ?_
  refine lv_bipush (v := (12 : Int32)) hx hb dX3_init_103 (by decide) ?_
  refine w6_newa (atype := .int) (t := 0) (n' := 12) (a0 := (12, .inl (fun _ => 0))) F I q148 rfl rfl (fun _ => rfl) (by decide) rfl (Nat.le_of_ble_eq_true rfl) (Nat.le_of_ble_eq_true rfl) (Nat.le_of_ble_eq_true rfl) dX3_init_105 (fun q9 H I => ?_)
  have I : w6_I D [(q0, .inr (2, [.ref q1, .ref q2, .ref q3, .ref q4, .ref q5, .ref q6, .ref q7, .ref q8, .null, .null, .int 0, .int 0, .int 0, .int 0, .null, .null, .null, .null])), (q1, .inl (g 0, 96, .inl (fun _ => 0))), (q2, .inl (g 0, 2, .inl (upd (upd (fun _ => 0) 0 (-1 : Int32)) 1 (-1 : Int32)))), (q3, .inl (g 0, 6, .inl (upd (upd (upd (upd (upd (upd (fun _ => 0) 0 (25 : Int32)) 1 (30 : Int32)) 2 (15 : Int32)) 3 (2 : Int32)) 4 (6 : Int32)) 5 (2 : Int32)))), (q4, .inl (g 0, 12, .inl (fun _ => 0))), (q5, .inl (g 1, 2, .inl (fun _ => 0))), (q6, .inl (g 0, 106, .inl (fun _ => 0))), (q7, .inl (g 0, 106, .inl (fun _ => 0))), (q8, .inl (g 0, 12, .inl (fun _ => 0))), (q9, .inl (g 0, 12, .inl (fun _ => 0)))] A s H _ := I
  refine va_putF (D := D) (ci := 2) (v := .ref q9) (ty := .array .int) (C := RX3) (T := TX3) (N := 18) hx hb hts in_X3 tyX3 tyX3_ok nmX3 hown F.2.1 I.1 I.2.1 I.2.2 0 rfl rfl 8 (by decide) (hts _ q772) (fun _ h => h) rfl hin rfl (by decide +kernel) rfl rfl (Nat.le_of_ble_eq_true rfl) dX3_init_107 (fun H locs hP hD hS => ?_)
  have I : w6_I D [(q0, .inr (2, [.ref q1, .ref q2, .ref q3, .ref q4, .ref q5, .ref q6, .ref q7, .ref q8, .ref q9, .null, .int 0, .int 0, .int 0, .int 0, .null, .null, .null, .null])), (q1, .inl (g 0, 96, .inl (fun _ => 0))), (q2, .inl (g 0, 2, .inl (upd (upd (fun _ => 0) 0 (-1 : Int32)) 1 (-1 : Int32)))), (q3, .inl (g 0, 6, .inl (upd (upd (upd (upd (upd (upd (fun _ => 0) 0 (25 : Int32)) 1 (30 : Int32)) 2 (15 : Int32)) 3 (2 : Int32)) 4 (6 : Int32)) 5 (2 : Int32)))), (q4, .inl (g 0, 12, .inl (fun _ => 0))), (q5, .inl (g 1, 2, .inl (fun _ => 0))), (q6, .inl (g 0, 106, .inl (fun _ => 0))), (q7, .inl (g 0, 106, .inl (fun _ => 0))), (q8, .inl (g 0, 12, .inl (fun _ => 0))), (q9, .inl (g 0, 12, .inl (fun _ => 0)))] A s H _ := ⟨hP, hD, hS⟩
  refine lv_aload_n hx hb dX3_init_110 rfl (lv_at hl 0 rfl) ?_
  refine lv_bipush (v := (100 : Int32)) hx hb dX3_init_111 (by decide) ?_
  refine w6_newa (atype := .byte) (t := 5) (n' := 100) (a0 := (100, .inl (fun _ => 0))) F I q587 rfl rfl (fun _ => rfl) (by decide) rfl (Nat.le_of_ble_eq_true rfl) (Nat.le_of_ble_eq_true rfl) (Nat.le_of_ble_eq_true rfl) dX3_init_113 (fun q10 H I => ?_)
  have I : w6_I D [(q0, .inr (2, [.ref q1, .ref q2, .ref q3, .ref q4, .ref q5, .ref q6, .ref q7, .ref q8, .ref q9, .null, .int 0, .int 0, .int 0, .int 0, .null, .null, .null, .null])), (q1, .inl (g 0, 96, .inl (fun _ => 0))), (q2, .inl (g 0, 2, .inl (upd (upd (fun _ => 0) 0 (-1 : Int32)) 1 (-1 : Int32)))), (q3, .inl (g 0, 6, .inl (upd (upd (upd (upd (upd (upd (fun _ => 0) 0 (25 : Int32)) 1 (30 : Int32)) 2 (15 : Int32)) 3 (2 : Int32)) 4 (6 : Int32)) 5 (2 : Int32)))), (q4, .inl (g 0, 12, .inl (fun _ => 0))), (q5, .inl (g 1, 2, .inl (fun _ => 0))), (q6, .inl (g 0, 106, .inl (fun _ => 0))), (q7, .inl (g 0, 106, .inl (fun _ => 0))), (q8, .inl (g 0, 12, .inl (fun _ => 0))), (q9, .inl (g 0, 12, .inl (fun _ => 0))), (q10, .inl (g 5, 100, .inl (fun _ => 0)))] A s H _ := I
  refine va_putF (D := D) (ci := 2) (v := .ref q10) (ty := .array .byte) (C := RX3) (T := TX3) (N := 18) hx hb hts in_X3 tyX3 tyX3_ok nmX3 hown F.2.1 I.1 I.2.1 I.2.2 0 rfl rfl 9 (by decide) (hts _ q773) (fun _ h => h) rfl hin rfl (by decide +kernel) rfl rfl (Nat.le_of_ble_eq_true rfl) dX3_init_115 (fun H locs hP hD hS => ?_)
  have I : w6_I D [(q0, .inr (2, [.ref q1, .ref q2, .ref q3, .ref q4, .ref q5, .ref q6, .ref q7, .ref q8, .ref q9, .ref q10, .int 0, .int 0, .int 0, .int 0, .null, .null, .null, .null])), (q1, .inl (g 0, 96, .inl (fun _ => 0))), (q2, .inl (g 0, 2, .inl (upd (upd (fun _ => 0) 0 (-1 : Int32)) 1 (-1 : Int32)))), (q3, .inl (g 0, 6, .inl (upd (upd (upd (upd (upd (upd (fun _ => 0) 0 (25 : Int32)) 1 (30 : Int32)) 2 (15 : Int32)) 3 (2 : Int32)) 4 (6 : Int32)) 5 (2 : Int32)))), (q4, .inl (g 0, 12, .inl (fun _ => 0))), (q5, .inl (g 1, 2, .inl (fun _ => 0))), (q6, .inl (g 0, 106, .inl (fun _ => 0))), (q7, .inl (g 0, 106, .inl (fun _ => 0))), (q8, .inl (g 0, 12, .inl (fun _ => 0))), (q9, .inl (g 0, 12, .inl (fun _ => 0))), (q10, .inl (g 5, 100, .inl (fun _ => 0)))] A s H _ := ⟨hP, hD, hS⟩
  refine lv_aload_n hx hb dX3_init_118 rfl (lv_at hl 0 rfl) ?_
  refine lv_bipush (v := (6 : Int32)) hx hb dX3_init_119 (by decide) ?_
  refine w6_newa (atype := .int) (t := 0) (n' := 6) (a0 := (6, .inl (fun _ => 0))) F I q148 rfl rfl (fun _ => rfl) (by decide) rfl (Nat.le_of_ble_eq_true rfl) (Nat.le_of_ble_eq_true rfl) (Nat.le_of_ble_eq_true rfl) dX3_init_121 (fun q11 H I => ?_)
  have I : w6_I D [(q0, .inr (2, [.ref q1, .ref q2, .ref q3, .ref q4, .ref q5, .ref q6, .ref q7, .ref q8, .ref q9, .ref q10, .int 0, .int 0, .int 0, .int 0, .null, .null, .null, .null])), (q1, .inl (g 0, 96, .inl (fun _ => 0))), (q2, .inl (g 0, 2, .inl (upd (upd (fun _ => 0) 0 (-1 : Int32)) 1 (-1 : Int32)))), (q3, .inl (g 0, 6, .inl (upd (upd (upd (upd (upd (upd (fun _ => 0) 0 (25 : Int32)) 1 (30 : Int32)) 2 (15 : Int32)) 3 (2 : Int32)) 4 (6 : Int32)) 5 (2 : Int32)))), (q4, .inl (g 0, 12, .inl (fun _ => 0))), (q5, .inl (g 1, 2, .inl (fun _ => 0))), (q6, .inl (g 0, 106, .inl (fun _ => 0))), (q7, .inl (g 0, 106, .inl (fun _ => 0))), (q8, .inl (g 0, 12, .inl (fun _ => 0))), (q9, .inl (g 0, 12, .inl (fun _ => 0))), (q10, .inl (g 5, 100, .inl (fun _ => 0))), (q11, .inl (g 0, 6, .inl (fun _ => 0)))] A s H _ := I
  refine va_putF (D := D) (ci := 2) (v := .ref q11) (ty := .array .int) (C := RX3) (T := TX3) (N := 18) hx hb hts in_X3 tyX3 tyX3_ok nmX3 hown F.2.1 I.1 I.2.1 I.2.2 0 rfl rfl 14 (by decide) (hts _ q778) (fun _ h => h) rfl hin rfl (by decide +kernel) rfl rfl (Nat.le_of_ble_eq_true rfl) dX3_init_123 (fun H locs hP hD hS => ?_)
  have I : w6_I D [(q0, .inr (2, [.ref q1, .ref q2, .ref q3, .ref q4, .ref q5, .ref q6, .ref q7, .ref q8, .ref q9, .ref q10, .int 0, .int 0, .int 0, .int 0, .ref q11, .null, .null, .null])), (q1, .inl (g 0, 96, .inl (fun _ => 0))), (q2, .inl (g 0, 2, .inl (upd (upd (fun _ => 0) 0 (-1 : Int32)) 1 (-1 : Int32)))), (q3, .inl (g 0, 6, .inl (upd (upd (upd (upd (upd (upd (fun _ => 0) 0 (25 : Int32)) 1 (30 : Int32)) 2 (15 : Int32)) 3 (2 : Int32)) 4 (6 : Int32)) 5 (2 : Int32)))), (q4, .inl (g 0, 12, .inl (fun _ => 0))), (q5, .inl (g 1, 2, .inl (fun _ => 0))), (q6, .inl (g 0, 106, .inl (fun _ => 0))), (q7, .inl (g 0, 106, .inl (fun _ => 0))), (q8, .inl (g 0, 12, .inl (fun _ => 0))), (q9, .inl (g 0, 12, .inl (fun _ => 0))), (q10, .inl (g 5, 100, .inl (fun _ => 0))), (q11, .inl (g 0, 6, .inl (fun _ => 0)))] A s H _ := ⟨hP, hD, hS⟩
  refine lv_aload_n hx hb dX3_init_126 rfl (lv_at hl 0 rfl) ?_
  refine lv_bipush (v := (12 : Int32)) hx hb dX3_init_127 (by decide) ?_
  refine w6_newa (atype := .int) (t := 0) (n' := 12) (a0 := (12, .inl (fun _ => 0))) F I q148 rfl rfl (fun _ => rfl) (by decide) rfl (Nat.le_of_ble_eq_true rfl) (Nat.le_of_ble_eq_true rfl) (Nat.le_of_ble_eq_true rfl) dX3_init_129 (fun q12 H I => ?_)
  have I : w6_I D [(q0, .inr (2, [.ref q1, .ref q2, .ref q3, .ref q4, .ref q5, .ref q6, .ref q7, .ref q8, .ref q9, .ref q10, .int 0, .int 0, .int 0, .int 0, .ref q11, .null, .null, .null])), (q1, .inl (g 0, 96, .inl (fun _ => 0))), (q2, .inl (g 0, 2, .inl (upd (upd (fun _ => 0) 0 (-1 : Int32)) 1 (-1 : Int32)))), (q3, .inl (g 0, 6, .inl (upd (upd (upd (upd (upd (upd (fun _ => 0) 0 (25 : Int32)) 1 (30 : Int32)) 2 (15 : Int32)) 3 (2 : Int32)) 4 (6 : Int32)) 5 (2 : Int32)))), (q4, .inl (g 0, 12, .inl (fun _ => 0))), (q5, .inl (g 1, 2, .inl (fun _ => 0))), (q6, .inl (g 0, 106, .inl (fun _ => 0))), (q7, .inl (g 0, 106, .inl (fun _ => 0))), (q8, .inl (g 0, 12, .inl (fun _ => 0))), (q9, .inl (g 0, 12, .inl (fun _ => 0))), (q10, .inl (g 5, 100, .inl (fun _ => 0))), (q11, .inl (g 0, 6, .inl (fun _ => 0))), (q12, .inl (g 0, 12, .inl (fun _ => 0)))] A s H _ := I
  refine va_putF (D := D) (ci := 2) (v := .ref q12) (ty := .array .int) (C := RX3) (T := TX3) (N := 18) hx hb hts in_X3 tyX3 tyX3_ok nmX3 hown F.2.1 I.1 I.2.1 I.2.2 0 rfl rfl 15 (by decide) (hts _ q779) (fun _ h => h) rfl hin rfl (by decide +kernel) rfl rfl (Nat.le_of_ble_eq_true rfl) dX3_init_131 (fun H locs hP hD hS => ?_)
  have I : w6_I D [(q0, .inr (2, [.ref q1, .ref q2, .ref q3, .ref q4, .ref q5, .ref q6, .ref q7, .ref q8, .ref q9, .ref q10, .int 0, .int 0, .int 0, .int 0, .ref q11, .ref q12, .null, .null])), (q1, .inl (g 0, 96, .inl (fun _ => 0))), (q2, .inl (g 0, 2, .inl (upd (upd (fun _ => 0) 0 (-1 : Int32)) 1 (-1 : Int32)))), (q3, .inl (g 0, 6, .inl (upd (upd (upd (upd (upd (upd (fun _ => 0) 0 (25 : Int32)) 1 (30 : Int32)) 2 (15 : Int32)) 3 (2 : Int32)) 4 (6 : Int32)) 5 (2 : Int32)))), (q4, .inl (g 0, 12, .inl (fun _ => 0))), (q5, .inl (g 1, 2, .inl (fun _ => 0))), (q6, .inl (g 0, 106, .inl (fun _ => 0))), (q7, .inl (g 0, 106, .inl (fun _ => 0))), (q8, .inl (g 0, 12, .inl (fun _ => 0))), (q9, .inl (g 0, 12, .inl (fun _ => 0))), (q10, .inl (g 5, 100, .inl (fun _ => 0))), (q11, .inl (g 0, 6, .inl (fun _ => 0))), (q12, .inl (g 0, 12, .inl (fun _ => 0)))] A s H _ := ⟨hP, hD, hS⟩
  refine lv_aload_n hx hb dX3_init_134 rfl (lv_at hl 0 rfl) ?_
  refine lv_bipush (v := (72 : Int32)) hx hb dX3_init_135 (by decide) ?_
  refine w6_newa (atype := .int) (t := 0) (n' := 72) (a0 := (72, .inl (fun _ => 0))) F I q148 rfl rfl (fun _ => rfl) (by decide) rfl (Nat.le_of_ble_eq_true rfl) (Nat.le_of_ble_eq_true rfl) (Nat.le_of_ble_eq_true rfl) dX3_init_137 (fun q13 H I => ?_)
  have I : w6_I D [(q0, .inr (2, [.ref q1, .ref q2, .ref q3, .ref q4, .ref q5, .ref q6, .ref q7, .ref q8, .ref q9, .ref q10, .int 0, .int 0, .int 0, .int 0, .ref q11, .ref q12, .null, .null])), (q1, .inl (g 0, 96, .inl (fun _ => 0))), (q2, .inl (g 0, 2, .inl (upd (upd (fun _ => 0) 0 (-1 : Int32)) 1 (-1 : Int32)))), (q3, .inl (g 0, 6, .inl (upd (upd (upd (upd (upd (upd (fun _ => 0) 0 (25 : Int32)) 1 (30 : Int32)) 2 (15 : Int32)) 3 (2 : Int32)) 4 (6 : Int32)) 5 (2 : Int32)))), (q4, .inl (g 0, 12, .inl (fun _ => 0))), (q5, .inl (g 1, 2, .inl (fun _ => 0))), (q6, .inl (g 0, 106, .inl (fun _ => 0))), (q7, .inl (g 0, 106, .inl (fun _ => 0))), (q8, .inl (g 0, 12, .inl (fun _ => 0))), (q9, .inl (g 0, 12, .inl (fun _ => 0))), (q10, .inl (g 5, 100, .inl (fun _ => 0))), (q11, .inl (g 0, 6, .inl (fun _ => 0))), (q12, .inl (g 0, 12, .inl (fun _ => 0))), (q13, .inl (g 0, 72, .inl (fun _ => 0)))] A s H _ := I
  refine va_putF (D := D) (ci := 2) (v := .ref q13) (ty := .array .int) (C := RX3) (T := TX3) (N := 18) hx hb hts in_X3 tyX3 tyX3_ok nmX3 hown F.2.1 I.1 I.2.1 I.2.2 0 rfl rfl 16 (by decide) (hts _ q780) (fun _ h => h) rfl hin rfl (by decide +kernel) rfl rfl (Nat.le_of_ble_eq_true rfl) dX3_init_139 (fun H locs hP hD hS => ?_)
  have I : w6_I D [(q0, .inr (2, [.ref q1, .ref q2, .ref q3, .ref q4, .ref q5, .ref q6, .ref q7, .ref q8, .ref q9, .ref q10, .int 0, .int 0, .int 0, .int 0, .ref q11, .ref q12, .ref q13, .null])), (q1, .inl (g 0, 96, .inl (fun _ => 0))), (q2, .inl (g 0, 2, .inl (upd (upd (fun _ => 0) 0 (-1 : Int32)) 1 (-1 : Int32)))), (q3, .inl (g 0, 6, .inl (upd (upd (upd (upd (upd (upd (fun _ => 0) 0 (25 : Int32)) 1 (30 : Int32)) 2 (15 : Int32)) 3 (2 : Int32)) 4 (6 : Int32)) 5 (2 : Int32)))), (q4, .inl (g 0, 12, .inl (fun _ => 0))), (q5, .inl (g 1, 2, .inl (fun _ => 0))), (q6, .inl (g 0, 106, .inl (fun _ => 0))), (q7, .inl (g 0, 106, .inl (fun _ => 0))), (q8, .inl (g 0, 12, .inl (fun _ => 0))), (q9, .inl (g 0, 12, .inl (fun _ => 0))), (q10, .inl (g 5, 100, .inl (fun _ => 0))), (q11, .inl (g 0, 6, .inl (fun _ => 0))), (q12, .inl (g 0, 12, .inl (fun _ => 0))), (q13, .inl (g 0, 72, .inl (fun _ => 0)))] A s H _ := ⟨hP, hD, hS⟩
  refine lv_aload_n hx hb dX3_init_142 rfl (lv_at hl 0 rfl) ?_
  refine lv_ldc hx hb hown (hts _ q755) dX3_init_143 ?_
  refine w6_newa (atype := .long) (t := 6) (n' := 69192) (a0 := (69192, .inr (.inl (fun _ => 0)))) F I q819 rfl rfl (fun _ => rfl) (by decide) rfl (Nat.le_of_ble_eq_true rfl) (Nat.le_of_ble_eq_true rfl) (Nat.le_of_ble_eq_true rfl) dX3_init_145 (fun q14 H I => ?_)
  have I : w6_I D [(q0, .inr (2, [.ref q1, .ref q2, .ref q3, .ref q4, .ref q5, .ref q6, .ref q7, .ref q8, .ref q9, .ref q10, .int 0, .int 0, .int 0, .int 0, .ref q11, .ref q12, .ref q13, .null])), (q1, .inl (g 0, 96, .inl (fun _ => 0))), (q2, .inl (g 0, 2, .inl (upd (upd (fun _ => 0) 0 (-1 : Int32)) 1 (-1 : Int32)))), (q3, .inl (g 0, 6, .inl (upd (upd (upd (upd (upd (upd (fun _ => 0) 0 (25 : Int32)) 1 (30 : Int32)) 2 (15 : Int32)) 3 (2 : Int32)) 4 (6 : Int32)) 5 (2 : Int32)))), (q4, .inl (g 0, 12, .inl (fun _ => 0))), (q5, .inl (g 1, 2, .inl (fun _ => 0))), (q6, .inl (g 0, 106, .inl (fun _ => 0))), (q7, .inl (g 0, 106, .inl (fun _ => 0))), (q8, .inl (g 0, 12, .inl (fun _ => 0))), (q9, .inl (g 0, 12, .inl (fun _ => 0))), (q10, .inl (g 5, 100, .inl (fun _ => 0))), (q11, .inl (g 0, 6, .inl (fun _ => 0))), (q12, .inl (g 0, 12, .inl (fun _ => 0))), (q13, .inl (g 0, 72, .inl (fun _ => 0))), (q14, .inl (g 6, 69192, .inr (.inl (fun _ => 0))))] A s H _ := I
  refine va_putF (D := D) (ci := 2) (v := .ref q14) (ty := .array .long) (C := RX3) (T := TX3) (N := 18) hx hb hts in_X3 tyX3 tyX3_ok nmX3 hown F.2.1 I.1 I.2.1 I.2.2 0 rfl rfl 17 (by decide) (hts _ q781) (fun _ h => h) rfl hin rfl (by decide +kernel) rfl rfl (Nat.le_of_ble_eq_true rfl) dX3_init_147 (fun H locs hP hD hS => ?_)
  have I : w6_I D [(q0, .inr (2, [.ref q1, .ref q2, .ref q3, .ref q4, .ref q5, .ref q6, .ref q7, .ref q8, .ref q9, .ref q10, .int 0, .int 0, .int 0, .int 0, .ref q11, .ref q12, .ref q13, .ref q14])), (q1, .inl (g 0, 96, .inl (fun _ => 0))), (q2, .inl (g 0, 2, .inl (upd (upd (fun _ => 0) 0 (-1 : Int32)) 1 (-1 : Int32)))), (q3, .inl (g 0, 6, .inl (upd (upd (upd (upd (upd (upd (fun _ => 0) 0 (25 : Int32)) 1 (30 : Int32)) 2 (15 : Int32)) 3 (2 : Int32)) 4 (6 : Int32)) 5 (2 : Int32)))), (q4, .inl (g 0, 12, .inl (fun _ => 0))), (q5, .inl (g 1, 2, .inl (fun _ => 0))), (q6, .inl (g 0, 106, .inl (fun _ => 0))), (q7, .inl (g 0, 106, .inl (fun _ => 0))), (q8, .inl (g 0, 12, .inl (fun _ => 0))), (q9, .inl (g 0, 12, .inl (fun _ => 0))), (q10, .inl (g 5, 100, .inl (fun _ => 0))), (q11, .inl (g 0, 6, .inl (fun _ => 0))), (q12, .inl (g 0, 12, .inl (fun _ => 0))), (q13, .inl (g 0, 72, .inl (fun _ => 0))), (q14, .inl (g 6, 69192, .inr (.inl (fun _ => 0))))] A s H _ := ⟨hP, hD, hS⟩
  have I : w6_I D (mw g (mAd q0 q1 q2 q3 q4 q5 q6 q7 q8 q9 q10 q11 q12 q13 q14) mU0) A s H _ := I
  refine m_init2_tail (ad := mAd q0 q1 q2 q3 q4 q5 q6 q7 q8 q9 q10 q11 q12 q13 q14) mU0 U' hf F I.nil' hl (fun pc H locs ls hdg I => ?_)
  exact W.vret hx hb hr (fun t ht hW => ⟨⟨mAd q0 q1 q2 q3 q4 q5 q6 q7 q8 q9 q10 q11 q12 q13 q14, rfl, rfl, (w6_end F hA I ht hW).1⟩, (w6_end F hA I ht hW).2⟩) I.2.2.2.2 hdg hlocks
