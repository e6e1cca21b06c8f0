/-! the cases of the law's switch -/
def ol (g : Nat → ClassId) (o : Nat) (fL : Nat → Int64) : va_W := [(o, .inl (g 6, 1, .inr (.inl fL)))]
def LW (g : Nat → ClassId) (ad : Nat → Nat) (V : Mm) (bd : Nat → Nat) (U : Mm) (o : Nat) (fL : Nat → Int64) : va_W := xw g ad V ++ (mw g bd U ++ ol g o fL)
theorem w6_rot {D : va_G} {A : Nat → Prop} {s : State} {H : Heap} {locs : List Loc} {a b c : va_W} (I : w6_I D (a ++ (b ++ c)) A s H locs) : w6_I D (b ++ (c ++ a)) A s H locs := by
  have h := I.comm
  rw [List.append_assoc] at h
  exact h
def LA (s : State) : Nat → Prop := fun q => s.heap.size ≤ q
/-- what stands at the law: its run's facts, the script -/
def LX (p : Program) (s : State) (m : MethodId) (meth : Method) (c : Code) (b L : Nat) (xs : Nat → Int32) (D : va_G) (g : Nat → ClassId) : Prop :=
  w6_F p s m #[Value.ref b] c cL_law 7 RX0 D g (LA s) ∧ va_X b L xs s s.heap ∧ b < s.heap.size ∧ L ≤ 512 ∧ meth.sig.returnType = ret ∧ meth.locks = false ∧ xnA (LA s) s s.heap
abbrev Ll (b a0 b0 o : Nat) (j : Nat) : List (Nat × Value) := [(0, .ref b), (1, .ref a0), (2, .ref b0), (3, .ref o), (4, .int (nI j))]
section LC
variable {p : Program} {l : Launch} {e : Env} {s : State} {m : MethodId} {below : List Frame} {meth : Method} {c : Code} {H : Heap} {locs : List Loc} {cells slots : Nat} {Q : State → Prop}
variable {b L : Nat} {xs : Nat → Int32} {D : va_G} {g : Nat → ClassId} {ad bd : Nat → Nat} {V V' U U' : Mm} {o : Nat} {fL : Nat → Int64} {j : Nat} {ls : Array Slot}
theorem law_in {L j k : Nat} (h : j + 8 ≤ L) (hL : L ≤ 512) (hk : k < 8) : vp_in (nI j + nI k) L := by
  rw [nI_add]
  exact nI_in (by omega) (by omega)
theorem law_arg {w : va_W} {k pc nk : Nat} {rest : List Value} {ik : Instr} (X : LX p s m meth c b L xs D g) (I : w6_I D w (LA s) s H locs) {lv : List (Nat × Value)} (hl : lv_has ls 7 lv) (h0 : lv[0]? = some (0, .ref b)) (h4 : lv[4]? = some (4, .int (nI j))) (hj : j + 8 ≤ L) (hk : k < 8)
    (d0 : decode cL_law pc = .ok (.aload_n 0, 1)) (d1 : decode cL_law (pc + 1) = .ok (.iload 4, 2)) (d3 : decode cL_law (pc + 3) = .ok (ik, nk)) (hik : (ik = .iconst (k : Int) ∧ nk = 1) ∨ (ik = .bipush (k : Int) ∧ nk = 2)) (d4 : decode cL_law (pc + 3 + nk) = .ok (.iadd, 1)) (d5 : decode cL_law (pc + 3 + nk + 1) = .ok (.iaload, 1))
    (kk : W p l e room_1 s m #[Value.ref b] below meth c H locs cells slots Q (F0 m (pc + 3 + nk + 2) ls (.int (xs (j + k)) :: rest))) : W p l e room_1 s m #[Value.ref b] below meth c H locs cells slots Q (F0 m pc ls rest) := by
  obtain ⟨F, hX, hbl, hL, -⟩ := X
  have hx := F.1.1
  have hb := F.1.2.1
  refine lv_aload_n hx hb d0 rfl (lv_at hl 0 h0) ?_
  refine lv_iload hx hb d1 (lv_at hl 4 h4) ?_
  have ejk : nI j + nI k = nI (j + k) := nI_add j k
  have h31 : (nI (j + k)).toNatClampNeg = j + k := nI_clamp (by omega)
  have fin : W p l e room_1 s m #[Value.ref b] below meth c H locs cells slots Q (F0 m (pc + 3 + nk) ls (.int (nI k) :: .int (nI j) :: .ref b :: rest)) := by
    refine lv_iadd hx hb d4 ?_
    refine va_sld hx hb hX hbl (Nat.not_le.mpr hbl) I.2.2 (law_in hj hL hk) d5 ?_
    rw [ejk, h31]
    exact kk
  have c8 : k = 0 ∨ k = 1 ∨ k = 2 ∨ k = 3 ∨ k = 4 ∨ k = 5 ∨ k = 6 ∨ k = 7 := by omega
  rcases hik with ⟨rfl, rfl⟩ | ⟨rfl, rfl⟩
  · exact lv_iconst (v := nI k) hx hb d3 (by rcases c8 with rfl | rfl | rfl | rfl | rfl | rfl | rfl | rfl <;> decide) fin
  · exact lv_bipush (v := nI k) hx hb d3 (by rcases c8 with rfl | rfl | rfl | rfl | rfl | rfl | rfl | rfl <;> decide) fin
theorem lc_skill {r : Int32} (hf : x_skill V (xs (j + 1)) (xs (j + 2)) (xs (j + 3)) (xs (j + 4)) = some (r, V')) (hm : m_skill U (xs (j + 1)) (xs (j + 2)) (xs (j + 3)) (xs (j + 4)) = some (r, U')) (X : LX p s m meth c b L xs D g) (I : w6_I D (LW g ad V bd U o fL) (LA s) s H locs) (hl : lv_has ls 7 (Ll b (ad 0) (bd 0) o j)) (hj : j + 8 ≤ L) (hc : cells + 100 ≤ room_1.cells) (hs : slots + 600 ≤ room_1.slots)
    (K : ∀ (H : Heap) (locs : List Loc), w6_I D (LW g ad V' bd U' o fL) (LA s) s H locs → W p l e room_1 s m #[Value.ref b] below meth c H locs (cells + 100) (slots + 600) Q (F0 m 1109 ls [])) : W p l e room_1 s m #[Value.ref b] below meth c H locs cells slots Q (F0 m 160 ls []) := by
  have F := X.1
  have hx := F.1.1
  have hb := F.1.2.1
  unfold LW at I
  refine lv_aload_n hx hb dL_law_160 rfl (lv_at hl 1 rfl) ?_
  refine law_arg (k := 1) X I hl rfl rfl hj (by decide) dL_law_161 dL_law_162 dL_law_164 (.inl ⟨rfl, rfl⟩) dL_law_165 dL_law_166 ?_
  refine law_arg (k := 2) X I hl rfl rfl hj (by decide) dL_law_167 dL_law_168 dL_law_170 (.inl ⟨rfl, rfl⟩) dL_law_171 dL_law_172 ?_
  refine law_arg (k := 3) X I hl rfl rfl hj (by decide) dL_law_173 dL_law_174 dL_law_176 (.inl ⟨rfl, rfl⟩) dL_law_177 dL_law_178 ?_
  refine law_arg (k := 4) X I hl rfl rfl hj (by decide) dL_law_179 dL_law_180 dL_law_182 (.inl ⟨rfl, rfl⟩) dL_law_183 dL_law_184 ?_
  refine xc_Vi F I (ctx_skill l D g ad V (xs (j + 1)) (xs (j + 2)) (xs (j + 3)) (xs (j + 4)) r V' hf) 4 (lw_V q233 q234 q235 q47 q236) ⟨rfl, hdX1_skill⟩ ⟨Nat.le_of_ble_eq_true rfl, Nat.le_of_ble_eq_true rfl⟩ (w6_recv F I xo_ob rfl) rfl hl.1 [] rfl (Nat.le_of_ble_eq_true rfl) dL_law_185 ⟨Nat.le_trans (Nat.add_le_add_left (Nat.le_of_ble_eq_true rfl) _) hc, Nat.le_trans (Nat.add_le_add_left (Nat.le_of_ble_eq_true rfl) _) hs⟩ (fun H locs I => ?_)
  refine W.widen (k := cells + 100) (n := slots + 600) (Nat.add_le_add_left (Nat.le_of_ble_eq_true rfl) _) (Nat.add_le_add_left (Nat.le_of_ble_eq_true rfl) _) ?_
  have I := w6_rot I
  refine lv_aload_n hx hb dL_law_188 rfl (lv_at hl 2 rfl) ?_
  refine law_arg (k := 1) X I hl rfl rfl hj (by decide) dL_law_189 dL_law_190 dL_law_192 (.inl ⟨rfl, rfl⟩) dL_law_193 dL_law_194 ?_
  refine law_arg (k := 2) X I hl rfl rfl hj (by decide) dL_law_195 dL_law_196 dL_law_198 (.inl ⟨rfl, rfl⟩) dL_law_199 dL_law_200 ?_
  refine law_arg (k := 3) X I hl rfl rfl hj (by decide) dL_law_201 dL_law_202 dL_law_204 (.inl ⟨rfl, rfl⟩) dL_law_205 dL_law_206 ?_
  refine law_arg (k := 4) X I hl rfl rfl hj (by decide) dL_law_207 dL_law_208 dL_law_210 (.inl ⟨rfl, rfl⟩) dL_law_211 dL_law_212 ?_
  refine xz_Vi F I (ctm_skill l D g bd U (xs (j + 1)) (xs (j + 2)) (xs (j + 3)) (xs (j + 4)) r U' hm) (lw_V q824 q825 q826 q50 q827) hdX3_skill rfl (Nat.le_of_ble_eq_true rfl) (Nat.le_of_ble_eq_true rfl) (w6_recv F I mo_ob rfl) rfl hl.1 [.int r] rfl (Nat.le_of_ble_eq_true rfl) dL_law_213 ⟨hc, hs⟩ (fun H locs I => ?_)
  have I := w6_rot (w6_rot I)
  exact lv_icmp_eq (tgt := 1109) hx hb dL_law_216 (by decide) (fun _ => K H locs I) (fun h => absurd rfl h)
theorem lc_libre {r : Int32} (hf : x_libre V (xs (j + 1)) (xs (j + 2)) = some (r, V')) (hm : m_libre U (xs (j + 1)) (xs (j + 2)) = some (r, U')) (X : LX p s m meth c b L xs D g) (I : w6_I D (LW g ad V bd U o fL) (LA s) s H locs) (hl : lv_has ls 7 (Ll b (ad 0) (bd 0) o j)) (hj : j + 8 ≤ L) (hc : cells + 100 ≤ room_1.cells) (hs : slots + 600 ≤ room_1.slots)
    (K : ∀ (H : Heap) (locs : List Loc), w6_I D (LW g ad V' bd U' o fL) (LA s) s H locs → W p l e room_1 s m #[Value.ref b] below meth c H locs (cells + 100) (slots + 600) Q (F0 m 1109 ls [])) : W p l e room_1 s m #[Value.ref b] below meth c H locs cells slots Q (F0 m 221 ls []) := by
  have F := X.1
  have hx := F.1.1
  have hb := F.1.2.1
  unfold LW at I
  refine lv_aload_n hx hb dL_law_221 rfl (lv_at hl 1 rfl) ?_
  refine law_arg (k := 1) X I hl rfl rfl hj (by decide) dL_law_222 dL_law_223 dL_law_225 (.inl ⟨rfl, rfl⟩) dL_law_226 dL_law_227 ?_
  refine law_arg (k := 2) X I hl rfl rfl hj (by decide) dL_law_228 dL_law_229 dL_law_231 (.inl ⟨rfl, rfl⟩) dL_law_232 dL_law_233 ?_
  refine xc_Vi F I (ctx_libre l D g ad V (xs (j + 1)) (xs (j + 2)) r V' hf) 2 (lw_V q249 q250 q251 q47 q252) ⟨rfl, hdX1_libre⟩ ⟨Nat.le_of_ble_eq_true rfl, Nat.le_of_ble_eq_true rfl⟩ (w6_recv F I xo_ob rfl) rfl hl.1 [] rfl (Nat.le_of_ble_eq_true rfl) dL_law_234 ⟨Nat.le_trans (Nat.add_le_add_left (Nat.le_of_ble_eq_true rfl) _) hc, Nat.le_trans (Nat.add_le_add_left (Nat.le_of_ble_eq_true rfl) _) hs⟩ (fun H locs I => ?_)
  refine W.widen (k := cells + 100) (n := slots + 600) (Nat.add_le_add_left (Nat.le_of_ble_eq_true rfl) _) (Nat.add_le_add_left (Nat.le_of_ble_eq_true rfl) _) ?_
  have I := w6_rot I
  refine lv_aload_n hx hb dL_law_237 rfl (lv_at hl 2 rfl) ?_
  refine law_arg (k := 1) X I hl rfl rfl hj (by decide) dL_law_238 dL_law_239 dL_law_241 (.inl ⟨rfl, rfl⟩) dL_law_242 dL_law_243 ?_
  refine law_arg (k := 2) X I hl rfl rfl hj (by decide) dL_law_244 dL_law_245 dL_law_247 (.inl ⟨rfl, rfl⟩) dL_law_248 dL_law_249 ?_
  refine xz_Vi F I (ctm_libre l D g bd U (xs (j + 1)) (xs (j + 2)) r U' hm) (lw_V q841 q842 q843 q50 q844) hdX3_libre rfl (Nat.le_of_ble_eq_true rfl) (Nat.le_of_ble_eq_true rfl) (w6_recv F I mo_ob rfl) rfl hl.1 [.int r] rfl (Nat.le_of_ble_eq_true rfl) dL_law_250 ⟨hc, hs⟩ (fun H locs I => ?_)
  have I := w6_rot (w6_rot I)
  exact lv_icmp_eq (tgt := 1109) hx hb dL_law_253 (by decide) (fun _ => K H locs I) (fun h => absurd rfl h)
theorem lc_set {r : Int32} (hf : x_set V (xs (j + 1)) (xs (j + 2)) = some (r, V')) (hm : m_set U (xs (j + 1)) (xs (j + 2)) = some (r, U')) (X : LX p s m meth c b L xs D g) (I : w6_I D (LW g ad V bd U o fL) (LA s) s H locs) (hl : lv_has ls 7 (Ll b (ad 0) (bd 0) o j)) (hj : j + 8 ≤ L) (hc : cells + 100 ≤ room_1.cells) (hs : slots + 600 ≤ room_1.slots)
    (K : ∀ (H : Heap) (locs : List Loc), w6_I D (LW g ad V' bd U' o fL) (LA s) s H locs → W p l e room_1 s m #[Value.ref b] below meth c H locs (cells + 100) (slots + 600) Q (F0 m 1109 ls [])) : W p l e room_1 s m #[Value.ref b] below meth c H locs cells slots Q (F0 m 258 ls []) := by
  have F := X.1
  have hx := F.1.1
  have hb := F.1.2.1
  unfold LW at I
  refine lv_aload_n hx hb dL_law_258 rfl (lv_at hl 1 rfl) ?_
  refine law_arg (k := 1) X I hl rfl rfl hj (by decide) dL_law_259 dL_law_260 dL_law_262 (.inl ⟨rfl, rfl⟩) dL_law_263 dL_law_264 ?_
  refine law_arg (k := 2) X I hl rfl rfl hj (by decide) dL_law_265 dL_law_266 dL_law_268 (.inl ⟨rfl, rfl⟩) dL_law_269 dL_law_270 ?_
  refine xc_Vi F I (ctx_set l D g ad V (xs (j + 1)) (xs (j + 2)) r V' hf) 2 (lw_V q254 q255 q256 q47 q257) ⟨rfl, hdX1_set⟩ ⟨Nat.le_of_ble_eq_true rfl, Nat.le_of_ble_eq_true rfl⟩ (w6_recv F I xo_ob rfl) rfl hl.1 [] rfl (Nat.le_of_ble_eq_true rfl) dL_law_271 ⟨Nat.le_trans (Nat.add_le_add_left (Nat.le_of_ble_eq_true rfl) _) hc, Nat.le_trans (Nat.add_le_add_left (Nat.le_of_ble_eq_true rfl) _) hs⟩ (fun H locs I => ?_)
  refine W.widen (k := cells + 100) (n := slots + 600) (Nat.add_le_add_left (Nat.le_of_ble_eq_true rfl) _) (Nat.add_le_add_left (Nat.le_of_ble_eq_true rfl) _) ?_
  have I := w6_rot I
  refine lv_aload_n hx hb dL_law_274 rfl (lv_at hl 2 rfl) ?_
  refine law_arg (k := 1) X I hl rfl rfl hj (by decide) dL_law_275 dL_law_276 dL_law_278 (.inl ⟨rfl, rfl⟩) dL_law_279 dL_law_280 ?_
  refine law_arg (k := 2) X I hl rfl rfl hj (by decide) dL_law_281 dL_law_282 dL_law_284 (.inl ⟨rfl, rfl⟩) dL_law_285 dL_law_286 ?_
  refine xz_Vi F I (ctm_set l D g bd U (xs (j + 1)) (xs (j + 2)) r U' hm) (lw_V q849 q850 q851 q50 q852) hdX3_set rfl (Nat.le_of_ble_eq_true rfl) (Nat.le_of_ble_eq_true rfl) (w6_recv F I mo_ob rfl) rfl hl.1 [.int r] rfl (Nat.le_of_ble_eq_true rfl) dL_law_287 ⟨hc, hs⟩ (fun H locs I => ?_)
  have I := w6_rot (w6_rot I)
  exact lv_icmp_eq (tgt := 1109) hx hb dL_law_290 (by decide) (fun _ => K H locs I) (fun h => absurd rfl h)
theorem lc_lineUp {r : Int32} (hf : x_lineUp V (xs (j + 1)) (xs (j + 2)) (xs (j + 3)) (xs (j + 4)) (xs (j + 5)) (xs (j + 6)) (xs (j + 7)) = some (r, V')) (hm : m_lineUp U (xs (j + 1)) (xs (j + 2)) (xs (j + 3)) (xs (j + 4)) (xs (j + 5)) (xs (j + 6)) (xs (j + 7)) = some (r, U')) (X : LX p s m meth c b L xs D g) (I : w6_I D (LW g ad V bd U o fL) (LA s) s H locs) (hl : lv_has ls 7 (Ll b (ad 0) (bd 0) o j)) (hj : j + 8 ≤ L) (hc : cells + 100 ≤ room_1.cells) (hs : slots + 600 ≤ room_1.slots)
    (K : ∀ (H : Heap) (locs : List Loc), w6_I D (LW g ad V' bd U' o fL) (LA s) s H locs → W p l e room_1 s m #[Value.ref b] below meth c H locs (cells + 100) (slots + 600) Q (F0 m 1109 ls [])) : W p l e room_1 s m #[Value.ref b] below meth c H locs cells slots Q (F0 m 295 ls []) := by
  have F := X.1
  have hx := F.1.1
  have hb := F.1.2.1
  unfold LW at I
  refine lv_aload_n hx hb dL_law_295 rfl (lv_at hl 1 rfl) ?_
  refine law_arg (k := 1) X I hl rfl rfl hj (by decide) dL_law_296 dL_law_297 dL_law_299 (.inl ⟨rfl, rfl⟩) dL_law_300 dL_law_301 ?_
  refine law_arg (k := 2) X I hl rfl rfl hj (by decide) dL_law_302 dL_law_303 dL_law_305 (.inl ⟨rfl, rfl⟩) dL_law_306 dL_law_307 ?_
  refine law_arg (k := 3) X I hl rfl rfl hj (by decide) dL_law_308 dL_law_309 dL_law_311 (.inl ⟨rfl, rfl⟩) dL_law_312 dL_law_313 ?_
  refine law_arg (k := 4) X I hl rfl rfl hj (by decide) dL_law_314 dL_law_315 dL_law_317 (.inl ⟨rfl, rfl⟩) dL_law_318 dL_law_319 ?_
  refine law_arg (k := 5) X I hl rfl rfl hj (by decide) dL_law_320 dL_law_321 dL_law_323 (.inl ⟨rfl, rfl⟩) dL_law_324 dL_law_325 ?_
  refine law_arg (k := 6) X I hl rfl rfl hj (by decide) dL_law_326 dL_law_327 dL_law_329 (.inr ⟨rfl, rfl⟩) dL_law_331 dL_law_332 ?_
  refine law_arg (k := 7) X I hl rfl rfl hj (by decide) dL_law_333 dL_law_334 dL_law_336 (.inr ⟨rfl, rfl⟩) dL_law_338 dL_law_339 ?_
  refine xc_Vi F I (ctx_lineUp l D g ad V (xs (j + 1)) (xs (j + 2)) (xs (j + 3)) (xs (j + 4)) (xs (j + 5)) (xs (j + 6)) (xs (j + 7)) r V' hf) 7 (lw_V q263 q264 q265 q47 q266) ⟨rfl, hdX1_lineUp⟩ ⟨Nat.le_of_ble_eq_true rfl, Nat.le_of_ble_eq_true rfl⟩ (w6_recv F I xo_ob rfl) rfl hl.1 [] rfl (Nat.le_of_ble_eq_true rfl) dL_law_340 ⟨Nat.le_trans (Nat.add_le_add_left (Nat.le_of_ble_eq_true rfl) _) hc, Nat.le_trans (Nat.add_le_add_left (Nat.le_of_ble_eq_true rfl) _) hs⟩ (fun H locs I => ?_)
  refine W.widen (k := cells + 100) (n := slots + 600) (Nat.add_le_add_left (Nat.le_of_ble_eq_true rfl) _) (Nat.add_le_add_left (Nat.le_of_ble_eq_true rfl) _) ?_
  have I := w6_rot I
  refine lv_aload_n hx hb dL_law_343 rfl (lv_at hl 2 rfl) ?_
  refine law_arg (k := 1) X I hl rfl rfl hj (by decide) dL_law_344 dL_law_345 dL_law_347 (.inl ⟨rfl, rfl⟩) dL_law_348 dL_law_349 ?_
  refine law_arg (k := 2) X I hl rfl rfl hj (by decide) dL_law_350 dL_law_351 dL_law_353 (.inl ⟨rfl, rfl⟩) dL_law_354 dL_law_355 ?_
  refine law_arg (k := 3) X I hl rfl rfl hj (by decide) dL_law_356 dL_law_357 dL_law_359 (.inl ⟨rfl, rfl⟩) dL_law_360 dL_law_361 ?_
  refine law_arg (k := 4) X I hl rfl rfl hj (by decide) dL_law_362 dL_law_363 dL_law_365 (.inl ⟨rfl, rfl⟩) dL_law_366 dL_law_367 ?_
  refine law_arg (k := 5) X I hl rfl rfl hj (by decide) dL_law_368 dL_law_369 dL_law_371 (.inl ⟨rfl, rfl⟩) dL_law_372 dL_law_373 ?_
  refine law_arg (k := 6) X I hl rfl rfl hj (by decide) dL_law_374 dL_law_375 dL_law_377 (.inr ⟨rfl, rfl⟩) dL_law_379 dL_law_380 ?_
  refine law_arg (k := 7) X I hl rfl rfl hj (by decide) dL_law_381 dL_law_382 dL_law_384 (.inr ⟨rfl, rfl⟩) dL_law_386 dL_law_387 ?_
  refine xz_Vi F I (ctm_lineUp l D g bd U (xs (j + 1)) (xs (j + 2)) (xs (j + 3)) (xs (j + 4)) (xs (j + 5)) (xs (j + 6)) (xs (j + 7)) r U' hm) (lw_V q857 q858 q859 q50 q860) hdX3_lineUp rfl (Nat.le_of_ble_eq_true rfl) (Nat.le_of_ble_eq_true rfl) (w6_recv F I mo_ob rfl) rfl hl.1 [.int r] rfl (Nat.le_of_ble_eq_true rfl) dL_law_388 ⟨hc, hs⟩ (fun H locs I => ?_)
  have I := w6_rot (w6_rot I)
  exact lv_icmp_eq (tgt := 1109) hx hb dL_law_391 (by decide) (fun _ => K H locs I) (fun h => absurd rfl h)
theorem lc_begin {r : Int32} (hf : x_begin V (xs (j + 1)) = some (r, V')) (hm : m_begin U (xs (j + 1)) = some (r, U')) (X : LX p s m meth c b L xs D g) (I : w6_I D (LW g ad V bd U o fL) (LA s) s H locs) (hl : lv_has ls 7 (Ll b (ad 0) (bd 0) o j)) (hj : j + 8 ≤ L) (hc : cells + 100 ≤ room_1.cells) (hs : slots + 600 ≤ room_1.slots)
    (K : ∀ (H : Heap) (locs : List Loc), w6_I D (LW g ad V' bd U' o fL) (LA s) s H locs → W p l e room_1 s m #[Value.ref b] below meth c H locs (cells + 100) (slots + 600) Q (F0 m 1109 ls [])) : W p l e room_1 s m #[Value.ref b] below meth c H locs cells slots Q (F0 m 396 ls []) := by
  have F := X.1
  have hx := F.1.1
  have hb := F.1.2.1
  unfold LW at I
  refine lv_aload_n hx hb dL_law_396 rfl (lv_at hl 1 rfl) ?_
  refine law_arg (k := 1) X I hl rfl rfl hj (by decide) dL_law_397 dL_law_398 dL_law_400 (.inl ⟨rfl, rfl⟩) dL_law_401 dL_law_402 ?_
  refine xc_Vi F I (ctx_begin l D g ad V (xs (j + 1)) r V' hf) 1 (lw_V q270 q271 q272 q47 q273) ⟨rfl, hdX1_begin⟩ ⟨Nat.le_of_ble_eq_true rfl, Nat.le_of_ble_eq_true rfl⟩ (w6_recv F I xo_ob rfl) rfl hl.1 [] rfl (Nat.le_of_ble_eq_true rfl) dL_law_403 ⟨Nat.le_trans (Nat.add_le_add_left (Nat.le_of_ble_eq_true rfl) _) hc, Nat.le_trans (Nat.add_le_add_left (Nat.le_of_ble_eq_true rfl) _) hs⟩ (fun H locs I => ?_)
  refine W.widen (k := cells + 100) (n := slots + 600) (Nat.add_le_add_left (Nat.le_of_ble_eq_true rfl) _) (Nat.add_le_add_left (Nat.le_of_ble_eq_true rfl) _) ?_
  have I := w6_rot I
  refine lv_aload_n hx hb dL_law_406 rfl (lv_at hl 2 rfl) ?_
  refine law_arg (k := 1) X I hl rfl rfl hj (by decide) dL_law_407 dL_law_408 dL_law_410 (.inl ⟨rfl, rfl⟩) dL_law_411 dL_law_412 ?_
  refine xz_Vi F I (ctm_begin l D g bd U (xs (j + 1)) r U' hm) (lw_V q861 q862 q863 q50 q864) hdX3_begin rfl (Nat.le_of_ble_eq_true rfl) (Nat.le_of_ble_eq_true rfl) (w6_recv F I mo_ob rfl) rfl hl.1 [.int r] rfl (Nat.le_of_ble_eq_true rfl) dL_law_413 ⟨hc, hs⟩ (fun H locs I => ?_)
  have I := w6_rot (w6_rot I)
  exact lv_icmp_eq (tgt := 1109) hx hb dL_law_416 (by decide) (fun _ => K H locs I) (fun h => absurd rfl h)
theorem lc_rally {r : Int32} (hf : x_rally V (xs (j + 1)) = some (r, V')) (hm : m_rally U (xs (j + 1)) = some (r, U')) (X : LX p s m meth c b L xs D g) (I : w6_I D (LW g ad V bd U o fL) (LA s) s H locs) (hl : lv_has ls 7 (Ll b (ad 0) (bd 0) o j)) (hj : j + 8 ≤ L) (hc : cells + 100 ≤ room_1.cells) (hs : slots + 600 ≤ room_1.slots)
    (K : ∀ (H : Heap) (locs : List Loc), w6_I D (LW g ad V' bd U' o fL) (LA s) s H locs → W p l e room_1 s m #[Value.ref b] below meth c H locs (cells + 100) (slots + 600) Q (F0 m 1109 ls [])) : W p l e room_1 s m #[Value.ref b] below meth c H locs cells slots Q (F0 m 421 ls []) := by
  have F := X.1
  have hx := F.1.1
  have hb := F.1.2.1
  unfold LW at I
  refine lv_aload_n hx hb dL_law_421 rfl (lv_at hl 1 rfl) ?_
  refine law_arg (k := 1) X I hl rfl rfl hj (by decide) dL_law_422 dL_law_423 dL_law_425 (.inl ⟨rfl, rfl⟩) dL_law_426 dL_law_427 ?_
  refine xc_Vi F I (ctx_rally l D g ad V (xs (j + 1)) r V' hf) 1 (lw_V q290 q291 q292 q47 q293) ⟨rfl, hdX1_rally⟩ ⟨Nat.le_of_ble_eq_true rfl, Nat.le_of_ble_eq_true rfl⟩ (w6_recv F I xo_ob rfl) rfl hl.1 [] rfl (Nat.le_of_ble_eq_true rfl) dL_law_428 ⟨Nat.le_trans (Nat.add_le_add_left (Nat.le_of_ble_eq_true rfl) _) hc, Nat.le_trans (Nat.add_le_add_left (Nat.le_of_ble_eq_true rfl) _) hs⟩ (fun H locs I => ?_)
  refine W.widen (k := cells + 100) (n := slots + 600) (Nat.add_le_add_left (Nat.le_of_ble_eq_true rfl) _) (Nat.add_le_add_left (Nat.le_of_ble_eq_true rfl) _) ?_
  have I := w6_rot I
  refine lv_aload_n hx hb dL_law_431 rfl (lv_at hl 2 rfl) ?_
  refine law_arg (k := 1) X I hl rfl rfl hj (by decide) dL_law_432 dL_law_433 dL_law_435 (.inl ⟨rfl, rfl⟩) dL_law_436 dL_law_437 ?_
  refine xz_Vi F I (ctm_rally l D g bd U (xs (j + 1)) r U' hm) (lw_V q873 q874 q875 q50 q876) hdX3_rally rfl (Nat.le_of_ble_eq_true rfl) (Nat.le_of_ble_eq_true rfl) (w6_recv F I mo_ob rfl) rfl hl.1 [.int r] rfl (Nat.le_of_ble_eq_true rfl) dL_law_438 ⟨hc, hs⟩ (fun H locs I => ?_)
  have I := w6_rot (w6_rot I)
  exact lv_icmp_eq (tgt := 1109) hx hb dL_law_441 (by decide) (fun _ => K H locs I) (fun h => absurd rfl h)
theorem lc_may {r : Int32} (hf : x_may V (xs (j + 1)) (xs (j + 2)) (xs (j + 3)) = some (r, V')) (hm : m_may U (xs (j + 1)) (xs (j + 2)) (xs (j + 3)) = some (r, U')) (X : LX p s m meth c b L xs D g) (I : w6_I D (LW g ad V bd U o fL) (LA s) s H locs) (hl : lv_has ls 7 (Ll b (ad 0) (bd 0) o j)) (hj : j + 8 ≤ L) (hc : cells + 100 ≤ room_1.cells) (hs : slots + 600 ≤ room_1.slots)
    (K : ∀ (H : Heap) (locs : List Loc), w6_I D (LW g ad V' bd U' o fL) (LA s) s H locs → W p l e room_1 s m #[Value.ref b] below meth c H locs (cells + 100) (slots + 600) Q (F0 m 1109 ls [])) : W p l e room_1 s m #[Value.ref b] below meth c H locs cells slots Q (F0 m 446 ls []) := by
  have F := X.1
  have hx := F.1.1
  have hb := F.1.2.1
  unfold LW at I
  refine lv_aload_n hx hb dL_law_446 rfl (lv_at hl 1 rfl) ?_
  refine law_arg (k := 1) X I hl rfl rfl hj (by decide) dL_law_447 dL_law_448 dL_law_450 (.inl ⟨rfl, rfl⟩) dL_law_451 dL_law_452 ?_
  refine law_arg (k := 2) X I hl rfl rfl hj (by decide) dL_law_453 dL_law_454 dL_law_456 (.inl ⟨rfl, rfl⟩) dL_law_457 dL_law_458 ?_
  refine law_arg (k := 3) X I hl rfl rfl hj (by decide) dL_law_459 dL_law_460 dL_law_462 (.inl ⟨rfl, rfl⟩) dL_law_463 dL_law_464 ?_
  refine xc_Vi F I (ctx_may l D g ad V (xs (j + 1)) (xs (j + 2)) (xs (j + 3)) r V' hf) 3 (lw_V q315 q316 q317 q47 q318) ⟨rfl, hdX1_may⟩ ⟨Nat.le_of_ble_eq_true rfl, Nat.le_of_ble_eq_true rfl⟩ (w6_recv F I xo_ob rfl) rfl hl.1 [] rfl (Nat.le_of_ble_eq_true rfl) dL_law_465 ⟨Nat.le_trans (Nat.add_le_add_left (Nat.le_of_ble_eq_true rfl) _) hc, Nat.le_trans (Nat.add_le_add_left (Nat.le_of_ble_eq_true rfl) _) hs⟩ (fun H locs I => ?_)
  refine W.widen (k := cells + 100) (n := slots + 600) (Nat.add_le_add_left (Nat.le_of_ble_eq_true rfl) _) (Nat.add_le_add_left (Nat.le_of_ble_eq_true rfl) _) ?_
  have I := w6_rot I
  refine lv_aload_n hx hb dL_law_468 rfl (lv_at hl 2 rfl) ?_
  refine law_arg (k := 1) X I hl rfl rfl hj (by decide) dL_law_469 dL_law_470 dL_law_472 (.inl ⟨rfl, rfl⟩) dL_law_473 dL_law_474 ?_
  refine law_arg (k := 2) X I hl rfl rfl hj (by decide) dL_law_475 dL_law_476 dL_law_478 (.inl ⟨rfl, rfl⟩) dL_law_479 dL_law_480 ?_
  refine law_arg (k := 3) X I hl rfl rfl hj (by decide) dL_law_481 dL_law_482 dL_law_484 (.inl ⟨rfl, rfl⟩) dL_law_485 dL_law_486 ?_
  refine xz_Vi F I (ctm_may l D g bd U (xs (j + 1)) (xs (j + 2)) (xs (j + 3)) r U' hm) (lw_V q897 q898 q899 q50 q900) hdX3_may rfl (Nat.le_of_ble_eq_true rfl) (Nat.le_of_ble_eq_true rfl) (w6_recv F I mo_ob rfl) rfl hl.1 [.int r] rfl (Nat.le_of_ble_eq_true rfl) dL_law_487 ⟨hc, hs⟩ (fun H locs I => ?_)
  have I := w6_rot (w6_rot I)
  exact lv_icmp_eq (tgt := 1109) hx hb dL_law_490 (by decide) (fun _ => K H locs I) (fun h => absurd rfl h)
theorem lc_change {r : Int32} (hf : x_change V (xs (j + 1)) (xs (j + 2)) (xs (j + 3)) = some (r, V')) (hm : m_change U (xs (j + 1)) (xs (j + 2)) (xs (j + 3)) = some (r, U')) (X : LX p s m meth c b L xs D g) (I : w6_I D (LW g ad V bd U o fL) (LA s) s H locs) (hl : lv_has ls 7 (Ll b (ad 0) (bd 0) o j)) (hj : j + 8 ≤ L) (hc : cells + 100 ≤ room_1.cells) (hs : slots + 600 ≤ room_1.slots)
    (K : ∀ (H : Heap) (locs : List Loc), w6_I D (LW g ad V' bd U' o fL) (LA s) s H locs → W p l e room_1 s m #[Value.ref b] below meth c H locs (cells + 100) (slots + 600) Q (F0 m 1109 ls [])) : W p l e room_1 s m #[Value.ref b] below meth c H locs cells slots Q (F0 m 495 ls []) := by
  have F := X.1
  have hx := F.1.1
  have hb := F.1.2.1
  unfold LW at I
  refine lv_aload_n hx hb dL_law_495 rfl (lv_at hl 1 rfl) ?_
  refine law_arg (k := 1) X I hl rfl rfl hj (by decide) dL_law_496 dL_law_497 dL_law_499 (.inl ⟨rfl, rfl⟩) dL_law_500 dL_law_501 ?_
  refine law_arg (k := 2) X I hl rfl rfl hj (by decide) dL_law_502 dL_law_503 dL_law_505 (.inl ⟨rfl, rfl⟩) dL_law_506 dL_law_507 ?_
  refine law_arg (k := 3) X I hl rfl rfl hj (by decide) dL_law_508 dL_law_509 dL_law_511 (.inl ⟨rfl, rfl⟩) dL_law_512 dL_law_513 ?_
  refine xc_Vi F I (ctx_change l D g ad V (xs (j + 1)) (xs (j + 2)) (xs (j + 3)) r V' hf) 3 (lw_V q327 q328 q329 q47 q330) ⟨rfl, hdX1_change⟩ ⟨Nat.le_of_ble_eq_true rfl, Nat.le_of_ble_eq_true rfl⟩ (w6_recv F I xo_ob rfl) rfl hl.1 [] rfl (Nat.le_of_ble_eq_true rfl) dL_law_514 ⟨Nat.le_trans (Nat.add_le_add_left (Nat.le_of_ble_eq_true rfl) _) hc, Nat.le_trans (Nat.add_le_add_left (Nat.le_of_ble_eq_true rfl) _) hs⟩ (fun H locs I => ?_)
  refine W.widen (k := cells + 100) (n := slots + 600) (Nat.add_le_add_left (Nat.le_of_ble_eq_true rfl) _) (Nat.add_le_add_left (Nat.le_of_ble_eq_true rfl) _) ?_
  have I := w6_rot I
  refine lv_aload_n hx hb dL_law_517 rfl (lv_at hl 2 rfl) ?_
  refine law_arg (k := 1) X I hl rfl rfl hj (by decide) dL_law_518 dL_law_519 dL_law_521 (.inl ⟨rfl, rfl⟩) dL_law_522 dL_law_523 ?_
  refine law_arg (k := 2) X I hl rfl rfl hj (by decide) dL_law_524 dL_law_525 dL_law_527 (.inl ⟨rfl, rfl⟩) dL_law_528 dL_law_529 ?_
  refine law_arg (k := 3) X I hl rfl rfl hj (by decide) dL_law_530 dL_law_531 dL_law_533 (.inl ⟨rfl, rfl⟩) dL_law_534 dL_law_535 ?_
  refine xz_Vi F I (ctm_change l D g bd U (xs (j + 1)) (xs (j + 2)) (xs (j + 3)) r U' hm) (lw_V q909 q910 q911 q50 q912) hdX3_change rfl (Nat.le_of_ble_eq_true rfl) (Nat.le_of_ble_eq_true rfl) (w6_recv F I mo_ob rfl) rfl hl.1 [.int r] rfl (Nat.le_of_ble_eq_true rfl) dL_law_536 ⟨hc, hs⟩ (fun H locs I => ?_)
  have I := w6_rot (w6_rot I)
  exact lv_icmp_eq (tgt := 1109) hx hb dL_law_539 (by decide) (fun _ => K H locs I) (fun h => absurd rfl h)
theorem lc_free {r : Int32} (hf : x_free V (xs (j + 1)) (xs (j + 2)) = some (r, V')) (hm : m_free U (xs (j + 1)) (xs (j + 2)) = some (r, U')) (X : LX p s m meth c b L xs D g) (I : w6_I D (LW g ad V bd U o fL) (LA s) s H locs) (hl : lv_has ls 7 (Ll b (ad 0) (bd 0) o j)) (hj : j + 8 ≤ L) (hc : cells + 100 ≤ room_1.cells) (hs : slots + 600 ≤ room_1.slots)
    (K : ∀ (H : Heap) (locs : List Loc), w6_I D (LW g ad V' bd U' o fL) (LA s) s H locs → W p l e room_1 s m #[Value.ref b] below meth c H locs (cells + 100) (slots + 600) Q (F0 m 1109 ls [])) : W p l e room_1 s m #[Value.ref b] below meth c H locs cells slots Q (F0 m 544 ls []) := by
  have F := X.1
  have hx := F.1.1
  have hb := F.1.2.1
  unfold LW at I
  refine lv_aload_n hx hb dL_law_544 rfl (lv_at hl 1 rfl) ?_
  refine law_arg (k := 1) X I hl rfl rfl hj (by decide) dL_law_545 dL_law_546 dL_law_548 (.inl ⟨rfl, rfl⟩) dL_law_549 dL_law_550 ?_
  refine law_arg (k := 2) X I hl rfl rfl hj (by decide) dL_law_551 dL_law_552 dL_law_554 (.inl ⟨rfl, rfl⟩) dL_law_555 dL_law_556 ?_
  refine xc_Vi F I (ctx_free l D g ad V (xs (j + 1)) (xs (j + 2)) r V' hf) 2 (lw_V q337 q338 q339 q47 q340) ⟨rfl, hdX1_free⟩ ⟨Nat.le_of_ble_eq_true rfl, Nat.le_of_ble_eq_true rfl⟩ (w6_recv F I xo_ob rfl) rfl hl.1 [] rfl (Nat.le_of_ble_eq_true rfl) dL_law_557 ⟨Nat.le_trans (Nat.add_le_add_left (Nat.le_of_ble_eq_true rfl) _) hc, Nat.le_trans (Nat.add_le_add_left (Nat.le_of_ble_eq_true rfl) _) hs⟩ (fun H locs I => ?_)
  refine W.widen (k := cells + 100) (n := slots + 600) (Nat.add_le_add_left (Nat.le_of_ble_eq_true rfl) _) (Nat.add_le_add_left (Nat.le_of_ble_eq_true rfl) _) ?_
  have I := w6_rot I
  refine lv_aload_n hx hb dL_law_560 rfl (lv_at hl 2 rfl) ?_
  refine law_arg (k := 1) X I hl rfl rfl hj (by decide) dL_law_561 dL_law_562 dL_law_564 (.inl ⟨rfl, rfl⟩) dL_law_565 dL_law_566 ?_
  refine law_arg (k := 2) X I hl rfl rfl hj (by decide) dL_law_567 dL_law_568 dL_law_570 (.inl ⟨rfl, rfl⟩) dL_law_571 dL_law_572 ?_
  refine xz_Vi F I (ctm_free l D g bd U (xs (j + 1)) (xs (j + 2)) r U' hm) (lw_V q917 q918 q919 q50 q920) hdX3_free rfl (Nat.le_of_ble_eq_true rfl) (Nat.le_of_ble_eq_true rfl) (w6_recv F I mo_ob rfl) rfl hl.1 [.int r] rfl (Nat.le_of_ble_eq_true rfl) dL_law_573 ⟨hc, hs⟩ (fun H locs I => ?_)
  have I := w6_rot (w6_rot I)
  exact lv_icmp_eq (tgt := 1109) hx hb dL_law_576 (by decide) (fun _ => K H locs I) (fun h => absurd rfl h)
theorem lc_pause {r : Int32} (hf : x_pause V (xs (j + 1)) = some (r, V')) (hm : m_pause U (xs (j + 1)) = some (r, U')) (X : LX p s m meth c b L xs D g) (I : w6_I D (LW g ad V bd U o fL) (LA s) s H locs) (hl : lv_has ls 7 (Ll b (ad 0) (bd 0) o j)) (hj : j + 8 ≤ L) (hc : cells + 100 ≤ room_1.cells) (hs : slots + 600 ≤ room_1.slots)
    (K : ∀ (H : Heap) (locs : List Loc), w6_I D (LW g ad V' bd U' o fL) (LA s) s H locs → W p l e room_1 s m #[Value.ref b] below meth c H locs (cells + 100) (slots + 600) Q (F0 m 1109 ls [])) : W p l e room_1 s m #[Value.ref b] below meth c H locs cells slots Q (F0 m 581 ls []) := by
  have F := X.1
  have hx := F.1.1
  have hb := F.1.2.1
  unfold LW at I
  refine lv_aload_n hx hb dL_law_581 rfl (lv_at hl 1 rfl) ?_
  refine law_arg (k := 1) X I hl rfl rfl hj (by decide) dL_law_582 dL_law_583 dL_law_585 (.inl ⟨rfl, rfl⟩) dL_law_586 dL_law_587 ?_
  refine xc_Vi F I (ctx_pause l D g ad V (xs (j + 1)) r V' hf) 1 (lw_V q341 q342 q343 q47 q344) ⟨rfl, hdX1_pause⟩ ⟨Nat.le_of_ble_eq_true rfl, Nat.le_of_ble_eq_true rfl⟩ (w6_recv F I xo_ob rfl) rfl hl.1 [] rfl (Nat.le_of_ble_eq_true rfl) dL_law_588 ⟨Nat.le_trans (Nat.add_le_add_left (Nat.le_of_ble_eq_true rfl) _) hc, Nat.le_trans (Nat.add_le_add_left (Nat.le_of_ble_eq_true rfl) _) hs⟩ (fun H locs I => ?_)
  refine W.widen (k := cells + 100) (n := slots + 600) (Nat.add_le_add_left (Nat.le_of_ble_eq_true rfl) _) (Nat.add_le_add_left (Nat.le_of_ble_eq_true rfl) _) ?_
  have I := w6_rot I
  refine lv_aload_n hx hb dL_law_591 rfl (lv_at hl 2 rfl) ?_
  refine law_arg (k := 1) X I hl rfl rfl hj (by decide) dL_law_592 dL_law_593 dL_law_595 (.inl ⟨rfl, rfl⟩) dL_law_596 dL_law_597 ?_
  refine xz_Vi F I (ctm_pause l D g bd U (xs (j + 1)) r U' hm) (lw_V q925 q926 q927 q50 q928) hdX3_pause rfl (Nat.le_of_ble_eq_true rfl) (Nat.le_of_ble_eq_true rfl) (w6_recv F I mo_ob rfl) rfl hl.1 [.int r] rfl (Nat.le_of_ble_eq_true rfl) dL_law_598 ⟨hc, hs⟩ (fun H locs I => ?_)
  have I := w6_rot (w6_rot I)
  exact lv_icmp_eq (tgt := 1109) hx hb dL_law_601 (by decide) (fun _ => K H locs I) (fun h => absurd rfl h)
theorem lc_wrong {r : Int32} (hf : x_wrong V (xs (j + 1)) = some (r, V')) (hm : m_wrong U (xs (j + 1)) = some (r, U')) (X : LX p s m meth c b L xs D g) (I : w6_I D (LW g ad V bd U o fL) (LA s) s H locs) (hl : lv_has ls 7 (Ll b (ad 0) (bd 0) o j)) (hj : j + 8 ≤ L) (hc : cells + 100 ≤ room_1.cells) (hs : slots + 600 ≤ room_1.slots)
    (K : ∀ (H : Heap) (locs : List Loc), w6_I D (LW g ad V' bd U' o fL) (LA s) s H locs → W p l e room_1 s m #[Value.ref b] below meth c H locs (cells + 100) (slots + 600) Q (F0 m 1109 ls [])) : W p l e room_1 s m #[Value.ref b] below meth c H locs cells slots Q (F0 m 606 ls []) := by
  have F := X.1
  have hx := F.1.1
  have hb := F.1.2.1
  unfold LW at I
  refine lv_aload_n hx hb dL_law_606 rfl (lv_at hl 1 rfl) ?_
  refine law_arg (k := 1) X I hl rfl rfl hj (by decide) dL_law_607 dL_law_608 dL_law_610 (.inl ⟨rfl, rfl⟩) dL_law_611 dL_law_612 ?_
  refine xc_Vi F I (ctx_wrong l D g ad V (xs (j + 1)) r V' hf) 1 (lw_V q345 q346 q347 q47 q348) ⟨rfl, hdX1_wrong⟩ ⟨Nat.le_of_ble_eq_true rfl, Nat.le_of_ble_eq_true rfl⟩ (w6_recv F I xo_ob rfl) rfl hl.1 [] rfl (Nat.le_of_ble_eq_true rfl) dL_law_613 ⟨Nat.le_trans (Nat.add_le_add_left (Nat.le_of_ble_eq_true rfl) _) hc, Nat.le_trans (Nat.add_le_add_left (Nat.le_of_ble_eq_true rfl) _) hs⟩ (fun H locs I => ?_)
  refine W.widen (k := cells + 100) (n := slots + 600) (Nat.add_le_add_left (Nat.le_of_ble_eq_true rfl) _) (Nat.add_le_add_left (Nat.le_of_ble_eq_true rfl) _) ?_
  have I := w6_rot I
  refine lv_aload_n hx hb dL_law_616 rfl (lv_at hl 2 rfl) ?_
  refine law_arg (k := 1) X I hl rfl rfl hj (by decide) dL_law_617 dL_law_618 dL_law_620 (.inl ⟨rfl, rfl⟩) dL_law_621 dL_law_622 ?_
  refine xz_Vi F I (ctm_wrong l D g bd U (xs (j + 1)) r U' hm) (lw_V q933 q934 q935 q50 q936) hdX3_wrong rfl (Nat.le_of_ble_eq_true rfl) (Nat.le_of_ble_eq_true rfl) (w6_recv F I mo_ob rfl) rfl hl.1 [.int r] rfl (Nat.le_of_ble_eq_true rfl) dL_law_623 ⟨hc, hs⟩ (fun H locs I => ?_)
  have I := w6_rot (w6_rot I)
  exact lv_icmp_eq (tgt := 1109) hx hb dL_law_626 (by decide) (fun _ => K H locs I) (fun h => absurd rfl h)
theorem lc_at {r : Int32} (hf : x_at V (xs (j + 1)) (xs (j + 2)) = some (r, V')) (hm : m_at U (xs (j + 1)) (xs (j + 2)) = some (r, U')) (X : LX p s m meth c b L xs D g) (I : w6_I D (LW g ad V bd U o fL) (LA s) s H locs) (hl : lv_has ls 7 (Ll b (ad 0) (bd 0) o j)) (hj : j + 8 ≤ L) (hc : cells + 100 ≤ room_1.cells) (hs : slots + 600 ≤ room_1.slots)
    (K : ∀ (H : Heap) (locs : List Loc), w6_I D (LW g ad V' bd U' o fL) (LA s) s H locs → W p l e room_1 s m #[Value.ref b] below meth c H locs (cells + 100) (slots + 600) Q (F0 m 1109 ls [])) : W p l e room_1 s m #[Value.ref b] below meth c H locs cells slots Q (F0 m 631 ls []) := by
  have F := X.1
  have hx := F.1.1
  have hb := F.1.2.1
  unfold LW at I
  refine lv_aload_n hx hb dL_law_631 rfl (lv_at hl 1 rfl) ?_
  refine law_arg (k := 1) X I hl rfl rfl hj (by decide) dL_law_632 dL_law_633 dL_law_635 (.inl ⟨rfl, rfl⟩) dL_law_636 dL_law_637 ?_
  refine law_arg (k := 2) X I hl rfl rfl hj (by decide) dL_law_638 dL_law_639 dL_law_641 (.inl ⟨rfl, rfl⟩) dL_law_642 dL_law_643 ?_
  refine xc_Vi F I (ctx_at l D g ad V (xs (j + 1)) (xs (j + 2)) r V' hf) 2 (lw_V q349 q350 q351 q47 q352) ⟨rfl, hdX1_at⟩ ⟨Nat.le_of_ble_eq_true rfl, Nat.le_of_ble_eq_true rfl⟩ (w6_recv F I xo_ob rfl) rfl hl.1 [] rfl (Nat.le_of_ble_eq_true rfl) dL_law_644 ⟨Nat.le_trans (Nat.add_le_add_left (Nat.le_of_ble_eq_true rfl) _) hc, Nat.le_trans (Nat.add_le_add_left (Nat.le_of_ble_eq_true rfl) _) hs⟩ (fun H locs I => ?_)
  refine W.widen (k := cells + 100) (n := slots + 600) (Nat.add_le_add_left (Nat.le_of_ble_eq_true rfl) _) (Nat.add_le_add_left (Nat.le_of_ble_eq_true rfl) _) ?_
  have I := w6_rot I
  refine lv_aload_n hx hb dL_law_647 rfl (lv_at hl 2 rfl) ?_
  refine law_arg (k := 1) X I hl rfl rfl hj (by decide) dL_law_648 dL_law_649 dL_law_651 (.inl ⟨rfl, rfl⟩) dL_law_652 dL_law_653 ?_
  refine law_arg (k := 2) X I hl rfl rfl hj (by decide) dL_law_654 dL_law_655 dL_law_657 (.inl ⟨rfl, rfl⟩) dL_law_658 dL_law_659 ?_
  refine xz_Vi F I (ctm_at l D g bd U (xs (j + 1)) (xs (j + 2)) r U' hm) (lw_V q937 q938 q939 q50 q940) hdX3_at rfl (Nat.le_of_ble_eq_true rfl) (Nat.le_of_ble_eq_true rfl) (w6_recv F I mo_ob rfl) rfl hl.1 [.int r] rfl (Nat.le_of_ble_eq_true rfl) dL_law_660 ⟨hc, hs⟩ (fun H locs I => ?_)
  have I := w6_rot (w6_rot I)
  exact lv_icmp_eq (tgt := 1109) hx hb dL_law_663 (by decide) (fun _ => K H locs I) (fun h => absurd rfl h)
theorem lc_of {r : Int32} (hf : x_of V (xs (j + 1)) (xs (j + 2)) = some (r, V')) (hm : m_of U (xs (j + 1)) (xs (j + 2)) = some (r, U')) (X : LX p s m meth c b L xs D g) (I : w6_I D (LW g ad V bd U o fL) (LA s) s H locs) (hl : lv_has ls 7 (Ll b (ad 0) (bd 0) o j)) (hj : j + 8 ≤ L) (hc : cells + 100 ≤ room_1.cells) (hs : slots + 600 ≤ room_1.slots)
    (K : ∀ (H : Heap) (locs : List Loc), w6_I D (LW g ad V' bd U' o fL) (LA s) s H locs → W p l e room_1 s m #[Value.ref b] below meth c H locs (cells + 100) (slots + 600) Q (F0 m 1109 ls [])) : W p l e room_1 s m #[Value.ref b] below meth c H locs cells slots Q (F0 m 668 ls []) := by
  have F := X.1
  have hx := F.1.1
  have hb := F.1.2.1
  unfold LW at I
  refine lv_aload_n hx hb dL_law_668 rfl (lv_at hl 1 rfl) ?_
  refine law_arg (k := 1) X I hl rfl rfl hj (by decide) dL_law_669 dL_law_670 dL_law_672 (.inl ⟨rfl, rfl⟩) dL_law_673 dL_law_674 ?_
  refine law_arg (k := 2) X I hl rfl rfl hj (by decide) dL_law_675 dL_law_676 dL_law_678 (.inl ⟨rfl, rfl⟩) dL_law_679 dL_law_680 ?_
  refine xc_Vi F I (ctx_of l D g ad V (xs (j + 1)) (xs (j + 2)) r V' hf) 2 (lw_V q356 q357 q358 q47 q359) ⟨rfl, hdX1_of⟩ ⟨Nat.le_of_ble_eq_true rfl, Nat.le_of_ble_eq_true rfl⟩ (w6_recv F I xo_ob rfl) rfl hl.1 [] rfl (Nat.le_of_ble_eq_true rfl) dL_law_681 ⟨Nat.le_trans (Nat.add_le_add_left (Nat.le_of_ble_eq_true rfl) _) hc, Nat.le_trans (Nat.add_le_add_left (Nat.le_of_ble_eq_true rfl) _) hs⟩ (fun H locs I => ?_)
  refine W.widen (k := cells + 100) (n := slots + 600) (Nat.add_le_add_left (Nat.le_of_ble_eq_true rfl) _) (Nat.add_le_add_left (Nat.le_of_ble_eq_true rfl) _) ?_
  have I := w6_rot I
  refine lv_aload_n hx hb dL_law_684 rfl (lv_at hl 2 rfl) ?_
  refine law_arg (k := 1) X I hl rfl rfl hj (by decide) dL_law_685 dL_law_686 dL_law_688 (.inl ⟨rfl, rfl⟩) dL_law_689 dL_law_690 ?_
  refine law_arg (k := 2) X I hl rfl rfl hj (by decide) dL_law_691 dL_law_692 dL_law_694 (.inl ⟨rfl, rfl⟩) dL_law_695 dL_law_696 ?_
  refine xz_Vi F I (ctm_of l D g bd U (xs (j + 1)) (xs (j + 2)) r U' hm) (lw_V q941 q942 q943 q50 q944) hdX3_of rfl (Nat.le_of_ble_eq_true rfl) (Nat.le_of_ble_eq_true rfl) (w6_recv F I mo_ob rfl) rfl hl.1 [.int r] rfl (Nat.le_of_ble_eq_true rfl) dL_law_697 ⟨hc, hs⟩ (fun H locs I => ?_)
  have I := w6_rot (w6_rot I)
  exact lv_icmp_eq (tgt := 1109) hx hb dL_law_700 (by decide) (fun _ => K H locs I) (fun h => absurd rfl h)
theorem lc_count {r : Int32} (hf : x_count V (xs (j + 1)) = some (r, V')) (hm : m_count U (xs (j + 1)) = some (r, U')) (X : LX p s m meth c b L xs D g) (I : w6_I D (LW g ad V bd U o fL) (LA s) s H locs) (hl : lv_has ls 7 (Ll b (ad 0) (bd 0) o j)) (hj : j + 8 ≤ L) (hc : cells + 100 ≤ room_1.cells) (hs : slots + 600 ≤ room_1.slots)
    (K : ∀ (H : Heap) (locs : List Loc), w6_I D (LW g ad V' bd U' o fL) (LA s) s H locs → W p l e room_1 s m #[Value.ref b] below meth c H locs (cells + 100) (slots + 600) Q (F0 m 1109 ls [])) : W p l e room_1 s m #[Value.ref b] below meth c H locs cells slots Q (F0 m 705 ls []) := by
  have F := X.1
  have hx := F.1.1
  have hb := F.1.2.1
  unfold LW at I
  refine lv_aload_n hx hb dL_law_705 rfl (lv_at hl 1 rfl) ?_
  refine law_arg (k := 1) X I hl rfl rfl hj (by decide) dL_law_706 dL_law_707 dL_law_709 (.inl ⟨rfl, rfl⟩) dL_law_710 dL_law_711 ?_
  refine xc_Vi F I (ctx_count l D g ad V (xs (j + 1)) r V' hf) 1 (lw_V q360 q361 q362 q47 q363) ⟨rfl, hdX1_count⟩ ⟨Nat.le_of_ble_eq_true rfl, Nat.le_of_ble_eq_true rfl⟩ (w6_recv F I xo_ob rfl) rfl hl.1 [] rfl (Nat.le_of_ble_eq_true rfl) dL_law_712 ⟨Nat.le_trans (Nat.add_le_add_left (Nat.le_of_ble_eq_true rfl) _) hc, Nat.le_trans (Nat.add_le_add_left (Nat.le_of_ble_eq_true rfl) _) hs⟩ (fun H locs I => ?_)
  refine W.widen (k := cells + 100) (n := slots + 600) (Nat.add_le_add_left (Nat.le_of_ble_eq_true rfl) _) (Nat.add_le_add_left (Nat.le_of_ble_eq_true rfl) _) ?_
  have I := w6_rot I
  refine lv_aload_n hx hb dL_law_715 rfl (lv_at hl 2 rfl) ?_
  refine law_arg (k := 1) X I hl rfl rfl hj (by decide) dL_law_716 dL_law_717 dL_law_719 (.inl ⟨rfl, rfl⟩) dL_law_720 dL_law_721 ?_
  refine xz_Vi F I (ctm_count l D g bd U (xs (j + 1)) r U' hm) (lw_V q945 q946 q947 q50 q948) hdX3_count rfl (Nat.le_of_ble_eq_true rfl) (Nat.le_of_ble_eq_true rfl) (w6_recv F I mo_ob rfl) rfl hl.1 [.int r] rfl (Nat.le_of_ble_eq_true rfl) dL_law_722 ⟨hc, hs⟩ (fun H locs I => ?_)
  have I := w6_rot (w6_rot I)
  exact lv_icmp_eq (tgt := 1109) hx hb dL_law_725 (by decide) (fun _ => K H locs I) (fun h => absurd rfl h)
theorem lc_served {r : Int32} (hf : x_served V (xs (j + 1)) (xs (j + 2)) = some (r, V')) (hm : m_served U (xs (j + 1)) (xs (j + 2)) = some (r, U')) (X : LX p s m meth c b L xs D g) (I : w6_I D (LW g ad V bd U o fL) (LA s) s H locs) (hl : lv_has ls 7 (Ll b (ad 0) (bd 0) o j)) (hj : j + 8 ≤ L) (hc : cells + 100 ≤ room_1.cells) (hs : slots + 600 ≤ room_1.slots)
    (K : ∀ (H : Heap) (locs : List Loc), w6_I D (LW g ad V' bd U' o fL) (LA s) s H locs → W p l e room_1 s m #[Value.ref b] below meth c H locs (cells + 100) (slots + 600) Q (F0 m 1109 ls [])) : W p l e room_1 s m #[Value.ref b] below meth c H locs cells slots Q (F0 m 730 ls []) := by
  have F := X.1
  have hx := F.1.1
  have hb := F.1.2.1
  unfold LW at I
  refine lv_aload_n hx hb dL_law_730 rfl (lv_at hl 1 rfl) ?_
  refine law_arg (k := 1) X I hl rfl rfl hj (by decide) dL_law_731 dL_law_732 dL_law_734 (.inl ⟨rfl, rfl⟩) dL_law_735 dL_law_736 ?_
  refine law_arg (k := 2) X I hl rfl rfl hj (by decide) dL_law_737 dL_law_738 dL_law_740 (.inl ⟨rfl, rfl⟩) dL_law_741 dL_law_742 ?_
  refine xc_Vi F I (ctx_served l D g ad V (xs (j + 1)) (xs (j + 2)) r V' hf) 2 (lw_V q364 q365 q366 q47 q367) ⟨rfl, hdX1_served⟩ ⟨Nat.le_of_ble_eq_true rfl, Nat.le_of_ble_eq_true rfl⟩ (w6_recv F I xo_ob rfl) rfl hl.1 [] rfl (Nat.le_of_ble_eq_true rfl) dL_law_743 ⟨Nat.le_trans (Nat.add_le_add_left (Nat.le_of_ble_eq_true rfl) _) hc, Nat.le_trans (Nat.add_le_add_left (Nat.le_of_ble_eq_true rfl) _) hs⟩ (fun H locs I => ?_)
  refine W.widen (k := cells + 100) (n := slots + 600) (Nat.add_le_add_left (Nat.le_of_ble_eq_true rfl) _) (Nat.add_le_add_left (Nat.le_of_ble_eq_true rfl) _) ?_
  have I := w6_rot I
  refine lv_aload_n hx hb dL_law_746 rfl (lv_at hl 2 rfl) ?_
  refine law_arg (k := 1) X I hl rfl rfl hj (by decide) dL_law_747 dL_law_748 dL_law_750 (.inl ⟨rfl, rfl⟩) dL_law_751 dL_law_752 ?_
  refine law_arg (k := 2) X I hl rfl rfl hj (by decide) dL_law_753 dL_law_754 dL_law_756 (.inl ⟨rfl, rfl⟩) dL_law_757 dL_law_758 ?_
  refine xz_Vi F I (ctm_served l D g bd U (xs (j + 1)) (xs (j + 2)) r U' hm) (lw_V q949 q950 q951 q50 q952) hdX3_served rfl (Nat.le_of_ble_eq_true rfl) (Nat.le_of_ble_eq_true rfl) (w6_recv F I mo_ob rfl) rfl hl.1 [.int r] rfl (Nat.le_of_ble_eq_true rfl) dL_law_759 ⟨hc, hs⟩ (fun H locs I => ?_)
  have I := w6_rot (w6_rot I)
  exact lv_icmp_eq (tgt := 1109) hx hb dL_law_762 (by decide) (fun _ => K H locs I) (fun h => absurd rfl h)
theorem lc_feet {r : Int32} (hf : x_feet V (xs (j + 1)) (xs (j + 2)) (xs (j + 3)) (xs (j + 4)) = some (r, V')) (hm : m_feet U (xs (j + 1)) (xs (j + 2)) (xs (j + 3)) (xs (j + 4)) = some (r, U')) (X : LX p s m meth c b L xs D g) (I : w6_I D (LW g ad V bd U o fL) (LA s) s H locs) (hl : lv_has ls 7 (Ll b (ad 0) (bd 0) o j)) (hj : j + 8 ≤ L) (hc : cells + 100 ≤ room_1.cells) (hs : slots + 600 ≤ room_1.slots)
    (K : ∀ (H : Heap) (locs : List Loc), w6_I D (LW g ad V' bd U' o fL) (LA s) s H locs → W p l e room_1 s m #[Value.ref b] below meth c H locs (cells + 100) (slots + 600) Q (F0 m 1109 ls [])) : W p l e room_1 s m #[Value.ref b] below meth c H locs cells slots Q (F0 m 767 ls []) := by
  have F := X.1
  have hx := F.1.1
  have hb := F.1.2.1
  unfold LW at I
  refine lv_aload_n hx hb dL_law_767 rfl (lv_at hl 1 rfl) ?_
  refine law_arg (k := 1) X I hl rfl rfl hj (by decide) dL_law_768 dL_law_769 dL_law_771 (.inl ⟨rfl, rfl⟩) dL_law_772 dL_law_773 ?_
  refine law_arg (k := 2) X I hl rfl rfl hj (by decide) dL_law_774 dL_law_775 dL_law_777 (.inl ⟨rfl, rfl⟩) dL_law_778 dL_law_779 ?_
  refine law_arg (k := 3) X I hl rfl rfl hj (by decide) dL_law_780 dL_law_781 dL_law_783 (.inl ⟨rfl, rfl⟩) dL_law_784 dL_law_785 ?_
  refine law_arg (k := 4) X I hl rfl rfl hj (by decide) dL_law_786 dL_law_787 dL_law_789 (.inl ⟨rfl, rfl⟩) dL_law_790 dL_law_791 ?_
  refine xc_Vi F I (ctx_feet l D g ad V (xs (j + 1)) (xs (j + 2)) (xs (j + 3)) (xs (j + 4)) r V' hf) 4 (lw_V q368 q369 q370 q47 q371) ⟨rfl, hdX1_feet⟩ ⟨Nat.le_of_ble_eq_true rfl, Nat.le_of_ble_eq_true rfl⟩ (w6_recv F I xo_ob rfl) rfl hl.1 [] rfl (Nat.le_of_ble_eq_true rfl) dL_law_792 ⟨Nat.le_trans (Nat.add_le_add_left (Nat.le_of_ble_eq_true rfl) _) hc, Nat.le_trans (Nat.add_le_add_left (Nat.le_of_ble_eq_true rfl) _) hs⟩ (fun H locs I => ?_)
  refine W.widen (k := cells + 100) (n := slots + 600) (Nat.add_le_add_left (Nat.le_of_ble_eq_true rfl) _) (Nat.add_le_add_left (Nat.le_of_ble_eq_true rfl) _) ?_
  have I := w6_rot I
  refine lv_aload_n hx hb dL_law_795 rfl (lv_at hl 2 rfl) ?_
  refine law_arg (k := 1) X I hl rfl rfl hj (by decide) dL_law_796 dL_law_797 dL_law_799 (.inl ⟨rfl, rfl⟩) dL_law_800 dL_law_801 ?_
  refine law_arg (k := 2) X I hl rfl rfl hj (by decide) dL_law_802 dL_law_803 dL_law_805 (.inl ⟨rfl, rfl⟩) dL_law_806 dL_law_807 ?_
  refine law_arg (k := 3) X I hl rfl rfl hj (by decide) dL_law_808 dL_law_809 dL_law_811 (.inl ⟨rfl, rfl⟩) dL_law_812 dL_law_813 ?_
  refine law_arg (k := 4) X I hl rfl rfl hj (by decide) dL_law_814 dL_law_815 dL_law_817 (.inl ⟨rfl, rfl⟩) dL_law_818 dL_law_819 ?_
  refine xz_Vi F I (ctm_feet l D g bd U (xs (j + 1)) (xs (j + 2)) (xs (j + 3)) (xs (j + 4)) r U' hm) (lw_V q953 q954 q955 q50 q956) hdX3_feet rfl (Nat.le_of_ble_eq_true rfl) (Nat.le_of_ble_eq_true rfl) (w6_recv F I mo_ob rfl) rfl hl.1 [.int r] rfl (Nat.le_of_ble_eq_true rfl) dL_law_820 ⟨hc, hs⟩ (fun H locs I => ?_)
  have I := w6_rot (w6_rot I)
  exact lv_icmp_eq (tgt := 1109) hx hb dL_law_823 (by decide) (fun _ => K H locs I) (fun h => absurd rfl h)
theorem lc_overlap {r : Int32} (hf : x_overlap V (xs (j + 1)) = some (r, V')) (hm : m_overlap U (xs (j + 1)) = some (r, U')) (X : LX p s m meth c b L xs D g) (I : w6_I D (LW g ad V bd U o fL) (LA s) s H locs) (hl : lv_has ls 7 (Ll b (ad 0) (bd 0) o j)) (hj : j + 8 ≤ L) (hc : cells + 100 ≤ room_1.cells) (hs : slots + 600 ≤ room_1.slots)
    (K : ∀ (H : Heap) (locs : List Loc), w6_I D (LW g ad V' bd U' o fL) (LA s) s H locs → W p l e room_1 s m #[Value.ref b] below meth c H locs (cells + 100) (slots + 600) Q (F0 m 1109 ls [])) : W p l e room_1 s m #[Value.ref b] below meth c H locs cells slots Q (F0 m 828 ls []) := by
  have F := X.1
  have hx := F.1.1
  have hb := F.1.2.1
  unfold LW at I
  refine lv_aload_n hx hb dL_law_828 rfl (lv_at hl 1 rfl) ?_
  refine law_arg (k := 1) X I hl rfl rfl hj (by decide) dL_law_829 dL_law_830 dL_law_832 (.inl ⟨rfl, rfl⟩) dL_law_833 dL_law_834 ?_
  refine xc_Vi F I (ctx_overlap l D g ad V (xs (j + 1)) r V' hf) 1 (lw_V q373 q374 q375 q47 q376) ⟨rfl, hdX1_overlap⟩ ⟨Nat.le_of_ble_eq_true rfl, Nat.le_of_ble_eq_true rfl⟩ (w6_recv F I xo_ob rfl) rfl hl.1 [] rfl (Nat.le_of_ble_eq_true rfl) dL_law_835 ⟨Nat.le_trans (Nat.add_le_add_left (Nat.le_of_ble_eq_true rfl) _) hc, Nat.le_trans (Nat.add_le_add_left (Nat.le_of_ble_eq_true rfl) _) hs⟩ (fun H locs I => ?_)
  refine W.widen (k := cells + 100) (n := slots + 600) (Nat.add_le_add_left (Nat.le_of_ble_eq_true rfl) _) (Nat.add_le_add_left (Nat.le_of_ble_eq_true rfl) _) ?_
  have I := w6_rot I
  refine lv_aload_n hx hb dL_law_838 rfl (lv_at hl 2 rfl) ?_
  refine law_arg (k := 1) X I hl rfl rfl hj (by decide) dL_law_839 dL_law_840 dL_law_842 (.inl ⟨rfl, rfl⟩) dL_law_843 dL_law_844 ?_
  refine xz_Vi F I (ctm_overlap l D g bd U (xs (j + 1)) r U' hm) (lw_V q957 q958 q959 q50 q960) hdX3_overlap rfl (Nat.le_of_ble_eq_true rfl) (Nat.le_of_ble_eq_true rfl) (w6_recv F I mo_ob rfl) rfl hl.1 [.int r] rfl (Nat.le_of_ble_eq_true rfl) dL_law_845 ⟨hc, hs⟩ (fun H locs I => ?_)
  have I := w6_rot (w6_rot I)
  exact lv_icmp_eq (tgt := 1109) hx hb dL_law_848 (by decide) (fun _ => K H locs I) (fun h => absurd rfl h)
theorem lc_sign {r : Int32} (hf : x_sign V (xs (j + 1)) = some (r, V')) (hm : m_sign U (xs (j + 1)) = some (r, U')) (X : LX p s m meth c b L xs D g) (I : w6_I D (LW g ad V bd U o fL) (LA s) s H locs) (hl : lv_has ls 7 (Ll b (ad 0) (bd 0) o j)) (hj : j + 8 ≤ L) (hc : cells + 100 ≤ room_1.cells) (hs : slots + 600 ≤ room_1.slots)
    (K : ∀ (H : Heap) (locs : List Loc), w6_I D (LW g ad V' bd U' o fL) (LA s) s H locs → W p l e room_1 s m #[Value.ref b] below meth c H locs (cells + 100) (slots + 600) Q (F0 m 1109 ls [])) : W p l e room_1 s m #[Value.ref b] below meth c H locs cells slots Q (F0 m 853 ls []) := by
  have F := X.1
  have hx := F.1.1
  have hb := F.1.2.1
  unfold LW at I
  refine lv_aload_n hx hb dL_law_853 rfl (lv_at hl 1 rfl) ?_
  refine law_arg (k := 1) X I hl rfl rfl hj (by decide) dL_law_854 dL_law_855 dL_law_857 (.inl ⟨rfl, rfl⟩) dL_law_858 dL_law_859 ?_
  refine xc_Vi F I (ctx_sign l D g ad V (xs (j + 1)) r V' hf) 1 (lw_V q385 q386 q387 q47 q388) ⟨rfl, hdX1_sign⟩ ⟨Nat.le_of_ble_eq_true rfl, Nat.le_of_ble_eq_true rfl⟩ (w6_recv F I xo_ob rfl) rfl hl.1 [] rfl (Nat.le_of_ble_eq_true rfl) dL_law_860 ⟨Nat.le_trans (Nat.add_le_add_left (Nat.le_of_ble_eq_true rfl) _) hc, Nat.le_trans (Nat.add_le_add_left (Nat.le_of_ble_eq_true rfl) _) hs⟩ (fun H locs I => ?_)
  refine W.widen (k := cells + 100) (n := slots + 600) (Nat.add_le_add_left (Nat.le_of_ble_eq_true rfl) _) (Nat.add_le_add_left (Nat.le_of_ble_eq_true rfl) _) ?_
  have I := w6_rot I
  refine lv_aload_n hx hb dL_law_863 rfl (lv_at hl 2 rfl) ?_
  refine law_arg (k := 1) X I hl rfl rfl hj (by decide) dL_law_864 dL_law_865 dL_law_867 (.inl ⟨rfl, rfl⟩) dL_law_868 dL_law_869 ?_
  refine xz_Vi F I (ctm_sign l D g bd U (xs (j + 1)) r U' hm) (lw_V q965 q966 q967 q50 q968) hdX3_sign rfl (Nat.le_of_ble_eq_true rfl) (Nat.le_of_ble_eq_true rfl) (w6_recv F I mo_ob rfl) rfl hl.1 [.int r] rfl (Nat.le_of_ble_eq_true rfl) dL_law_870 ⟨hc, hs⟩ (fun H locs I => ?_)
  have I := w6_rot (w6_rot I)
  exact lv_icmp_eq (tgt := 1109) hx hb dL_law_873 (by decide) (fun _ => K H locs I) (fun h => absurd rfl h)
theorem lc_end {r : Int32} (hf : x_end V (xs (j + 1)) = some (r, V')) (hm : m_end U (xs (j + 1)) = some (r, U')) (X : LX p s m meth c b L xs D g) (I : w6_I D (LW g ad V bd U o fL) (LA s) s H locs) (hl : lv_has ls 7 (Ll b (ad 0) (bd 0) o j)) (hj : j + 8 ≤ L) (hc : cells + 100 ≤ room_1.cells) (hs : slots + 600 ≤ room_1.slots)
    (K : ∀ (H : Heap) (locs : List Loc), w6_I D (LW g ad V' bd U' o fL) (LA s) s H locs → W p l e room_1 s m #[Value.ref b] below meth c H locs (cells + 100) (slots + 600) Q (F0 m 1109 ls [])) : W p l e room_1 s m #[Value.ref b] below meth c H locs cells slots Q (F0 m 878 ls []) := by
  have F := X.1
  have hx := F.1.1
  have hb := F.1.2.1
  unfold LW at I
  refine lv_aload_n hx hb dL_law_878 rfl (lv_at hl 1 rfl) ?_
  refine law_arg (k := 1) X I hl rfl rfl hj (by decide) dL_law_879 dL_law_880 dL_law_882 (.inl ⟨rfl, rfl⟩) dL_law_883 dL_law_884 ?_
  refine xc_Vi F I (ctx_end l D g ad V (xs (j + 1)) r V' hf) 1 (lw_V q389 q390 q391 q47 q392) ⟨rfl, hdX1_end⟩ ⟨Nat.le_of_ble_eq_true rfl, Nat.le_of_ble_eq_true rfl⟩ (w6_recv F I xo_ob rfl) rfl hl.1 [] rfl (Nat.le_of_ble_eq_true rfl) dL_law_885 ⟨Nat.le_trans (Nat.add_le_add_left (Nat.le_of_ble_eq_true rfl) _) hc, Nat.le_trans (Nat.add_le_add_left (Nat.le_of_ble_eq_true rfl) _) hs⟩ (fun H locs I => ?_)
  refine W.widen (k := cells + 100) (n := slots + 600) (Nat.add_le_add_left (Nat.le_of_ble_eq_true rfl) _) (Nat.add_le_add_left (Nat.le_of_ble_eq_true rfl) _) ?_
  have I := w6_rot I
  refine lv_aload_n hx hb dL_law_888 rfl (lv_at hl 2 rfl) ?_
  refine law_arg (k := 1) X I hl rfl rfl hj (by decide) dL_law_889 dL_law_890 dL_law_892 (.inl ⟨rfl, rfl⟩) dL_law_893 dL_law_894 ?_
  refine xz_Vi F I (ctm_end l D g bd U (xs (j + 1)) r U' hm) (lw_V q969 q970 q971 q50 q972) hdX3_end rfl (Nat.le_of_ble_eq_true rfl) (Nat.le_of_ble_eq_true rfl) (w6_recv F I mo_ob rfl) rfl hl.1 [.int r] rfl (Nat.le_of_ble_eq_true rfl) dL_law_895 ⟨hc, hs⟩ (fun H locs I => ?_)
  have I := w6_rot (w6_rot I)
  exact lv_icmp_eq (tgt := 1109) hx hb dL_law_898 (by decide) (fun _ => K H locs I) (fun h => absurd rfl h)
theorem lc_sheet {r : Int32} (hf : x_sheet V  = some (r, V')) (hm : m_sheet U  = some (r, U')) (X : LX p s m meth c b L xs D g) (I : w6_I D (LW g ad V bd U o fL) (LA s) s H locs) (hl : lv_has ls 7 (Ll b (ad 0) (bd 0) o j)) (hj : j + 8 ≤ L) (hc : cells + 100 ≤ room_1.cells) (hs : slots + 600 ≤ room_1.slots)
    (K : ∀ (H : Heap) (locs : List Loc), w6_I D (LW g ad V' bd U' o fL) (LA s) s H locs → W p l e room_1 s m #[Value.ref b] below meth c H locs (cells + 100) (slots + 600) Q (F0 m 1109 ls [])) : W p l e room_1 s m #[Value.ref b] below meth c H locs cells slots Q (F0 m 903 ls []) := by
  have F := X.1
  have hx := F.1.1
  have hb := F.1.2.1
  unfold LW at I
  refine lv_aload_n hx hb dL_law_903 rfl (lv_at hl 1 rfl) ?_
  refine xc_Vi F I (ctx_sheet l D g ad V  r V' hf) 0 (lw_V q393 q394 q395 q47 q396) ⟨rfl, hdX1_sheet⟩ ⟨Nat.le_of_ble_eq_true rfl, Nat.le_of_ble_eq_true rfl⟩ (w6_recv F I xo_ob rfl) rfl hl.1 [] rfl (Nat.le_of_ble_eq_true rfl) dL_law_904 ⟨Nat.le_trans (Nat.add_le_add_left (Nat.le_of_ble_eq_true rfl) _) hc, Nat.le_trans (Nat.add_le_add_left (Nat.le_of_ble_eq_true rfl) _) hs⟩ (fun H locs I => ?_)
  refine W.widen (k := cells + 100) (n := slots + 600) (Nat.add_le_add_left (Nat.le_of_ble_eq_true rfl) _) (Nat.add_le_add_left (Nat.le_of_ble_eq_true rfl) _) ?_
  have I := w6_rot I
  refine lv_aload_n hx hb dL_law_907 rfl (lv_at hl 2 rfl) ?_
  refine xz_Vi F I (ctm_sheet l D g bd U  r U' hm) (lw_V q973 q974 q975 q50 q976) hdX3_sheet rfl (Nat.le_of_ble_eq_true rfl) (Nat.le_of_ble_eq_true rfl) (w6_recv F I mo_ob rfl) rfl hl.1 [.int r] rfl (Nat.le_of_ble_eq_true rfl) dL_law_908 ⟨hc, hs⟩ (fun H locs I => ?_)
  have I := w6_rot (w6_rot I)
  exact lv_icmp_eq (tgt := 1109) hx hb dL_law_911 (by decide) (fun _ => K H locs I) (fun h => absurd rfl h)
theorem lc_odds {r : Int32} (hf : x_odds V (xs (j + 1)) (xs (j + 2)) (xs (j + 3)) = some (r, V')) (hm : m_odds U (xs (j + 1)) (xs (j + 2)) (xs (j + 3)) = some (r, U')) (X : LX p s m meth c b L xs D g) (I : w6_I D (LW g ad V bd U o fL) (LA s) s H locs) (hl : lv_has ls 7 (Ll b (ad 0) (bd 0) o j)) (hj : j + 8 ≤ L) (hc : cells + 100 ≤ room_1.cells) (hs : slots + 600 ≤ room_1.slots)
    (K : ∀ (H : Heap) (locs : List Loc), w6_I D (LW g ad V' bd U' o fL) (LA s) s H locs → W p l e room_1 s m #[Value.ref b] below meth c H locs (cells + 100) (slots + 600) Q (F0 m 1109 ls [])) : W p l e room_1 s m #[Value.ref b] below meth c H locs cells slots Q (F0 m 916 ls []) := by
  have F := X.1
  have hx := F.1.1
  have hb := F.1.2.1
  unfold LW at I
  refine lv_aload_n hx hb dL_law_916 rfl (lv_at hl 1 rfl) ?_
  refine law_arg (k := 1) X I hl rfl rfl hj (by decide) dL_law_917 dL_law_918 dL_law_920 (.inl ⟨rfl, rfl⟩) dL_law_921 dL_law_922 ?_
  refine law_arg (k := 2) X I hl rfl rfl hj (by decide) dL_law_923 dL_law_924 dL_law_926 (.inl ⟨rfl, rfl⟩) dL_law_927 dL_law_928 ?_
  refine law_arg (k := 3) X I hl rfl rfl hj (by decide) dL_law_929 dL_law_930 dL_law_932 (.inl ⟨rfl, rfl⟩) dL_law_933 dL_law_934 ?_
  refine xc_Vi F I (ctx_odds l D g ad V (xs (j + 1)) (xs (j + 2)) (xs (j + 3)) r V' hf) 3 (lw_V q619 q620 q621 q47 q622) ⟨rfl, hdX1_odds⟩ ⟨Nat.le_of_ble_eq_true rfl, Nat.le_of_ble_eq_true rfl⟩ (w6_recv F I xo_ob rfl) rfl hl.1 [] rfl (Nat.le_of_ble_eq_true rfl) dL_law_935 ⟨Nat.le_trans (Nat.add_le_add_left (Nat.le_of_ble_eq_true rfl) _) hc, Nat.le_trans (Nat.add_le_add_left (Nat.le_of_ble_eq_true rfl) _) hs⟩ (fun H locs I => ?_)
  refine W.widen (k := cells + 100) (n := slots + 600) (Nat.add_le_add_left (Nat.le_of_ble_eq_true rfl) _) (Nat.add_le_add_left (Nat.le_of_ble_eq_true rfl) _) ?_
  have I := w6_rot I
  refine lv_aload_n hx hb dL_law_938 rfl (lv_at hl 2 rfl) ?_
  refine law_arg (k := 1) X I hl rfl rfl hj (by decide) dL_law_939 dL_law_940 dL_law_942 (.inl ⟨rfl, rfl⟩) dL_law_943 dL_law_944 ?_
  refine law_arg (k := 2) X I hl rfl rfl hj (by decide) dL_law_945 dL_law_946 dL_law_948 (.inl ⟨rfl, rfl⟩) dL_law_949 dL_law_950 ?_
  refine law_arg (k := 3) X I hl rfl rfl hj (by decide) dL_law_951 dL_law_952 dL_law_954 (.inl ⟨rfl, rfl⟩) dL_law_955 dL_law_956 ?_
  refine xz_Vi F I (ctm_odds l D g bd U (xs (j + 1)) (xs (j + 2)) (xs (j + 3)) r U' hm) (lw_V q997 q998 q999 q50 q1000) hdX3_odds rfl (Nat.le_of_ble_eq_true rfl) (Nat.le_of_ble_eq_true rfl) (w6_recv F I mo_ob rfl) rfl hl.1 [.int r] rfl (Nat.le_of_ble_eq_true rfl) dL_law_957 ⟨hc, hs⟩ (fun H locs I => ?_)
  have I := w6_rot (w6_rot I)
  exact lv_icmp_eq (tgt := 1109) hx hb dL_law_960 (by decide) (fun _ => K H locs I) (fun h => absurd rfl h)
theorem lc_chance {r : Int32} (hf : x_chance V  = some (r, V')) (hm : m_chance U  = some (r, U')) (X : LX p s m meth c b L xs D g) (I : w6_I D (LW g ad V bd U o fL) (LA s) s H locs) (hl : lv_has ls 7 (Ll b (ad 0) (bd 0) o j)) (hj : j + 8 ≤ L) (hc : cells + 100 ≤ room_1.cells) (hs : slots + 600 ≤ room_1.slots)
    (K : ∀ (H : Heap) (locs : List Loc), w6_I D (LW g ad V' bd U' o fL) (LA s) s H locs → W p l e room_1 s m #[Value.ref b] below meth c H locs (cells + 100) (slots + 600) Q (F0 m 1109 ls [])) : W p l e room_1 s m #[Value.ref b] below meth c H locs cells slots Q (F0 m 965 ls []) := by
  have F := X.1
  have hx := F.1.1
  have hb := F.1.2.1
  unfold LW at I
  refine lv_aload_n hx hb dL_law_965 rfl (lv_at hl 1 rfl) ?_
  refine xc_Vi F I (ctx_chance l D g ad V  r V' hf) 0 (lw_V q636 q637 q638 q47 q639) ⟨rfl, hdX1_chance⟩ ⟨Nat.le_of_ble_eq_true rfl, Nat.le_of_ble_eq_true rfl⟩ (w6_recv F I xo_ob rfl) rfl hl.1 [] rfl (Nat.le_of_ble_eq_true rfl) dL_law_966 ⟨Nat.le_trans (Nat.add_le_add_left (Nat.le_of_ble_eq_true rfl) _) hc, Nat.le_trans (Nat.add_le_add_left (Nat.le_of_ble_eq_true rfl) _) hs⟩ (fun H locs I => ?_)
  refine W.widen (k := cells + 100) (n := slots + 600) (Nat.add_le_add_left (Nat.le_of_ble_eq_true rfl) _) (Nat.add_le_add_left (Nat.le_of_ble_eq_true rfl) _) ?_
  have I := w6_rot I
  refine lv_aload_n hx hb dL_law_969 rfl (lv_at hl 2 rfl) ?_
  refine xz_Vi F I (ctm_chance l D g bd U  r U' hm) (lw_V q1018 q1019 q1020 q50 q1021) hdX3_chance rfl (Nat.le_of_ble_eq_true rfl) (Nat.le_of_ble_eq_true rfl) (w6_recv F I mo_ob rfl) rfl hl.1 [.int r] rfl (Nat.le_of_ble_eq_true rfl) dL_law_970 ⟨hc, hs⟩ (fun H locs I => ?_)
  have I := w6_rot (w6_rot I)
  exact lv_icmp_eq (tgt := 1109) hx hb dL_law_973 (by decide) (fun _ => K H locs I) (fun h => absurd rfl h)
theorem lc_weight {r : Int32} (hf : x_weight V  = some (r, V')) (hm : m_weight U  = some (r, U')) (X : LX p s m meth c b L xs D g) (I : w6_I D (LW g ad V bd U o fL) (LA s) s H locs) (hl : lv_has ls 7 (Ll b (ad 0) (bd 0) o j)) (hj : j + 8 ≤ L) (hc : cells + 100 ≤ room_1.cells) (hs : slots + 600 ≤ room_1.slots)
    (K : ∀ (H : Heap) (locs : List Loc), w6_I D (LW g ad V' bd U' o fL) (LA s) s H locs → W p l e room_1 s m #[Value.ref b] below meth c H locs (cells + 100) (slots + 600) Q (F0 m 1109 ls [])) : W p l e room_1 s m #[Value.ref b] below meth c H locs cells slots Q (F0 m 978 ls []) := by
  have F := X.1
  have hx := F.1.1
  have hb := F.1.2.1
  unfold LW at I
  refine lv_aload_n hx hb dL_law_978 rfl (lv_at hl 1 rfl) ?_
  refine xc_Vi F I (ctx_weight l D g ad V  r V' hf) 0 (lw_V q668 q669 q670 q47 q671) ⟨rfl, hdX1_weight⟩ ⟨Nat.le_of_ble_eq_true rfl, Nat.le_of_ble_eq_true rfl⟩ (w6_recv F I xo_ob rfl) rfl hl.1 [] rfl (Nat.le_of_ble_eq_true rfl) dL_law_979 ⟨Nat.le_trans (Nat.add_le_add_left (Nat.le_of_ble_eq_true rfl) _) hc, Nat.le_trans (Nat.add_le_add_left (Nat.le_of_ble_eq_true rfl) _) hs⟩ (fun H locs I => ?_)
  refine W.widen (k := cells + 100) (n := slots + 600) (Nat.add_le_add_left (Nat.le_of_ble_eq_true rfl) _) (Nat.add_le_add_left (Nat.le_of_ble_eq_true rfl) _) ?_
  have I := w6_rot I
  refine lv_aload_n hx hb dL_law_982 rfl (lv_at hl 2 rfl) ?_
  refine xz_Vi F I (ctm_weight l D g bd U  r U' hm) (lw_V q1039 q1040 q1041 q50 q1042) hdX3_weight rfl (Nat.le_of_ble_eq_true rfl) (Nat.le_of_ble_eq_true rfl) (w6_recv F I mo_ob rfl) rfl hl.1 [.int r] rfl (Nat.le_of_ble_eq_true rfl) dL_law_983 ⟨hc, hs⟩ (fun H locs I => ?_)
  have I := w6_rot (w6_rot I)
  exact lv_icmp_eq (tgt := 1109) hx hb dL_law_986 (by decide) (fun _ => K H locs I) (fun h => absurd rfl h)
theorem lc_turn {r : Int32} (hf : x_turn V (xs (j + 1)) (xs (j + 2)) = some (r, V')) (hm : m_turn_2 U (xs (j + 1)) (xs (j + 2)) = some (r, U')) (X : LX p s m meth c b L xs D g) (I : w6_I D (LW g ad V bd U o fL) (LA s) s H locs) (hl : lv_has ls 7 (Ll b (ad 0) (bd 0) o j)) (hj : j + 8 ≤ L) (hc : cells + 100 ≤ room_1.cells) (hs : slots + 600 ≤ room_1.slots)
    (K : ∀ (H : Heap) (locs : List Loc), w6_I D (LW g ad V' bd U' o fL) (LA s) s H locs → W p l e room_1 s m #[Value.ref b] below meth c H locs (cells + 100) (slots + 600) Q (F0 m 1109 ls [])) : W p l e room_1 s m #[Value.ref b] below meth c H locs cells slots Q (F0 m 991 ls []) := by
  have F := X.1
  have hx := F.1.1
  have hb := F.1.2.1
  unfold LW at I
  refine lv_aload_n hx hb dL_law_991 rfl (lv_at hl 1 rfl) ?_
  refine law_arg (k := 1) X I hl rfl rfl hj (by decide) dL_law_992 dL_law_993 dL_law_995 (.inl ⟨rfl, rfl⟩) dL_law_996 dL_law_997 ?_
  refine law_arg (k := 2) X I hl rfl rfl hj (by decide) dL_law_998 dL_law_999 dL_law_1001 (.inl ⟨rfl, rfl⟩) dL_law_1002 dL_law_1003 ?_
  refine xc_Vi F I (ctx_turn l D g ad V (xs (j + 1)) (xs (j + 2)) r V' hf) 2 (lw_V q672 q673 q674 q47 q675) ⟨rfl, hdX1_turn⟩ ⟨Nat.le_of_ble_eq_true rfl, Nat.le_of_ble_eq_true rfl⟩ (w6_recv F I xo_ob rfl) rfl hl.1 [] rfl (Nat.le_of_ble_eq_true rfl) dL_law_1004 ⟨Nat.le_trans (Nat.add_le_add_left (Nat.le_of_ble_eq_true rfl) _) hc, Nat.le_trans (Nat.add_le_add_left (Nat.le_of_ble_eq_true rfl) _) hs⟩ (fun H locs I => ?_)
  refine W.widen (k := cells + 100) (n := slots + 600) (Nat.add_le_add_left (Nat.le_of_ble_eq_true rfl) _) (Nat.add_le_add_left (Nat.le_of_ble_eq_true rfl) _) ?_
  have I := w6_rot I
  refine lv_aload_n hx hb dL_law_1007 rfl (lv_at hl 2 rfl) ?_
  refine law_arg (k := 1) X I hl rfl rfl hj (by decide) dL_law_1008 dL_law_1009 dL_law_1011 (.inl ⟨rfl, rfl⟩) dL_law_1012 dL_law_1013 ?_
  refine law_arg (k := 2) X I hl rfl rfl hj (by decide) dL_law_1014 dL_law_1015 dL_law_1017 (.inl ⟨rfl, rfl⟩) dL_law_1018 dL_law_1019 ?_
  refine xz_Vi F I (ctm_turn_2 l D g bd U (xs (j + 1)) (xs (j + 2)) r U' hm) (lw_V q1043 q1044 q1045 q50 q1046) hdX3_turn_2 rfl (Nat.le_of_ble_eq_true rfl) (Nat.le_of_ble_eq_true rfl) (w6_recv F I mo_ob rfl) rfl hl.1 [.int r] rfl (Nat.le_of_ble_eq_true rfl) dL_law_1020 ⟨hc, hs⟩ (fun H locs I => ?_)
  have I := w6_rot (w6_rot I)
  exact lv_icmp_eq (tgt := 1109) hx hb dL_law_1023 (by decide) (fun _ => K H locs I) (fun h => absurd rfl h)
theorem lc_advice {r : Int32} (hf : x_advice V (xs (j + 1)) = some (r, V')) (hm : m_advice U (xs (j + 1)) = some (r, U')) (X : LX p s m meth c b L xs D g) (I : w6_I D (LW g ad V bd U o fL) (LA s) s H locs) (hl : lv_has ls 7 (Ll b (ad 0) (bd 0) o j)) (hj : j + 8 ≤ L) (hc : cells + 100 ≤ room_1.cells) (hs : slots + 600 ≤ room_1.slots)
    (K : ∀ (H : Heap) (locs : List Loc), w6_I D (LW g ad V' bd U' o fL) (LA s) s H locs → W p l e room_1 s m #[Value.ref b] below meth c H locs (cells + 100) (slots + 600) Q (F0 m 1109 ls [])) : W p l e room_1 s m #[Value.ref b] below meth c H locs cells slots Q (F0 m 1028 ls []) := by
  have F := X.1
  have hx := F.1.1
  have hb := F.1.2.1
  unfold LW at I
  refine lv_aload_n hx hb dL_law_1028 rfl (lv_at hl 1 rfl) ?_
  refine law_arg (k := 1) X I hl rfl rfl hj (by decide) dL_law_1029 dL_law_1030 dL_law_1032 (.inl ⟨rfl, rfl⟩) dL_law_1033 dL_law_1034 ?_
  refine xc_Vi F I (ctx_advice l D g ad V (xs (j + 1)) r V' hf) 1 (lw_V q676 q677 q678 q47 q679) ⟨rfl, hdX1_advice⟩ ⟨Nat.le_of_ble_eq_true rfl, Nat.le_of_ble_eq_true rfl⟩ (w6_recv F I xo_ob rfl) rfl hl.1 [] rfl (Nat.le_of_ble_eq_true rfl) dL_law_1035 ⟨Nat.le_trans (Nat.add_le_add_left (Nat.le_of_ble_eq_true rfl) _) hc, Nat.le_trans (Nat.add_le_add_left (Nat.le_of_ble_eq_true rfl) _) hs⟩ (fun H locs I => ?_)
  refine W.widen (k := cells + 100) (n := slots + 600) (Nat.add_le_add_left (Nat.le_of_ble_eq_true rfl) _) (Nat.add_le_add_left (Nat.le_of_ble_eq_true rfl) _) ?_
  have I := w6_rot I
  refine lv_aload_n hx hb dL_law_1038 rfl (lv_at hl 2 rfl) ?_
  refine law_arg (k := 1) X I hl rfl rfl hj (by decide) dL_law_1039 dL_law_1040 dL_law_1042 (.inl ⟨rfl, rfl⟩) dL_law_1043 dL_law_1044 ?_
  refine xz_Vi F I (ctm_advice l D g bd U (xs (j + 1)) r U' hm) (lw_V q1047 q1048 q1049 q50 q1050) hdX3_advice rfl (Nat.le_of_ble_eq_true rfl) (Nat.le_of_ble_eq_true rfl) (w6_recv F I mo_ob rfl) rfl hl.1 [.int r] rfl (Nat.le_of_ble_eq_true rfl) dL_law_1045 ⟨hc, hs⟩ (fun H locs I => ?_)
  have I := w6_rot (w6_rot I)
  exact lv_icmp_eq (tgt := 1109) hx hb dL_law_1048 (by decide) (fun _ => K H locs I) (fun h => absurd rfl h)
theorem law_swap {D : va_G} {A : Nat → Prop} {s : State} {H : Heap} {locs : List Loc} {a b c : va_W} (I : w6_I D (a ++ (b ++ c)) A s H locs) : w6_I D ((a ++ c) ++ b) A s H locs := by
  have h := I.comm
  rw [List.append_assoc] at h
  have h := h.comm
  rw [List.append_assoc] at h
  exact (w6_rot h).perm (by rw [List.append_assoc]; exact List.Perm.append_left _ List.perm_append_comm)
theorem w6_lawback (I : w6_I D (mw g bd U ++ ow g ad V o fL) (LA s) s H locs) : w6_I D (LW g ad V bd U o fL) (LA s) s H locs := by
  have I : w6_I D (mw g bd U ++ (xw g ad V ++ ol g o fL)) (LA s) s H locs := I
  exact I.perm (by unfold LW; rw [← List.append_assoc, ← List.append_assoc]; exact List.Perm.append_right _ List.perm_append_comm)
theorem lc_row_x {U2 : Mm} {q : Int32} (hc0 : px_in (xs (j + 1)).toInt64 0 ((V.1 0 24 - 1).toInt64) = 0) (hl0 : l.stackTraces = false) (hm : m_row U (xs (j + 1)) = some (q, U2)) (ht0 : m_thrown U2 = some (1, U')) (X : LX p s m meth c b L xs D g) (I : w6_I D (LW g ad V bd U o fL) (LA s) s H locs) (hl : lv_has ls 7 (Ll b (ad 0) (bd 0) o j)) (hj : j + 8 ≤ L) (hc : cells + 100 ≤ room_1.cells) (hs : slots + 600 ≤ room_1.slots)
    (K : ∀ (H : Heap) (locs : List Loc) (fL : Nat → Int64) (ls : Array Slot), w6_I D (LW g ad V bd U' o fL) (LA s) s H locs → lv_has ls 7 (Ll b (ad 0) (bd 0) o j) → W p l e room_1 s m #[Value.ref b] below meth c H locs (cells + 100) (slots + 600) Q (F0 m 1109 ls [])) : W p l e room_1 s m #[Value.ref b] below meth c H locs cells slots Q (F0 m 1053 ls []) := by
  have F := X.1
  have hx := F.1.1
  have hb := F.1.2.1
  have hts := F.1.2.2.2.2
  unfold LW at I
  refine lv_aload_n hx hb dL_law_1053 rfl (lv_at hl 1 rfl) ?_
  refine law_arg (k := 1) X I hl rfl rfl hj (by decide) dL_law_1054 dL_law_1055 dL_law_1057 (.inl ⟨rfl, rfl⟩) dL_law_1058 dL_law_1059 ?_
  refine lv_aload_n hx hb dL_law_1060 rfl (lv_at hl 3 rfl) ?_
  have I : w6_I D (ow g ad V o fL ++ mw g bd U) (LA s) s H locs := law_swap I
  have hM : vx_Met l yX0_row (wsW_ yX0_row cX0_row 4 (some .int) [(0, 9, 12, 13)]) rmX0_row (xn_Pc D g [.ref (ad 0), .int (xs (j + 1)), .ref o] (ow g ad V o fL) H.size) (w6_Qi D g (ow g ad V o fL) (ow g ad V o fL) H.size 1) (vx_X (fun (_ : Unit) => False) (fun _ _ _ => True) (fun _ => False)) 1 6 (va_A (ow g ad V o fL) H.size) := (ct_lawrow_x l hl0 D g ad V o fL (xs (j + 1)) hc0) H.size
  refine vx_calli (mc := 1) (ms := 6) (vx_runSX (As := [.ref (ad 0), .int (xs (j + 1)), .ref o]) (rest := []) F.1 hM (vx_cwSW 3 hts (lw_SW q680 q681 q46 q682) rfl rfl rfl hdX0_row ⟨Nat.le_of_ble_eq_true rfl, Nat.le_of_ble_eq_true rfl⟩) ⟨xn_Pc_blind, fun U hU hW => ⟨w6_pre F I U hU hW, X.2.2.2.2.2.2.call hW (by rw [hU]; exact I.2.2) (w6_free F I)⟩⟩ rfl rfl hl.1 rfl (lv_room (Nat.le_of_ble_eq_true rfl)) dL_law_1061 ⟨Nat.le_trans (Nat.add_le_add_left (Nat.le_of_ble_eq_true rfl) _) hc, Nat.le_trans (Nat.add_le_add_left (Nat.le_of_ble_eq_true rfl) _) hs⟩) I.2.2 (fun q _ h => w6_free F I q h) (w6_free F I) (fun q _ h => h.elim) (fun E ce q9 u t H1 locs1 ht hvm hpx => hpx.elim) (fun r u t H1 locs1 ht hvm hw hB hz hk hS => ?_)
  have hw : r = 1 := hw
  subst hw
  obtain ⟨hP1, hK1, hD1⟩ := hB
  rw [ht] at hP1
  have I : w6_I D (ow g ad V o fL ++ mw g bd U) (LA s) s H1 locs1 := w6_join F I hk hP1 hD1 hS
  generalize H1 = H at I
  generalize locs1 = locs at I
  refine W.widen (k := cells + 100) (n := slots + 600) (Nat.add_le_add_left (Nat.le_of_ble_eq_true rfl) _) (Nat.add_le_add_left (Nat.le_of_ble_eq_true rfl) _) ?_
  have I := I.comm
  refine lv_istore hx hb dL_law_1064 hl (by decide) rfl (fun ls hl => ?_)
  refine lv_aload_n hx hb dL_law_1066 rfl (lv_at hl 3 rfl) ?_
  refine law_arg (k := 1) X I (lv_sub hl [1, 2, 3, 4, 5] rfl) rfl rfl hj (by decide) dL_law_1067 dL_law_1068 dL_law_1070 (.inl ⟨rfl, rfl⟩) dL_law_1071 dL_law_1072 ?_
  refine xz_Vi F I (ctm_row l D g bd U (xs (j + 1)) q U2 hm) (lw_V q1051 q1052 q1053 q50 q1054) hdX3_row rfl (Nat.le_of_ble_eq_true rfl) (Nat.le_of_ble_eq_true rfl) (w6_recv F I mo_ob rfl) rfl hl.1 [] rfl (Nat.le_of_ble_eq_true rfl) dL_law_1073 ⟨hc, hs⟩ (fun H locs I => ?_)
  refine lv_istore hx hb dL_law_1076 hl (by decide) rfl (fun ls hl => ?_)
  refine lv_aload_n hx hb dL_law_1078 rfl (lv_at hl 4 rfl) ?_
  refine xz_Vi F I (ctm_thrown l D g bd U2 1 U' ht0) (lw_V q820 q821 q822 q50 q823) hdX3_thrown rfl (Nat.le_of_ble_eq_true rfl) (Nat.le_of_ble_eq_true rfl) (w6_recv F I mo_ob rfl) rfl hl.1 [] rfl (Nat.le_of_ble_eq_true rfl) dL_law_1079 ⟨hc, hs⟩ (fun H locs I => ?_)
  refine lv_iload hx hb dL_law_1082 (lv_at hl 1 rfl) ?_
  refine lv_icmp_eq (tgt := 1089) hx hb dL_law_1084 (by decide) (fun _ => ?_) (fun h => absurd rfl h)
  refine lv_iload hx hb dL_law_1089 (lv_at hl 1 rfl) ?_
  refine lv_if_ne (tgt := 1106) hx hb dL_law_1091 (by decide) (fun _ => ?_) (fun h => absurd h (by decide))
  refine lv_goto (tgt := 1109) hx hb dL_law_1106 (by decide) ?_
  have I : w6_I D (LW g ad V bd U' o fL) (LA s) s H locs := w6_lawback I
  exact K H locs _ ls I (lv_sub hl [2, 3, 4, 5, 6] rfl)
theorem lc_row_n {U2 : Mm} (hc0 : ¬ px_in (xs (j + 1)).toInt64 0 ((V.1 0 24 - 1).toInt64) = 0) (hi0 : ix_ (xs (j + 1)) 1) (hm : m_row U (xs (j + 1)) = some ((V.1 70 (xs (j + 1)).toNatClampNeg), U2)) (ht0 : m_thrown U2 = some (0, U')) (X : LX p s m meth c b L xs D g) (I : w6_I D (LW g ad V bd U o fL) (LA s) s H locs) (hl : lv_has ls 7 (Ll b (ad 0) (bd 0) o j)) (hj : j + 8 ≤ L) (hc : cells + 100 ≤ room_1.cells) (hs : slots + 600 ≤ room_1.slots)
    (K : ∀ (H : Heap) (locs : List Loc) (fL : Nat → Int64) (ls : Array Slot), w6_I D (LW g ad V bd U' o fL) (LA s) s H locs → lv_has ls 7 (Ll b (ad 0) (bd 0) o j) → W p l e room_1 s m #[Value.ref b] below meth c H locs (cells + 100) (slots + 600) Q (F0 m 1109 ls [])) : W p l e room_1 s m #[Value.ref b] below meth c H locs cells slots Q (F0 m 1053 ls []) := by
  have F := X.1
  have hx := F.1.1
  have hb := F.1.2.1
  have hts := F.1.2.2.2.2
  unfold LW at I
  refine lv_aload_n hx hb dL_law_1053 rfl (lv_at hl 1 rfl) ?_
  refine law_arg (k := 1) X I hl rfl rfl hj (by decide) dL_law_1054 dL_law_1055 dL_law_1057 (.inl ⟨rfl, rfl⟩) dL_law_1058 dL_law_1059 ?_
  refine lv_aload_n hx hb dL_law_1060 rfl (lv_at hl 3 rfl) ?_
  have I : w6_I D (ow g ad V o fL ++ mw g bd U) (LA s) s H locs := law_swap I
  have hM : vx_Met l yX0_row (wsW_ yX0_row cX0_row 4 (some .int) [(0, 9, 12, 13)]) rmX0_row (xn_Pc D g [.ref (ad 0), .int (xs (j + 1)), .ref o] (ow g ad V o fL) H.size) (w6_Qi D g (ow g ad V o fL) (ow g ad V o (vp_updL fL 0 (V.1 70 (xs (j + 1)).toNatClampNeg).toInt64)) H.size 0) (vx_X (fun (_ : Unit) => False) (fun _ _ _ => True) (fun _ => False)) 1 6 (va_A (ow g ad V o fL) H.size) := (ct_lawrow l D g ad V o fL (xs (j + 1)) hc0 hi0) H.size
  refine vx_calli (mc := 1) (ms := 6) (vx_runSX (As := [.ref (ad 0), .int (xs (j + 1)), .ref o]) (rest := []) F.1 hM (vx_cwSW 3 hts (lw_SW q680 q681 q46 q682) rfl rfl rfl hdX0_row ⟨Nat.le_of_ble_eq_true rfl, Nat.le_of_ble_eq_true rfl⟩) ⟨xn_Pc_blind, fun U hU hW => ⟨w6_pre F I U hU hW, X.2.2.2.2.2.2.call hW (by rw [hU]; exact I.2.2) (w6_free F I)⟩⟩ rfl rfl hl.1 rfl (lv_room (Nat.le_of_ble_eq_true rfl)) dL_law_1061 ⟨Nat.le_trans (Nat.add_le_add_left (Nat.le_of_ble_eq_true rfl) _) hc, Nat.le_trans (Nat.add_le_add_left (Nat.le_of_ble_eq_true rfl) _) hs⟩) I.2.2 (fun q _ h => w6_free F I q h) (w6_free F I) (fun q _ h => h.elim) (fun E ce q9 u t H1 locs1 ht hvm hpx => hpx.elim) (fun r u t H1 locs1 ht hvm hw hB hz hk hS => ?_)
  have hw : r = 0 := hw
  subst hw
  obtain ⟨hP1, hK1, hD1⟩ := hB
  rw [ht] at hP1
  have I : w6_I D (ow g ad V o (vp_updL fL 0 (V.1 70 (xs (j + 1)).toNatClampNeg).toInt64) ++ mw g bd U) (LA s) s H1 locs1 := w6_join F I hk hP1 hD1 hS
  generalize H1 = H at I
  generalize locs1 = locs at I
  refine W.widen (k := cells + 100) (n := slots + 600) (Nat.add_le_add_left (Nat.le_of_ble_eq_true rfl) _) (Nat.add_le_add_left (Nat.le_of_ble_eq_true rfl) _) ?_
  have I := I.comm
  refine lv_istore hx hb dL_law_1064 hl (by decide) rfl (fun ls hl => ?_)
  refine lv_aload_n hx hb dL_law_1066 rfl (lv_at hl 3 rfl) ?_
  refine law_arg (k := 1) X I (lv_sub hl [1, 2, 3, 4, 5] rfl) rfl rfl hj (by decide) dL_law_1067 dL_law_1068 dL_law_1070 (.inl ⟨rfl, rfl⟩) dL_law_1071 dL_law_1072 ?_
  refine xz_Vi F I (ctm_row l D g bd U (xs (j + 1)) (V.1 70 (xs (j + 1)).toNatClampNeg) U2 hm) (lw_V q1051 q1052 q1053 q50 q1054) hdX3_row rfl (Nat.le_of_ble_eq_true rfl) (Nat.le_of_ble_eq_true rfl) (w6_recv F I mo_ob rfl) rfl hl.1 [] rfl (Nat.le_of_ble_eq_true rfl) dL_law_1073 ⟨hc, hs⟩ (fun H locs I => ?_)
  refine lv_istore hx hb dL_law_1076 hl (by decide) rfl (fun ls hl => ?_)
  refine lv_aload_n hx hb dL_law_1078 rfl (lv_at hl 4 rfl) ?_
  refine xz_Vi F I (ctm_thrown l D g bd U2 0 U' ht0) (lw_V q820 q821 q822 q50 q823) hdX3_thrown rfl (Nat.le_of_ble_eq_true rfl) (Nat.le_of_ble_eq_true rfl) (w6_recv F I mo_ob rfl) rfl hl.1 [] rfl (Nat.le_of_ble_eq_true rfl) dL_law_1079 ⟨hc, hs⟩ (fun H locs I => ?_)
  refine lv_iload hx hb dL_law_1082 (lv_at hl 1 rfl) ?_
  refine lv_icmp_eq (tgt := 1089) hx hb dL_law_1084 (by decide) (fun _ => ?_) (fun h => absurd rfl h)
  refine lv_iload hx hb dL_law_1089 (lv_at hl 1 rfl) ?_
  refine lv_if_ne (tgt := 1106) hx hb dL_law_1091 (by decide) (fun h => absurd rfl h) (fun _ => ?_)
  refine lv_aload_n hx hb dL_law_1094 rfl (lv_at hl 5 rfl) ?_
  refine lv_iconst (v := (0 : Int32)) hx hb dL_law_1095 (by decide) ?_
  have I := w6_lawback I
  have I3 := (w6_rot (w6_rot I))
  refine va_lald hx hb F.2.1 I3.1 0 6 rfl rfl (show ¬ ((0 : Int32) < 0 ∨ 1 ≤ (0 : Int32).toNatClampNeg) by decide) dL_law_1096 ?_
  refine lv_iload hx hb dL_law_1097 (lv_at hl 0 rfl) ?_
  refine lv_i2l (v := (V.1 70 (xs (j + 1)).toNatClampNeg).toInt64) hx hb dL_law_1099 rfl ?_
  refine W.lcmp hx hb dL_law_1100 ?_
  refine lv_if_eq (tgt := 1106) hx hb dL_law_1101 (by decide) (fun _ => lv_goto (tgt := 1109) hx hb dL_law_1106 (by decide) (K H locs _ ls I (lv_sub hl [2, 3, 4, 5, 6] rfl))) (fun h => absurd ?_ h)
  simp [vp_updL, lg_cmp]
end LC
