/-! the start: what the words and the premises give -/
abbrev stN : Cond := Jvm.Cond.and given_1 narrow_1
theorem st_dec : ((List.range 10).all fun i => decide (Cond.arrayOf (.static (zsT.getD i ("", "", [])).1 (zsT.getD i ("", "", [])).2.1 "[I") .int ∈ flatC stN) && decide (Cond.eq (.length (.static (zsT.getD i ("", "", [])).1 (zsT.getD i ("", "", [])).2.1 "[I")) (.int (Int32.ofNat (zsT.getD i ("", "", [])).2.2.length)) ∈ flatC stN) && (List.range (zsT.getD i ("", "", [])).2.2.length).all fun j => decide (Cond.eq (.elem (.static (zsT.getD i ("", "", [])).1 (zsT.getD i ("", "", [])).2.1 "[I") (.int (Int32.ofNat j))) (.int (zsg i j)) ∈ flatC stN)) = true := by decide +kernel
theorem st_lays : ((List.range 10).all fun i => decide (Cond.laysStatic (zsT.getD i ("", "", [])).1 (zsT.getD i ("", "", [])).2.1 "[I" ∈ lw_tbl) && decide (Cond.initialized (zsT.getD i ("", "", [])).1 ∈ lw_tbl) && decide ((zsT.getD i ("", "", [])).2.2.length < 2 ^ 31)) = true := by decide +kernel
theorem st_nest : (zsFN.all fun w => decide (Cond.fieldLinkNest w.1 w.2.1 w.2.2.1 w.2.2.2.1 w.2.2.2.2.1 w.2.2.2.2.2 ∈ lw_tbl)) = true ∧ (zsMN.all fun w => decide (Cond.methodLinkNest w.1 w.2.1 w.2.2.1 w.2.2.2 ∈ lw_tbl)) = true := by decide +kernel
theorem st_who : ((List.range 12).all fun j => decide (Cond.eq (.elem (.field (.string RX1 209) "java/lang/String" "value" "[B") (.int (Int32.ofNat j))) (.int (zsWho.getD j 0)) ∈ flatC stN)) = true := by decide +kernel
section ST
variable {s : State} {args : Array Value}
theorem st_W (hts : ∀ w ∈ lw_tbl, w.before args s = true) : zsW s := by
  refine ⟨fun w hw => va_Nw.of rfl (hts _ (of_decide_eq_true (List.all_eq_true.mp st_nest.1 w hw))), fun w hw => va_Nw.of rfl (hts _ (of_decide_eq_true (List.all_eq_true.mp st_nest.2 w hw))), va_AO.of (hts _ q76), va_Nw.of rfl (hts _ q597), va_AA.of (hts _ q151), va_AA.of (hts _ q152)⟩
theorem st_H (hts : ∀ w ∈ lw_tbl, w.before args s = true) (hs : ∀ w ∈ flatC stN, w.before args s = true) : zsH (LA s) s s.heap := by
  have hA : ∀ a : Nat, a < s.heap.size → ¬ LA s a := fun a h => Nat.not_le.mpr h
  refine ⟨fun i hi => ?_, ?_, ?_, ?_⟩
  · have h1 := List.all_eq_true.mp st_dec i (List.mem_range.mpr hi)
    have h2 := List.all_eq_true.mp st_lays i (List.mem_range.mpr hi)
    simp only [Bool.and_eq_true, decide_eq_true_eq, List.all_eq_true, List.mem_range] at h1 h2
    obtain ⟨t, ht, hT⟩ := va_Tof (f := fun j => .int (zsg i j)) (A := LA s) h2.2 (hs _ h1.1.1) (va_eqt (hs _ h1.1.2)) (fun j hj => va_eqt (hs _ (h1.2 j hj))) hA
    exact ⟨t, va_Zof (hts _ h2.1.1) (hts _ h2.1.2) ht hA, hT⟩
  · exact va_Zof (hts _ q494) (hts (.initialized "java/lang/String") (by decide +kernel)) (va_eqt (hs _ (by decide +kernel))) hA
  · exact va_Zqof (hts _ q715) (hts (.initialized "java/lang/Throwable") (by decide +kernel)) (hs _ (by decide +kernel)) hA
  · exact va_Zqof (hts _ q717) (hts (.initialized "java/lang/Throwable") (by decide +kernel)) (hs _ (by decide +kernel)) hA
theorem st_xn (hts : ∀ w ∈ lw_tbl, w.before args s = true) (hs : ∀ w ∈ flatC stN, w.before args s = true) : xnA (LA s) s s.heap := by
  have hA : ∀ a : Nat, a < s.heap.size → ¬ LA s a := fun a h => Nat.not_le.mpr h
  refine ⟨⟨va_Nw.of rfl (hts _ q691), va_Nw.of rfl (hts _ q693), va_Nw.of rfl (hts _ q695), va_Nw.of rfl (hts _ q690)⟩, ?_, ?_⟩
  · exact (vx_Zqof (hts _ q715) (hts (.initialized "java/lang/Throwable") (by decide +kernel)) (hs _ (by decide +kernel)) hA).2
  · exact (vx_Zqof (hts _ q717) (hts (.initialized "java/lang/Throwable") (by decide +kernel)) (hs _ (by decide +kernel)) hA).2
theorem st_K (hts : ∀ w ∈ lw_tbl, w.before args s = true) (hs : ∀ w ∈ flatC stN, w.before args s = true) : ∃ a v : Nat, ∀ g : Nat → ClassId, g 7 = a → g 8 = v → zsK g (LA s) s s.heap := by
  have hA : ∀ a : Nat, a < s.heap.size → ¬ LA s a := fun a h => Nat.not_le.mpr h
  obtain ⟨aK, aV, h1, h2⟩ := vk_Sof (N := 1) (tm := fun _ => .string RX1 209) (len := [12]) (byt := [zsWho]) (A := LA s) (fun i hi => by rw [show i = 0 by omega]; decide) (fun i _ => hs _ (by decide +kernel)) (fun i _ => hs _ (by decide +kernel)) (fun i _ => hs _ (by decide +kernel)) (fun i hi => by rw [show i = 0 by omega]; exact hs _ (by decide +kernel)) (fun i hi j hj => by
    obtain rfl : i = 0 := by omega
    exact hs _ (of_decide_eq_true (List.all_eq_true.mp st_who j (List.mem_range.mpr hj)))) (fun i j hi hj hij => absurd (show i = j by omega) hij) hA
  refine ⟨aK 0, aV 0, fun g h7 h8 => ⟨vk_R.of (A := args) (hts _ q480) (by rw [h7]; exact h2 0 (by omega)), ?_, fun i j hi hj _ => by omega⟩⟩
  intro i hi
  obtain rfl : i = 0 := by omega
  have h := h1.1 0 hi
  rw [h7, h8]
  exact h
theorem st_ar {ty : FieldType} {cA : ClassId} {kA : Class} {comp : ClassId} (h1 : s.vm.classes[cA]? = some kA) (h2 : kA.kind = .array comp ty) : ArrOfT s cA ty := fun n z => ⟨fun k h => (by cases h), kA, h1, comp, h2⟩
theorem st_ty (hts : ∀ w ∈ lw_tbl, w.before args s = true) : ∃ g0 g1 g2 g3 g4 g5 g6 : ClassId, ∀ g : Nat → ClassId, g 0 = g0 → g 1 = g1 → g 2 = g2 → g 3 = g3 → g 4 = g4 → g 5 = g5 → g 6 = g6 → ∀ (k : Nat) (q : ClassId × FieldType), (tyG g)[k]? = some q → ArrOfT s q.1 q.2 ∧ va_RA s q.1 q.2 := by
  obtain ⟨c0, k0, m0, a0, b0, d0⟩ := Cond.arrayClass_spec (hts _ (lw_all_tbl q148))
  obtain ⟨c1, k1, m1, a1, b1, d1⟩ := Cond.arrayClass_spec (hts _ (lw_all_tbl q149))
  obtain ⟨m2, c2, k2, e2, f2, a2, b2, d2⟩ := Cond.arrayOver_spec (hts _ q76)
  obtain ⟨m3, c3, k3, e3, a3, b3, d3⟩ := Cond.arrayOver_specA (hts _ q152)
  obtain ⟨m4, c4, k4, e4, a4, b4, d4⟩ := Cond.arrayOver_specA (hts _ q151)
  obtain ⟨c5, k5, m5, a5, b5, d5⟩ := Cond.arrayClass_spec (hts _ (lw_all_tbl q587))
  obtain ⟨c6, k6, m6, a6, b6, d6⟩ := Cond.arrayClass_spec (hts _ (lw_all_tbl q819))
  refine ⟨c0, c1, c2, c3, c4, c5, c6, fun g h0 h1 h2 h3 h4 h5 h6 k q hq => ?_⟩
  match k, hq with
  | 0, hq => cases hq; rw [h0]; exact ⟨st_ar b0 d0, a0⟩
  | 1, hq => cases hq; rw [h1]; exact ⟨st_ar b1 d1, a1⟩
  | 2, hq => cases hq; rw [h2]; exact ⟨st_ar a2 b2, ⟨k2, m2, a2, b2, e2, d2⟩⟩
  | 3, hq => cases hq; rw [h3]; exact ⟨st_ar a3 b3, d3⟩
  | 4, hq => cases hq; rw [h4]; exact ⟨st_ar a4 b4, d4⟩
  | 5, hq => cases hq; rw [h5]; exact ⟨st_ar b5 d5, a5⟩
  | 6, hq => cases hq; rw [h6]; exact ⟨st_ar b6 d6, a6⟩
  | k + 7, hq => simp [tyG] at hq
theorem st_fs0 (j : Nat) (hj : j < 25) : defaultValue (tyX1 j) = vp_V [.null, .null, .null, .null, .int 0, .int 0, .int 0, .int 0, .int 0, .int 0, .int 0, .null, .int 0, .int 0, .int 0, .int 0, .int 0, .int 0, .int 0, .int 0, .int 0, .null, .null, .null, .int 0] j := by
  have h : ∀ j : Fin 25, defaultValue (tyX1 j) = vp_V [.null, .null, .null, .null, .int 0, .int 0, .int 0, .int 0, .int 0, .int 0, .int 0, .null, .int 0, .int 0, .int 0, .int 0, .int 0, .int 0, .int 0, .int 0, .int 0, .null, .null, .null, .int 0] j := by decide
  exact h ⟨j, hj⟩
theorem st_fs2 (j : Nat) (hj : j < 18) : defaultValue (tyX3 j) = vp_V [.null, .null, .null, .null, .null, .null, .null, .null, .null, .null, .int 0, .int 0, .int 0, .int 0, .null, .null, .null, .null] j := by
  have h : ∀ j : Fin 18, defaultValue (tyX3 j) = vp_V [.null, .null, .null, .null, .null, .null, .null, .null, .null, .null, .int 0, .int 0, .int 0, .int 0, .null, .null, .null, .null] j := by decide
  exact h ⟨j, hj⟩
theorem st_Kn (hts : ∀ w ∈ lw_tbl, w.before args s = true) : ∃ D : va_G, ∀ (k : Nat) (q : vw_C), CL[k]? = some q → u_Kn s q.1 q.2.1 q.2.2 (D.1 k) (D.2 k) := by
  have hts : ∀ w ∈ lw_all, w.before args s = true := fun w h => hts w (lw_all_tbl h)
  obtain ⟨c0, i0, h0⟩ := u_known (C := RX1) (T := TX1) (N := 25) (n := 25) hts in_X1 (hts _ q68)
  obtain ⟨c1, i1, h1⟩ := u_known (C := RX2) (T := TX2) (N := 17) (n := 17) hts in_X2 (hts _ q77)
  obtain ⟨c2, i2, h2⟩ := u_known (C := RX3) (T := TX3) (N := 18) (n := 18) hts in_X3 (hts _ q750)
  obtain ⟨c3, i3, h3⟩ := u_known (C := RX5) (T := TX5) (N := 5) (n := 5) hts in_X5 (hts _ q413)
  obtain ⟨c4, i4, h4⟩ := u_known (C := RX6) (T := TX6) (N := 5) (n := 5) hts in_X6 (hts _ q442)
  obtain ⟨c5, i5, h5⟩ := u_known (C := RX7) (T := TX7) (N := 6) (n := 6) hts in_X7 (hts _ q458)
  obtain ⟨c6, i6, h6⟩ := u_known (C := RX8) (T := TX8) (N := 7) (n := 7) hts in_X8 (hts _ q566)
  obtain ⟨c7, i7, h7⟩ := u_known (C := RJ10) (T := TJ10) (N := 6) (n := 6) hts in_J10 (hts _ q689)
  refine ⟨(fun k => [c0, c1, c2, c3, c4, c5, c6, c7].getD k 0, fun k => [i0, i1, i2, i3, i4, i5, i6, i7].getD k (fun _ => 0)), fun k q hq => ?_⟩
  match k, hq with
  | 0, hq => cases hq; exact h0
  | 1, hq => cases hq; exact h1
  | 2, hq => cases hq; exact h2
  | 3, hq => cases hq; exact h3
  | 4, hq => cases hq; exact h4
  | 5, hq => cases hq; exact h5
  | 6, hq => cases hq; exact h6
  | 7, hq => cases hq; exact h7
  | k + 8, hq => simp [CL] at hq
end ST
/-- the law's walk, once the plain law is known -/
theorem whole_start0 {p : Program} {e : Env} {s : State} {m : MethodId} {below : List Frame} {meth : Method} {c : Code} (l : Launch) (hflags : l.flags = flags0) {b L : Nat} {xs : Nat → Int32} (hL : L ≤ 512) (C0 : lw_At p s m meth c b L xs) {Rel : Nat → Mm → Mm → Prop} (St : Steps6 Rel) {V0 U0 : Mm} (hV : x_init = some V0) (hU : m_init = some U0) (hR : Rel 0 V0 U0) : W p l e room_1 s m #[Value.ref b] below meth c s.heap [] 0 0 (lw_Z below #[Value.ref b] s) (entryFrame m ([Value.ref b] : List Value).toArray 7) := by
  obtain ⟨hx, hb, hr, hml, hown, hts0, hX, hbl, hlocks, hgv⟩ := id C0
  have hs := flat_of_before _ hgv
  have hts : ∀ w ∈ lw_all, w.before #[Value.ref b] s = true := fun w h => hts0 w (lw_all_tbl h)
  have hl0 : l.stackTraces = false := by
    unfold Launch.stackTraces
    rw [hflags]
    decide
  obtain ⟨D, hKn⟩ := st_Kn hts0
  obtain ⟨g0, g1, g2, g3, g4, g5, g6, hty⟩ := st_ty hts0
  obtain ⟨a7, a8, hzK⟩ := st_K hts0 hs
  obtain ⟨g, hg⟩ : ∃ g : Nat → ClassId, g = fun k => [g0, g1, g2, g3, g4, g5, g6, a7, a8].getD k 0 := ⟨_, rfl⟩
  have hty := hty g (by rw [hg]; rfl) (by rw [hg]; rfl) (by rw [hg]; rfl) (by rw [hg]; rfl) (by rw [hg]; rfl) (by rw [hg]; rfl) (by rw [hg]; rfl)
  have hzK := hzK g (by rw [hg]; rfl) (by rw [hg]; rfl)
  have F : w6_F p s m #[Value.ref b] c cL_law 7 RX0 D g (LA s) := ⟨⟨hx, hb, hml, hown, hts⟩, ⟨hKn, hty⟩, ⟨st_W hts0, st_H hts0 hs, hzK⟩, fun q h => h⟩
  have X : LX p s m meth c b L xs D g := ⟨F, hX, hbl, hL, hr, hlocks, st_xn hts0 hs⟩
  have I : w6_I D [] (LA s) s s.heap [] := ⟨fun k q h => by simp at h, ⟨fun i j p q h => by simp at h, fun k q h => by simp at h⟩, va_S.rf⟩
  have hl := lv_entry ([.ref b]) (n := 7) (Nat.le_of_ble_eq_true rfl)
  rw [lg_entry_eq]
  generalize (lg_sl ([.ref b]) ++ List.replicate (7 - (lg_sl ([.ref b])).length) Slot.unset).toArray = ls at hl ⊢
  have hl : lv_has ls 7 [(0, .ref b)] := hl
  have hb : c.code = cL_law := hb
  refine va_new (D := D) (ci := 0) (fs := [.null, .null, .null, .null, .int 0, .int 0, .int 0, .int 0, .int 0, .int 0, .int 0, .null, .int 0, .int 0, .int 0, .int 0, .int 0, .int 0, .int 0, .int 0, .int 0, .null, .null, .null, .int 0]) (C := RX1) (T := TX1) (N := 25) hx hb hts in_X1 tyX1 tyX1_ok hown (hts _ q67) (hts _ q68) (hts _ q47) F.2.1 I.1 I.2.1 I.2.2 F.2.2.2 rfl (fun j hj => st_fs0 j hj) (Nat.le_of_ble_eq_true rfl) (Nat.le_of_ble_eq_true rfl) dL_law_0 (fun q0 H hP hD hS => ?_)
  refine lv_dup hx hb dL_law_3 rfl ?_
  sorry
