/-! rows for a fresh array beside the world, and for the text of signs -/
theorem tyG_un {D : va_G} {g : Nat → ClassId} {s : State} {t : Nat} {ty : FieldType} {cA : ClassId} (hK : va_K D CL (tyG g) s) (ht : (tyG g)[t]? = some (g t, ty)) (h : va_RA s cA ty) : cA = g t := by
  have h2 := (hK.2 t _ ht).2
  cases ty with
  | object C =>
    obtain ⟨_, _, _, _, _, e1⟩ := h
    obtain ⟨_, _, _, _, _, e2⟩ := h2
    exact Option.some.inj (e1.symm.trans e2)
  | _ => exact Option.some.inj (h.symm.trans h2)
section W6T
variable {p : Program} {l : Launch} {e : Env} {R : Room} {s : State} {m : MethodId} {args : Array Value} {below : List Frame} {meth : Method} {c : Code} {H : Heap} {locs : List Loc} {cells slots : Nat} {Q : State → Prop}
variable {cc : ByteArray} {nL pc : Nat} {ls : Array Slot} {rest : List Value} {D : va_G} {g : Nat → ClassId} {A : Nat → Prop} {own : String} {ad : Nat → Nat} {V V' : Mm} {wr ws : va_W} {sh : w6_Sh} {N : Nat}
/-- new array of numbers, kind t -/
theorem w6_newa {atype : ArrayType} {ty : FieldType} {t : Nat} {n : Int32} {n' : Nat} {a0 : vp_A} (F : w6_F p s m args c cc nL own D g A) (I : w6_I D ws A s H locs) (harr : Cond.arrayClass (newarray.typeOf atype) ∈ lw_all) (hty : newarray.typeOf atype = ty) (ht : (tyG g)[t]? = some (g t, ty)) (ha : ∀ cA : ClassId, vp_cell cA a0 = arrV cA n' (fun _ => defaultValue ty)) (hn : ¬ n < 0) (hN : n.toNatClampNeg = n') (hbytes : n' * componentBytes ty ≤ 536870912) (hcells : cells + 1 ≤ R.cells) (hslots : slots + n' ≤ R.slots) (hdg : decode cc pc = .ok (.newarray atype, 2))
    (kk : ∀ (q : Nat) (H1 : Heap), w6_I D (ws ++ [(q, .inl (g t, a0))]) A s H1 locs → W p l e R s m args below meth c H1 locs (cells + 1) (slots + n') Q (F0 m (pc + 2) ls (.ref q :: rest))) : W p l e R s m args below meth c H locs cells slots Q (F0 m pc ls (.int n :: rest)) := by
  refine va_newa (atype := atype) (a0 := a0) F.1.1 F.1.2.1 (F.1.2.2.2.2 _ harr) hty F.2.1 I.1 I.2.1 I.2.2 F.2.2.2 ha hn hN hbytes hcells hslots hdg (fun q cA H1 hK hP hD hS => ?_)
  have h9 : (tyG g ++ [(cA, ty)])[(tyG g).length]? = some (cA, ty) := by simp
  have hc : cA = g t := tyG_un F.2.1 ht (hK.2 _ _ h9).2
  subst hc
  exact kk q H1 ⟨hP, hD, hS⟩
theorem w6_fl_last {n : Nat} {ad : Nat → Nat} {E : Nat → va_E} {wr : va_W} {j : Nat} : (w6_fl n ad E ++ wr)[n + j]? = wr[j]? := by
  rw [List.getElem?_append_right (by rw [w6_fl_len]; omega), w6_fl_len, Nat.add_sub_cancel_left]
theorem w6_fl_setr {n : Nat} {ad : Nat → Nat} {E : Nat → va_E} {wr : va_W} {j : Nat} {e : Nat × va_E} : (w6_fl n ad E ++ wr).set (n + j) e = w6_fl n ad E ++ wr.set j e := by
  rw [List.set_append_right _ _ (by rw [w6_fl_len]; omega), w6_fl_len, Nat.add_sub_cancel_left]
theorem w6_tmld {q n j : Nat} {f : Nat → Int32} {i : Int32} (F : w6_F p s m args c cc nL own D g A) (I : w6_I D (w6_w sh N g ad V ++ [(q, .inl (g 0, n, .inl f))]) A s H locs) (hin : vp_in i n) (ej : i.toNatClampNeg = j) (hdg : decode cc pc = .ok (.iaload, 1))
    (kk : W p l e R s m args below meth c H locs cells slots Q (F0 m (pc + 1) ls (.int (f j) :: rest))) : W p l e R s m args below meth c H locs cells slots Q (F0 m pc ls (.int i :: .ref q :: rest)) := by
  subst ej
  exact va_iald F.1.1 F.1.2.1 F.2.1 I.1 (N + 0) 0 (w6_fl_last.trans rfl) rfl hin hdg kk
theorem w6_tmst {q n j : Nat} {f f' : Nat → Int32} {i x : Int32} (F : w6_F p s m args c cc nL own D g A) (I : w6_I D (w6_w sh N g ad V ++ [(q, .inl (g 0, n, .inl f))]) A s H locs) (hin : vp_in i n) (ej : i.toNatClampNeg = j) (hdg : decode cc pc = .ok (.iastore, 1)) (ef : f' = upd f j x)
    (kk : ∀ (H1 : Heap) (locs1 : List Loc), w6_I D (w6_w sh N g ad V ++ [(q, .inl (g 0, n, .inl f'))]) A s H1 locs1 → W p l e R s m args below meth c H1 locs1 cells slots Q (F0 m (pc + 1) ls rest)) : W p l e R s m args below meth c H locs cells slots Q (F0 m pc ls (.int x :: .int i :: .ref q :: rest)) := by
  subst ej ef
  refine va_iast F.1.1 F.1.2.1 F.2.1 I.1 I.2.1 I.2.2 (N + 0) 0 (w6_fl_last.trans rfl) rfl hin hdg (fun H1 locs1 hP hD hS => kk H1 locs1 ⟨?_, ?_, hS⟩)
  · unfold w6_w at hP ⊢; rw [w6_fl_setr] at hP; exact hP
  · unfold w6_w at hD ⊢; rw [w6_fl_setr] at hD; exact hD
theorem w6_tmlen {q n : Nat} {f : Nat → Int32} {v : Int32} (F : w6_F p s m args c cc nL own D g A) (I : w6_I D (w6_w sh N g ad V ++ [(q, .inl (g 0, n, .inl f))]) A s H locs) (hv : Int32.ofNat n = v) (hdg : decode cc pc = .ok (.arraylength, 1))
    (kk : W p l e R s m args below meth c H locs cells slots Q (F0 m (pc + 1) ls (.int v :: rest))) : W p l e R s m args below meth c H locs cells slots Q (F0 m pc ls (.ref q :: rest)) :=
  va_alen F.1.1 F.1.2.1 F.2.1 I.1 (N + 0) 0 (w6_fl_last.trans rfl) rfl hv hdg kk
theorem w6_cpyT {q k1 n0 n1 sp' dp' n' : Nat} {f : Nat → Int32} {sp dp n : Int32} {index : Nat} (hL : w6_Lc sh) (F : w6_F p s m args c cc nL own D g A) (I : w6_I D (w6_w sh N g ad V ++ [(q, .inl (g 0, n0, .inl f))]) A s H locs) (hl : ls.size = nL) (hq : Cond.methodLink own index arraycopyName ∈ lw_all) (hX1 : w6_Ar sh N k1 0 n1)
    (h1 : ¬ sp < 0) (h2 : ¬ dp < 0) (h3 : ¬ n < 0) (es : sp.toNatClampNeg = sp') (ed : dp.toNatClampNeg = dp') (en : n.toNatClampNeg = n') (h4 : sp' + n' ≤ n0) (h5 : dp' + n' ≤ n1)
    (hframes : 1 ≤ R.frames) (hlocals : (rest.map fun v => v.category).sum + (nativeFrameWords "java/lang/System" "arraycopy" 5 + 11) ≤ R.locals) (hdg : decode cc pc = .ok (.invokestatic index, 3)) (eV : V' = mrow V k1 (va_cpy f (V.1 k1) sp' dp' n'))
    (kk : ∀ (H1 : Heap) (locs1 : List Loc), w6_I D (w6_w sh N g ad V' ++ [(q, .inl (g 0, n0, .inl f))]) A s H1 locs1 → W p l e R s m args below meth c H1 locs1 cells slots Q (F0 m (pc + 3) ls rest)) : W p l e R s m args below meth c H locs cells slots Q (F0 m pc ls (.int n :: .int dp :: .ref (ad k1) :: .int sp :: .ref q :: rest)) := by
  subst es ed en eV
  refine va_copyi F.1.1 F.1.2.1 (by rw [F.1.2.2.1, hl]) F.1.2.2.2.1 (F.1.2.2.2.2 _ hq) (F.1.2.2.2.2 _ q269) (F.1.2.2.2.2 _ q268) (F.1.2.2.2.2 _ q51) F.2.1 I.1 I.2.1 I.2.2 (N + 0) k1 0 0 (w6_fl_last.trans rfl) ((w6_fl_at hX1.1).trans (by rw [hX1.2])) rfl rfl rfl h1 h2 h3 h4 h5 (fun _ _ => rfl) hframes hlocals hdg (fun H1 locs1 hP hD hS => kk H1 locs1 (w6_setI (V := V) hX1.1 ?_ (fun i _ hik => hL g ad _ _ i (mrow_ne V _ hik) rfl) hP hD hS))
  rw [hX1.2, mrow_row]
/-! the text of signs -/
theorem w6_strB (F : w6_F p s m args c cc nL own D g A) : va_T .byte (g 8) 12 (fun j => .int (zsWho.getD j 0)) A s s.heap := (F.2.2.1.2.2.2.1 0 (by decide)).2.2.2
theorem w6_strV (F : w6_F p s m args c cc nL own D g A) : va_OF "java/lang/String" "value" "[B" (.ref (g 8)) (g 7) A s s.heap := (F.2.2.1.2.2.2.1 0 (by decide)).2.2.1
theorem w6_strC (F : w6_F p s m args c cc nL own D g A) : va_OF "java/lang/String" "coder" "B" (.int 0) (g 7) A s s.heap := (F.2.2.1.2.2.2.1 0 (by decide)).2.1
theorem w6_strR (F : w6_F p s m args c cc nL own D g A) (I : w6_I D ws A s H locs) : ∃ cell : Cell, H[g 7]? = some cell ∧ cell.vm.isStatics = false ∧ s.vm.findClass "java/lang/String" = some cell.cls := vk_recv F.2.2.1.2.2.2 (i := 0) (by decide) I.2.2
theorem w6_bld {i : Int32} {j : Nat} (F : w6_F p s m args c cc nL own D g A) (I : w6_I D ws A s H locs) (hin : vp_in i 12) (ej : i.toNatClampNeg = j) (hdg : decode cc pc = .ok (.baload, 1))
    (kk : W p l e R s m args below meth c H locs cells slots Q (F0 m (pc + 1) ls (.int (zsWho.getD j 0) :: rest))) : W p l e R s m args below meth c H locs cells slots Q (F0 m pc ls (.int i :: .ref (g 8) :: rest)) := by
  subst ej
  exact va_tb F.1.1 F.1.2.1 (w6_strB F) I.2.2 hin rfl hdg kk
theorem xz_PVi {C : String} {index b nL' n : Nat} {y : MethodName} {cc' : ByteArray} {rt : FieldType} {fr lo : Nat} {As : List Value} {r : Int32} {st0 : List Value}
    (F : w6_F p s m args c cc nL own D g A) (I : w6_I D wr A s H locs) (hM : CTi l D g y cc' nL' rt { frames := fr, cells := 0, slots := 0, locals := lo } (.ref b :: As) [] [] r) (hG : GoodIn lw_all (wsV own index C y (ws_ y cc' nL' (some rt)))) (hd : w6_hd y n) (hC : y.cls = C) (hR : fr + 1 ≤ R.frames) (hR2 : 8 + (nL' + 11) + lo ≤ R.locals)
    (hrec : ∃ cell : Cell, H[b]? = some cell ∧ cell.vm.isStatics = false ∧ s.vm.findClass C = some cell.cls) (hn : As.length = n) (hl : ls.size = nL) (rest : List Value) (hst : st0 = As.reverse ++ .ref b :: rest) (hW : (rest.map fun v => v.category).sum ≤ 8) (hdg : decode cc pc = .ok (.invokevirtual index, 3)) (hf : cells ≤ R.cells ∧ slots ≤ R.slots)
    (kk : ∀ (H : Heap) (locs : List Loc), w6_I D wr A s H locs → W p l e R s m args below meth c H locs cells slots Q (F0 m (pc + 3) ls (.int r :: rest))) : W p l e R s m args below meth c H locs cells slots Q (F0 m pc ls st0) :=
  xz_Vi (w := []) (w' := []) F I hM hG hd hC hR hR2 hrec hn hl rest hst hW hdg hf kk
end W6T
