/-! rows for objects that are made on the way: items, constructors -/
theorem va_D_nd {A : Nat → Prop} {ws : va_W} : va_D A ws ↔ (ws.map (·.1)).Nodup ∧ ∀ x ∈ ws, A x.1 := by
  have key : (ws.map (·.1)).Nodup ↔ ∀ (i j : Nat) (hi : i < ws.length) (hj : j < ws.length), i < j → ws[i].1 ≠ ws[j].1 := by
    unfold List.Nodup
    rw [List.pairwise_iff_getElem]
    simp only [List.length_map, List.getElem_map]
  rw [key]
  constructor
  · intro h
    refine ⟨fun i j hi hj hij e => ?_, fun x hx => ?_⟩
    · have := h.1 i j _ _ (List.getElem?_eq_getElem hi) (List.getElem?_eq_getElem hj) e
      omega
    · obtain ⟨i, hi⟩ := List.getElem?_of_mem hx
      exact h.2 i x hi
  · intro ⟨h1, h2⟩
    refine ⟨fun i j x y hi hj e => ?_, fun k x hk => h2 x (List.mem_of_getElem? hk)⟩
    obtain ⟨li, ei⟩ := List.getElem?_eq_some_iff.mp hi
    obtain ⟨lj, ej⟩ := List.getElem?_eq_some_iff.mp hj
    subst ei ej
    rcases Nat.lt_trichotomy i j with h | h | h
    · exact absurd e (h1 i j li lj h)
    · exact h
    · exact absurd e.symm (h1 j i lj li h)
theorem w6_I.perm {D : va_G} {A : Nat → Prop} {s : State} {H : Heap} {locs : List Loc} {ws ws' : va_W} (I : w6_I D ws A s H locs) (h : ws.Perm ws') : w6_I D ws' A s H locs := by
  refine ⟨fun k q hk => ?_, ?_, I.2.2⟩
  · obtain ⟨i, hi⟩ := List.getElem?_of_mem (h.mem_iff.mpr (List.mem_of_getElem? hk))
    exact I.1 i q hi
  · rw [va_D_nd] at *
    obtain ⟨h1, h2⟩ := va_D_nd.mp I.2.1
    exact ⟨(h.map (·.1)).nodup_iff.mp h1, fun x hx => h2 x (h.mem_iff.mpr hx)⟩
theorem w6_I.comm {D : va_G} {A : Nat → Prop} {s : State} {H : Heap} {locs : List Loc} {a b : va_W} (I : w6_I D (a ++ b) A s H locs) : w6_I D (b ++ a) A s H locs := I.perm List.perm_append_comm
theorem w6_I.nil {D : va_G} {A : Nat → Prop} {s : State} {H : Heap} {locs : List Loc} {a : va_W} (I : w6_I D (a ++ []) A s H locs) : w6_I D a A s H locs := by rw [List.append_nil] at I; exact I
theorem w6_I.nil' {D : va_G} {A : Nat → Prop} {s : State} {H : Heap} {locs : List Loc} {a : va_W} (I : w6_I D a A s H locs) : w6_I D (a ++ []) A s H locs := by rw [List.append_nil]; exact I
/-- a constructor's start -/
theorem w6_startc {l : Launch} {D : va_G} {g : Nat → ClassId} {y : MethodName} {cc : ByteArray} {nL : Nat} {rm : Room} {av : List Value} {w : va_W} {sz : Nat} {Qc : Array Value → State → Outcome → State → Prop} {mc ms : Nat} (own : String) (hy : plainName y.cls = true) (hn : (lg_sl av).length ≤ nL) (ho : own = y.cls)
    (body : ∀ (p : Program) (e : Env) (s : State) (m : MethodId) (below : List Frame) (meth : Method) (c : Code) (A : Nat → Prop) (ls : Array Slot), s.heap.size = sz → A = va_A w s.heap.size → meth.name = y.name → meth.sig.returnType = none → meth.locks = false → p.tables.exec = Jvm.exec → c.code = cc → s.vm.findClass own = some m.cls → (∀ w ∈ lw_all, w.before av.toArray s = true) → w6_F p s m av.toArray c cc nL own D g A → w6_I D (w ++ []) A s s.heap [] → lv_has ls nL (lv_args 0 av) →
      W p l e rm s m av.toArray below meth c s.heap [] 0 0 (MQ below Qc av.toArray s mc ms A) (F0 m 0 ls [])) : Met l y (ws_ y cc nL none) rm (w6_Pc D g av w sz) Qc mc ms (va_A w sz) := by
  refine Met.ofW (cc := cc) (maxL := nL) (ret := none) hy rfl ?_
  intro p e s m args below meth c s₁ B hml hv
  obtain ⟨rfl, hsz, hP, hK, hD0, hZ⟩ := hv
  have hts := atoms_spec (ws := ws_ y cc nL none) B.pre
  have hts : ∀ w ∈ lw_all, w.before _ s = true := fun w h => hts w (List.mem_cons_of_mem _ h)
  have hown : s.vm.findClass own = some m.cls := by rw [ho]; exact findClass_of_methodNamed B.named
  have hlocks := B.notSynchronized
  have hin : meth.name = y.name := (name_of_methodNamed B.named B.method).1
  have hl := lv_entry av (n := nL) hn
  rw [lg_entry_eq]
  generalize (lg_sl av ++ List.replicate (nL - (lg_sl av).length) Slot.unset).toArray = ls at hl ⊢
  subst hsz
  exact body p e s m below meth c _ ls rfl rfl hin B.returns hlocks B.exec B.bytes hown hts ⟨⟨B.exec, B.bytes, hml, hown, hts⟩, hK, hZ, fun q h => Or.inr h⟩ ⟨by rw [List.append_nil]; exact hP, by rw [List.append_nil]; exact hD0.self, va_S.rf⟩ hl
theorem w6_startcv {l : Launch} {D : va_G} {g : Nat → ClassId} {y : MethodName} {cc : ByteArray} {nL : Nat} {rm : Room} {av : List Value} {w w' : va_W} {sz : Nat} (own : String) (hy : plainName y.cls = true) (hn : (lg_sl av).length ≤ nL) (ho : own = y.cls)
    (body : ∀ (p : Program) (e : Env) (s : State) (m : MethodId) (below : List Frame) (meth : Method) (c : Code) (A : Nat → Prop) (ls : Array Slot) (Q : State → Prop), meth.name = y.name → p.tables.exec = Jvm.exec → c.code = cc → s.vm.findClass own = some m.cls → (∀ w ∈ lw_all, w.before av.toArray s = true) → w6_F p s m av.toArray c cc nL own D g A → w6_I D (w ++ []) A s s.heap [] → lv_has ls nL (lv_args 0 av) →
      (∀ (pc : Nat) (H : Heap) (locs : List Loc) (ls : Array Slot), decode cc pc = .ok (.return_, 1) → w6_I D (w' ++ []) A s H locs → W p l e rm s m av.toArray below meth c H locs rm.cells rm.slots Q (F0 m pc ls [])) →
      W p l e rm s m av.toArray below meth c s.heap [] 0 0 Q (F0 m 0 ls [])) : Met l y (ws_ y cc nL none) rm (w6_Pc D g av w sz) (w6_Qv D g w w' sz) rm.cells rm.slots (va_A w sz) := by
  refine w6_startc own hy hn ho (fun p e s m below meth c A ls hsz hA hin hr hlocks hx hb hown hts F I hl => ?_)
  subst hsz
  exact body p e s m below meth c A ls _ hin hx hb hown hts F I hl (fun pc H locs ls hdg I1 => x_vret F hA I1 hr hlocks hdg)
/-- answers that are references: null, or a cell that was made -/
def w6_add (w : va_W) (u : Option Nat) (res : Option va_E) : va_W := match u, res with
  | some q, some e => w ++ [(q, e)]
  | _, _ => w
def w6_Qq (D : va_G) (g : Nat → ClassId) (w w' : va_W) (sz : Nat) (res : Option va_E) : Array Value → State → Outcome → State → Prop :=
  va_Qq (fun (r : Option Nat) (u : Option Nat) => r = u ∧ u.isSome = res.isSome) (fun u t => w6_B D g w (w6_add w' u res) sz t) (va_A w sz)
def CTq (l : Launch) (D : va_G) (g : Nat → ClassId) (y : MethodName) (cc : ByteArray) (nL : Nat) (rt : FieldType) (rm : Room) (av : List Value) (w w' : va_W) (res : Option va_E) : Prop :=
  ∀ sz, Met l y (ws_ y cc nL (some rt)) rm (w6_Pc D g av w sz) (w6_Qq D g w w' sz res) rm.cells rm.slots (va_A w sz)
theorem w6_startq {l : Launch} {D : va_G} {g : Nat → ClassId} {y : MethodName} {cc : ByteArray} {nL : Nat} {rt : FieldType} {rm : Room} {av : List Value} {w w' : va_W} {sz : Nat} {res : Option va_E} (hrt : ∃ n, rt = .object n) (own : String) (hy : plainName y.cls = true) (hn : (lg_sl av).length ≤ nL) (ho : own = y.cls)
    (body : ∀ (p : Program) (e : Env) (s : State) (m : MethodId) (below : List Frame) (meth : Method) (c : Code) (A : Nat → Prop) (ls : Array Slot) (Q : State → Prop), p.tables.exec = Jvm.exec → c.code = cc → s.vm.findClass own = some m.cls → (∀ w ∈ lw_all, w.before av.toArray s = true) → w6_F p s m av.toArray c cc nL own D g A → w6_I D (w ++ []) A s s.heap [] → lv_has ls nL (lv_args 0 av) →
      (∀ (u : Option Nat) (pc : Nat) (H : Heap) (locs : List Loc) (ls : Array Slot), decode cc pc = .ok (.areturn, 1) → w6_I D (w6_add w' u res ++ []) A s H locs → u.isSome = res.isSome → W p l e rm s m av.toArray below meth c H locs rm.cells rm.slots Q (F0 m pc ls [va_rf u])) →
      W p l e rm s m av.toArray below meth c s.heap [] 0 0 Q (F0 m 0 ls [])) : Met l y (ws_ y cc nL (some rt)) rm (w6_Pc D g av w sz) (w6_Qq D g w w' sz res) rm.cells rm.slots (va_A w sz) := by
  refine w6_start own hy hn ho (fun p e s m below meth c A ls hsz hA hr hlocks F I hl => ?_)
  subst hsz
  refine body p e s m below meth c A ls _ F.1.1 F.1.2.1 F.1.2.2.2.1 F.1.2.2.2.2 F I hl (fun u pc H locs ls hdg I1 hu => ?_)
  exact W.aret F.1.1 F.1.2.1 hr (Or.inl hrt) (va_rf_or u) (fun t ht hW => ⟨⟨u, u, rfl, ⟨rfl, hu⟩, (w6_end F hA I1 ht hW).1⟩, (w6_end F hA I1 ht hW).2⟩) I1.2.2.2.2 hdg hlocks
section W6O
variable {p : Program} {l : Launch} {e : Env} {R : Room} {s : State} {m : MethodId} {args : Array Value} {below : List Frame} {meth : Method} {c : Code} {H : Heap} {locs : List Loc} {cells slots : Nat} {Q : State → Prop}
variable {cc : ByteArray} {nL pc : Nat} {ls : Array Slot} {rest : List Value} {D : va_G} {g : Nat → ClassId} {A : Nat → Prop} {own : String} {wr ws : va_W}
theorem xc_Vq {C : String} {index b nL' n : Nat} {y : MethodName} {cc' : ByteArray} {rt : FieldType} {rm : Room} {As : List Value} {w w' : va_W} {res : Option va_E} {st0 : List Value}
    (F : w6_F p s m args c cc nL own D g A) (I : w6_I D (w ++ wr) A s H locs) (hM : CTq l D g y cc' nL' rt rm (.ref b :: As) w w' res) (hG : GoodIn lw_all (wsV own index C y (ws_ y cc' nL' (some rt)))) (hd : w6_hd y n) (hC : y.cls = C) (hR : rm.frames + 1 ≤ R.frames) (hR2 : 8 + (nL' + 11) + rm.locals ≤ R.locals)
    (hrec : ∃ cell : Cell, H[b]? = some cell ∧ cell.vm.isStatics = false ∧ s.vm.findClass C = some cell.cls) (hn : As.length = n) (hl : ls.size = nL) (rest : List Value) (hst : st0 = As.reverse ++ .ref b :: rest) (hW : (rest.map fun v => v.category).sum ≤ 8) (hdg : decode cc pc = .ok (.invokevirtual index, 3)) (hf : cells + rm.cells ≤ R.cells ∧ slots + rm.slots ≤ R.slots)
    (kk : ∀ (u : Option Nat) (H1 : Heap) (locs1 : List Loc), u.isSome = res.isSome → w6_I D (w6_add w' u res ++ wr) A s H1 locs1 → W p l e R s m args below meth c H1 locs1 (cells + rm.cells) (slots + rm.slots) Q (F0 m (pc + 3) ls (va_rf u :: rest))) : W p l e R s m args below meth c H locs cells slots Q (F0 m pc ls st0) := by
  refine va_callq (va_runV (As := As) (rest := rest) F.1 (hM H.size) (cwV n F.1.2.2.2.2 hG rfl rfl rfl ⟨hC, hd⟩ ⟨hR, hR2⟩) ⟨w6_Pc_blind, hrec, fun U hU hW => w6_pre F I U hU hW⟩ rfl hn hl hst (lv_room hW) hdg hf) I.2.2 (fun q _ h => w6_free F I q h) (w6_free F I) (fun r1 u t H1 locs1 ht hvm hw hB hz hk hS => ?_)
  obtain ⟨h1, h2⟩ := hw
  subst h1
  obtain ⟨hP1, hK1, hD1⟩ := hB
  rw [ht] at hP1
  exact kk r1 H1 locs1 h2 (w6_join F I hk hP1 hD1 hS)
/-- a constructor's call, by link or by nest -/
theorem xc_Iv {index b nL' n : Nat} {y : MethodName} {cc' : ByteArray} {rm : Room} {As : List Value} {w w' : va_W} {st0 : List Value}
    (F : w6_F p s m args c cc nL own D g A) (I : w6_I D (w ++ wr) A s H locs) (hM : CTv l D g y cc' nL' rm (.ref b :: As) w w') (hq : Cond.code y cc' nL' none ∈ lw_all) (hini : Cond.initialized y.cls ∈ lw_all) (hlk : Cond.methodLink own index y ∈ lw_all) (hin : Cond.instanceMethod y ∈ lw_all) (hd : w6_hd y n) (hy1 : y.name = "<init>") (hR : rm.frames + 1 ≤ R.frames) (hR2 : 8 + (nL' + 11) + rm.locals ≤ R.locals)
    (hn : As.length = n) (hl : ls.size = nL) (rest : List Value) (hst : st0 = As.reverse ++ .ref b :: rest) (hW : (rest.map fun v => v.category).sum ≤ 8) (hdg : decode cc pc = .ok (.invokespecial index, 3)) (hf : cells + rm.cells ≤ R.cells ∧ slots + rm.slots ≤ R.slots)
    (kk : ∀ (H1 : Heap) (locs1 : List Loc), w6_I D (w' ++ wr) A s H1 locs1 → W p l e R s m args below meth c H1 locs1 (cells + rm.cells) (slots + rm.slots) Q (F0 m (pc + 3) ls rest)) : W p l e R s m args below meth c H locs cells slots Q (F0 m pc ls st0) :=
  w6_callv F I (va_runI (As := As) (rest := rest) F.1 (hM H.size) (cwI n F.1.2.2.2.2 (lw_meth hq) rfl rfl rfl (F.1.2.2.2.2 _ hini) (F.1.2.2.2.2 _ hlk) (F.1.2.2.2.2 _ hin) hy1 hd ⟨hR, hR2⟩) ⟨w6_Pc_blind, fun U hU hW => w6_pre F I U hU hW⟩ rfl hn hl hst (lv_room hW) hdg hf) kk
theorem xc_INv {index b nL' n : Nat} {host : String} {y : MethodName} {cc' : ByteArray} {rm : Room} {As : List Value} {w w' : va_W} {st0 : List Value}
    (F : w6_F p s m args c cc nL own D g A) (I : w6_I D (w ++ wr) A s H locs) (hM : CTv l D g y cc' nL' rm (.ref b :: As) w w') (hq : Cond.code y cc' nL' none ∈ lw_all) (hini : Cond.initialized y.cls ∈ lw_all) (hlk : (own, index, y, host) ∈ zsMN) (hin : Cond.instanceMethod y ∈ lw_all) (hd : w6_hd y n) (hy1 : y.name = "<init>") (hR : rm.frames + 1 ≤ R.frames) (hR2 : 8 + (nL' + 11) + rm.locals ≤ R.locals)
    (hn : As.length = n) (hl : ls.size = nL) (rest : List Value) (hst : st0 = As.reverse ++ .ref b :: rest) (hW : (rest.map fun v => v.category).sum ≤ 8) (hdg : decode cc pc = .ok (.invokespecial index, 3)) (hf : cells + rm.cells ≤ R.cells ∧ slots + rm.slots ≤ R.slots)
    (kk : ∀ (H1 : Heap) (locs1 : List Loc), w6_I D (w' ++ wr) A s H1 locs1 → W p l e R s m args below meth c H1 locs1 (cells + rm.cells) (slots + rm.slots) Q (F0 m (pc + 3) ls rest)) : W p l e R s m args below meth c H locs cells slots Q (F0 m pc ls st0) :=
  w6_callv F I (va_runIN (As := As) (rest := rest) F.1 (hM H.size) ⟨va_cnB n F.1.2.2.2.2 (lw_meth hq) rfl rfl rfl (F.2.2.1.1.2.1 _ hlk) (F.1.2.2.2.2 _ hini) hd ⟨hR, hR2⟩, hy1, F.1.2.2.2.2 _ hin⟩ ⟨w6_Pc_blind, fun U hU hW => w6_pre F I U hU hW⟩ rfl hn hl hst (lv_room hW) hdg hf) kk
/-- a call that the receiver's class answers -/
theorem xz_Ui {C owner : String} {index b nL' n : Nat} {x y : MethodName} {cc' : ByteArray} {rt : FieldType} {fr lo : Nat} {As : List Value} {w w' : va_W} {r : Int32} {st0 : List Value}
    (F : w6_F p s m args c cc nL own D g A) (I : w6_I D (w ++ wr) A s H locs) (hM : CTi l D g y cc' nL' rt { frames := fr, cells := 0, slots := 0, locals := lo } (.ref b :: As) w w' r) (hq : Cond.code y cc' nL' (some rt) ∈ lw_all) (hini : Cond.initialized y.cls ∈ lw_all) (hlk : Cond.methodLink own index x ∈ lw_all) (hsm : Cond.sameMethod x.cls owner x.name x.desc ∈ lw_all) (hdc : va_Decl s ⟨owner, x.name, x.desc⟩) (hsel : Cond.selects C x y ∈ lw_all) (hin : Cond.instanceMethod y ∈ lw_all) (ho : owner ≠ "java/lang/invoke/MethodHandle" ∧ owner ≠ "java/lang/invoke/VarHandle") (hd : (parseMethodDescriptor x.desc).map (fun d => d.parameters.length) = some n) (hR : fr + 1 ≤ R.frames) (hR2 : 8 + (nL' + 11) + lo ≤ R.locals)
    (hrec : ∃ cell : Cell, H[b]? = some cell ∧ cell.vm.isStatics = false ∧ s.vm.findClass C = some cell.cls) (hn : As.length = n) (hl : ls.size = nL) (rest : List Value) (hst : st0 = As.reverse ++ .ref b :: rest) (hW : (rest.map fun v => v.category).sum ≤ 8) (hdg : decode cc pc = .ok (.invokevirtual index, 3)) (hf : cells ≤ R.cells ∧ slots ≤ R.slots)
    (kk : ∀ (H1 : Heap) (locs1 : List Loc), w6_I D (w' ++ wr) A s H1 locs1 → W p l e R s m args below meth c H1 locs1 cells slots Q (F0 m (pc + 3) ls (.int r :: rest))) : W p l e R s m args below meth c H locs cells slots Q (F0 m pc ls st0) := by
  have hG := lw_meth hq
  have hts := F.1.2.2.2.2
  have hcw : va_CU R s args own C owner index x y cc' nL' (some rt) (ws_ y cc' nL' (some rt)) { frames := fr, cells := 0, slots := 0, locals := lo } 0 0 n :=
    ⟨⟨rfl, rfl, hR, hR2, pay_in hts hG, List.mem_cons_self⟩, hts _ hq, hts _ hini, ho, fun sig h => by rw [h] at hd; exact (Option.some.inj hd).symm, hts _ hlk, hts _ hsm, hdc, hts _ hsel, hts _ hin⟩
  exact w6_calli (cells := cells) (slots := slots) F I (va_runU (As := As) (rest := rest) F.1 (hM H.size) hcw ⟨w6_Pc_blind, hrec, fun U hU hW => w6_pre F I U hU hW⟩ rfl hn hl hst (lv_room hW) hdg hf) kk
end W6O
