/-! what the world knows beside the cells: statics that nobody writes, words that don't ride in lw_all -/
def CL : List vw_C := [(RX1, TX1, 25), (RX2, TX2, 17), (RX3, TX3, 18), (RX5, TX5, 5), (RX6, TX6, 5), (RX7, TX7, 6), (RX8, TX8, 7), (RJ10, TJ10, 6)]
def tyG (g : Nat → ClassId) : List (ClassId × FieldType) := [(g 0, .int), (g 1, .boolean), (g 2, .object RX2), (g 3, .array .int), (g 4, .array (.array .int)), (g 5, .byte), (g 6, .long)]
def zsT : List (String × String × List Int32) := [(RX1, "LEAST", [5, 5, 5, 1, 0, 0]), (RX1, "MOST", [25, 30, 25, 3, 12, 4]), (RX1, "FEET_X", [800, 800, 500, 200, 200, 500]), (RX1, "FEET_Y", [800, 200, 200, 200, 800, 800]), (RX1, "LESS", [1, 2, 3, 3, 2, 4, 5]), (RX1, "MORE", [0, 5, 4, 2, 1, 5, 0]), (RX3, "LOW", [5, 5, 5, 1, 0, 0]), (RX3, "HIGH", [25, 30, 25, 3, 12, 4]), (RX3, "BEHIND", [0, 5, 4, 2, 1, 5, 0]), (RX3, "AHEAD", [1, 2, 3, 3, 2, 4, 5])]
def zsg (i j : Nat) : Int32 := ((zsT.getD i ("", "", [])).2.2).getD j 0
def zsFN : List (String × Nat × String × String × String × String) := [("SixWhoTurn", 145, "SixWhoTurn$Side", "court", "[I", "SixWhoTurn"), ("SixWhoTurn", 94, "SixWhoTurn$Side", "lineUp", "[I", "SixWhoTurn"), ("SixWhoTurn", 142, "SixWhoTurn$Side", "served", "[I", "SixWhoTurn"), ("SixWhoTurn", 193, "SixWhoTurn$Side", "x", "[I", "SixWhoTurn"), ("SixWhoTurn", 196, "SixWhoTurn$Side", "y", "[I", "SixWhoTurn"), ("SixWhoTurn", 129, "SixWhoTurn$Side", "points", "I", "SixWhoTurn"), ("SixWhoTurn", 122, "SixWhoTurn$Side", "sets", "I", "SixWhoTurn"), ("SixWhoTurn", 158, "SixWhoTurn$Side", "changes", "I", "SixWhoTurn"), ("SixWhoTurn", 176, "SixWhoTurn$Side", "pauses", "I", "SixWhoTurn"), ("SixWhoTurn", 182, "SixWhoTurn$Side", "turns", "I", "SixWhoTurn"), ("SixWhoTurn", 85, "SixWhoTurn$Side", "free", "I", "SixWhoTurn"), ("SixWhoTurn", 155, "SixWhoTurn$Side", "standsFor", "I", "SixWhoTurn"), ("SixWhoTurn", 173, "SixWhoTurn$Side", "freedAt", "I", "SixWhoTurn"), ("SixWhoTurn", 103, "SixWhoTurn$Side", "isTold", "Z", "SixWhoTurn"), ("SixWhoTurn$Side", 72, "SixWhoTurn", "FEET_X", "[I", "SixWhoTurn"), ("SixWhoTurn$Side", 75, "SixWhoTurn", "FEET_Y", "[I", "SixWhoTurn"), ("SixWhoTurn$Side", 82, "SixWhoTurn", "LESS", "[I", "SixWhoTurn"), ("SixWhoTurn$Side", 85, "SixWhoTurn", "MORE", "[I", "SixWhoTurn"), ("SixWhoTurn", 245, "SixWhoTurn$Item", "begin", "I", "SixWhoTurn"), ("SixWhoTurn", 257, "SixWhoTurn$Item", "next", "LSixWhoTurn$Item;", "SixWhoTurn")]
def zsMN : List (String × Nat × MethodName × String) := [("SixWhoTurn", 19, ⟨"SixWhoTurn$Side", "<init>", "()V"⟩, "SixWhoTurn"), ("SixWhoTurn$Rally", 7, ⟨"SixWhoTurn$Item", "<init>", "(LSixWhoTurn;)V"⟩, "SixWhoTurn"), ("SixWhoTurn$Pause", 7, ⟨"SixWhoTurn$Item", "<init>", "(LSixWhoTurn;)V"⟩, "SixWhoTurn"), ("SixWhoTurn$Free", 7, ⟨"SixWhoTurn$Item", "<init>", "(LSixWhoTurn;)V"⟩, "SixWhoTurn"), ("SixWhoTurn$Change", 7, ⟨"SixWhoTurn$Item", "<init>", "(LSixWhoTurn;)V"⟩, "SixWhoTurn")]
def yItemDone : MethodName := ⟨"SixWhoTurn$Item", "isDone", "()Z"⟩
def zsWho : List Int32 := [48, 49, 50, 51, 52, 53, 54, 55, 56, 57, 120, 121]
/-- the array class over an array class, as the tables have it -/
def va_AA (t : FieldType) (U : State) : Prop := (Cond.arrayOver (.array t)).before #[] U = true
theorem va_AA.use {t : FieldType} {A : Array Value} {U : State} (h : va_AA t U) : (Cond.arrayOver (.array t)).before A U = true := h
theorem va_AA.of {t : FieldType} {A : Array Value} {U : State} (h : (Cond.arrayOver (.array t)).before A U = true) : va_AA t U := h
theorem va_AA.moved {t : FieldType} {u U : State} (hvm : u.vm.Alike U.vm) (h : va_AA t u) : va_AA t U := by
  obtain ⟨comp, c, k, h1, h2, h3, h4, h5⟩ := arrayOverA_spec h
  obtain ⟨k', hk', he⟩ := hvm.2.2 _ _ h3
  have hi : (U.vm.classes.findIdx? fun (x : Class) => match x.kind with | .array component _ => component == comp | _ => false) = some c := by
    rw [hvm.findIdx?_eq _ (fun _ => rfl)]
    exact h2
  have hkind : k'.kind = .array comp (.array t) := by rw [he]; exact h4
  have f1 : U.vm.findClass (FieldType.array t).toString = some comp := by rw [hvm.findClass]; exact h1
  have f2 : U.vm.findClass ("[" ++ (FieldType.array t).toString) = some c := by rw [hvm.findClass]; exact h5
  unfold va_AA Cond.before Cond.holds
  simp only [Cond.value]
  rw [f1, Option.bind_some]
  refine (congrArg (fun o : Option Nat => (o.bind (fun c => (U.vm.classes[c]?).map fun (k : Class) => match k.kind with | .array _ ty => decide (ty = FieldType.array t) && decide (U.vm.findClass ("[" ++ (FieldType.array t).toString) = some c) | _ => false) == some true)) hi).trans ?_
  simp [hk', hkind, f2]
def zsW (U : State) : Prop := (∀ w ∈ zsFN, va_Nw (.fieldLinkNest w.1 w.2.1 w.2.2.1 w.2.2.2.1 w.2.2.2.2.1 w.2.2.2.2.2) U) ∧ (∀ w ∈ zsMN, va_Nw (.methodLinkNest w.1 w.2.1 w.2.2.1 w.2.2.2) U) ∧ va_AO RX2 U ∧ va_Nw (.declares yItemDone) U ∧ va_AA (.array .int) U ∧ va_AA .int U
def zsH (A : Nat → Prop) (U : State) (H : Heap) : Prop :=
  (∀ i, i < 10 → ∃ t, va_Z (zsT.getD i ("", "", [])).1 (zsT.getD i ("", "", [])).2.1 "[I" (.ref t) A U H ∧ va_T .int t (zsT.getD i ("", "", [])).2.2.length (fun j => .int (zsg i j)) A U H) ∧
  va_Z "java/lang/String" "COMPACT_STRINGS" "Z" (.int 1) A U H ∧
  va_Zq "java/lang/Throwable" "UNASSIGNED_STACK" "[Ljava/lang/StackTraceElement;" A U H ∧ va_Zq "java/lang/Throwable" "SUPPRESSED_SENTINEL" "Ljava/util/List;" A U H
/-- the text of signs: its object at g 7, its bytes at g 8 -/
def zsK (g : Nat → ClassId) (A : Nat → Prop) (U : State) (H : Heap) : Prop := vk_R RX1 209 "0123456789xy" (g 7) U ∧ vk_S 1 [12] [zsWho] (fun _ => g 7) (fun _ => g 8) A U H
def zsA (g : Nat → ClassId) (A : Nat → Prop) (U : State) (H : Heap) : Prop := zsW U ∧ zsH A U H ∧ zsK g A U H
theorem zsW.warm {s U : State} (hW : s.WarmedH U.vm) (h : zsW s) : zsW U :=
  ⟨fun w hw => va_Nw.warmF hW (h.1 w hw), fun w hw => va_Nw.warmM hW (h.2.1 w hw), va_AO.moved hW.alike h.2.2.1, va_Nw.warmD hW h.2.2.2.1, va_AA.moved hW.alike h.2.2.2.2.1, va_AA.moved hW.alike h.2.2.2.2.2⟩
theorem zsH.moved {A : Nat → Prop} {u U : State} {H : Heap} (hvm : u.vm.Alike U.vm) (h : zsH A u H) : zsH A U H :=
  ⟨fun i hi => by obtain ⟨t, h1, h2⟩ := h.1 i hi; exact ⟨t, va_Z.moved hvm h1, va_T.moved hvm h2⟩, va_Z.moved hvm h.2.1, va_Zq.moved hvm h.2.2.1, va_Zq.moved hvm h.2.2.2⟩
theorem zsH.kept {A : Nat → Prop} {U : State} {H H1 : Heap} (h : zsH A U H) (hq : ∀ a : Nat, a < H.size → ¬ A a → H1[a]? = H[a]?) : zsH A U H1 :=
  ⟨fun i hi => by obtain ⟨t, h1, h2⟩ := h.1 i hi; exact ⟨t, h1.kept hq, h2.kept hq⟩, h.2.1.kept hq, h.2.2.1.kept hq, h.2.2.2.kept hq⟩
theorem zsH.narrow {A B : Nat → Prop} {U : State} {H : Heap} (h : zsH A U H) (hAB : ∀ q, B q → A q) : zsH B U H :=
  ⟨fun i hi => by obtain ⟨t, h1, h2⟩ := h.1 i hi; exact ⟨t, h1.narrow hAB, h2.narrow hAB⟩, h.2.1.narrow hAB, h.2.2.1.narrow hAB, h.2.2.2.narrow hAB⟩
theorem zsA.call {g : Nat → ClassId} {A B : Nat → Prop} {s U : State} {H0 H : Heap} {locs : List Loc} (hW : s.WarmedH U.vm) (h : zsA g A s H0) (hS : va_S A H0 H locs) (hAB : ∀ q, B q → A q) : zsA g B U H := by
  obtain ⟨h1, h2, h3, h4⟩ := h
  refine ⟨h1.warm hW, ((h2.moved hW.alike).kept hS.2.1).narrow hAB, vk_R.warm hW h3, ((vk_S.moved hW.alike h4).kept hS.2.1).narrow hAB⟩
/-! the fixed facts of a method's run, and the world as it stands -/
def w6_F (p : Program) (s : State) (m : MethodId) (args : Array Value) (c : Code) (cc : ByteArray) (nL : Nat) (own : String) (D : va_G) (g : Nat → ClassId) (A : Nat → Prop) : Prop :=
  CallFix p m c cc nL s args lw_all own ∧ va_K D CL (tyG g) s ∧ zsA g A s s.heap ∧ ∀ q : Nat, s.heap.size ≤ q → A q
def w6_I (D : va_G) (ws : va_W) (A : Nat → Prop) (s : State) (H : Heap) (locs : List Loc) : Prop := va_P D CL ws H ∧ va_D A ws ∧ va_S A s.heap H locs
def w6_Pc (D : va_G) (g : Nat → ClassId) (av : List Value) (w : va_W) (sz : Nat) : Array Value → State → Prop :=
  va_Pc av (fun U => U.heap.size = sz ∧ va_P D CL w U.heap ∧ va_K D CL (tyG g) U ∧ va_D (fun _ => True) w ∧ zsA g (va_A w sz) U U.heap)
def w6_B (D : va_G) (g : Nat → ClassId) (w w' : va_W) (sz : Nat) (t : State) : Prop := va_P D CL w' t.heap ∧ va_K D CL (tyG g) t ∧ va_D (va_A w sz) w'
def w6_Qi (D : va_G) (g : Nat → ClassId) (w w' : va_W) (sz : Nat) (r : Int32) : Array Value → State → Outcome → State → Prop :=
  va_Qi (fun (x : Int32) (_ : Unit) => x = r) (fun _ t => w6_B D g w w' sz t) (va_A w sz)
def w6_Ql (D : va_G) (g : Nat → ClassId) (w w' : va_W) (sz : Nat) (r : Int64) : Array Value → State → Outcome → State → Prop :=
  va_Ql (fun (x : Int64) (_ : Unit) => x = r) (fun _ t => w6_B D g w w' sz t) (va_A w sz)
def w6_Qv (D : va_G) (g : Nat → ClassId) (w w' : va_W) (sz : Nat) : Array Value → State → Outcome → State → Prop :=
  va_Qv (fun (_ : Unit) => True) (fun _ t => w6_B D g w w' sz t) (va_A w sz)
/-- contracts: from world w to world w', answer r -/
def CTi (l : Launch) (D : va_G) (g : Nat → ClassId) (y : MethodName) (cc : ByteArray) (nL : Nat) (rt : FieldType) (rm : Room) (av : List Value) (w w' : va_W) (r : Int32) : Prop :=
  ∀ sz, Met l y (ws_ y cc nL (some rt)) rm (w6_Pc D g av w sz) (w6_Qi D g w w' sz r) rm.cells rm.slots (va_A w sz)
def CTl (l : Launch) (D : va_G) (g : Nat → ClassId) (y : MethodName) (cc : ByteArray) (nL : Nat) (rm : Room) (av : List Value) (w w' : va_W) (r : Int64) : Prop :=
  ∀ sz, Met l y (ws_ y cc nL (some .long)) rm (w6_Pc D g av w sz) (w6_Ql D g w w' sz r) rm.cells rm.slots (va_A w sz)
def CTv (l : Launch) (D : va_G) (g : Nat → ClassId) (y : MethodName) (cc : ByteArray) (nL : Nat) (rm : Room) (av : List Value) (w w' : va_W) : Prop :=
  ∀ sz, Met l y (ws_ y cc nL none) rm (w6_Pc D g av w sz) (w6_Qv D g w w' sz) rm.cells rm.slots (va_A w sz)
theorem w6_Pc_blind {D : va_G} {g : Nat → ClassId} {av : List Value} {w : va_W} {sz : Nat} : FrameBlind (w6_Pc D g av w sz) := fun a U f mk q => by
  obtain ⟨q0, q1, qP, qK, qD, qZ⟩ := q
  refine ⟨q0, q1, qP, va_K.moved (u := U) (U := U.calling f mk a) (Vm.Alike.refl U.vm) qK, qD, ?_⟩
  obtain ⟨⟨z1, z2, z3, z4, z8, z9⟩, z5, z6, z7⟩ := qZ
  exact ⟨⟨fun w hw => va_Nw.same rfl rfl (z1 w hw), fun w hw => va_Nw.same rfl rfl (z2 w hw), va_AO.moved (u := U) (U := U.calling f mk a) (Vm.Alike.refl U.vm) z3, va_Nw.same rfl rfl z4, va_AA.moved (u := U) (U := U.calling f mk a) (Vm.Alike.refl U.vm) z8, va_AA.moved (u := U) (U := U.calling f mk a) (Vm.Alike.refl U.vm) z9⟩, zsH.moved (u := U) (U := U.calling f mk a) (Vm.Alike.refl U.vm) z5, vk_R.same (u := U) (U := U.calling f mk a) rfl z6, vk_S.moved (u := U) (U := U.calling f mk a) (Vm.Alike.refl U.vm) z7⟩
section W6R
variable {p : Program} {l : Launch} {e : Env} {R : Room} {s : State} {m : MethodId} {args : Array Value} {below : List Frame} {meth : Method} {c : Code} {H : Heap} {locs : List Loc} {cells slots : Nat} {Q : State → Prop}
variable {cc : ByteArray} {nL pc : Nat} {ls : Array Slot} {rest : List Value} {D : va_G} {g : Nat → ClassId} {A : Nat → Prop} {own : String} {ad : Nat → Nat} {V V' : Mm} {wr : va_W} {sh : w6_Sh} {N : Nat}
theorem w6_free {w : va_W} (F : w6_F p s m args c cc nL own D g A) (I : w6_I D (w ++ wr) A s H locs) : ∀ q, va_A w H.size q → A q := by
  intro q h
  rcases h with ⟨k, e, h⟩ | h
  · exact I.2.1.2 k (q, e) (by rw [List.getElem?_append_left (List.getElem?_eq_some_iff.mp h).1]; exact h)
  · exact F.2.2.2 q (Nat.le_trans I.2.2.1 h)
theorem w6_Dl {w : va_W} {A : Nat → Prop} (h : va_D A (w ++ wr)) : va_D A w :=
  ⟨fun i j x y hi hj hxy => h.1 i j x y (by rw [List.getElem?_append_left (List.getElem?_eq_some_iff.mp hi).1]; exact hi) (by rw [List.getElem?_append_left (List.getElem?_eq_some_iff.mp hj).1]; exact hj) hxy,
   fun k q hk => h.2 k q (by rw [List.getElem?_append_left (List.getElem?_eq_some_iff.mp hk).1]; exact hk)⟩
theorem w6_Dr {w : va_W} {A : Nat → Prop} (h : va_D A (w ++ wr)) : va_D A wr := by
  have key : ∀ (k : Nat) (q : Nat × va_E), wr[k]? = some q → (w ++ wr)[w.length + k]? = some q := fun k q hk => by
    rw [List.getElem?_append_right (by omega), Nat.add_sub_cancel_left]
    exact hk
  exact ⟨fun i j x y hi hj hxy => by have := h.1 _ _ x y (key i x hi) (key j y hj) hxy; omega, fun k q hk => h.2 _ q (key k q hk)⟩
theorem w6_Pl {w : va_W} (h : va_P D CL (w ++ wr) H) : va_P D CL w H := fun k q hk => h k q (by rw [List.getElem?_append_left (List.getElem?_eq_some_iff.mp hk).1]; exact hk)
theorem w6_Pr {w : va_W} (h : va_P D CL (w ++ wr) H) : va_P D CL wr H := fun k q hk => h (w.length + k) q (by rw [List.getElem?_append_right (by omega), Nat.add_sub_cancel_left]; exact hk)
/-- behind a call: the callee's world, and the rest as it was -/
theorem w6_join {w w' : va_W} {H1 : Heap} {locs1 : List Loc} (F : w6_F p s m args c cc nL own D g A) (I : w6_I D (w ++ wr) A s H locs) (hk : ∀ q : Nat, q < H.size → ¬ va_A w H.size q → H1[q]? = H[q]?) (hP1 : va_P D CL w' H1) (hD1 : va_D (va_A w H.size) w') (hS1 : va_S A s.heap H1 locs1) : w6_I D (w' ++ wr) A s H1 locs1 := by
  have hF := w6_free F I
  have apart : ∀ (k : Nat) (q : Nat × va_E), wr[k]? = some q → q.1 < H.size ∧ ¬ va_A w H.size q.1 := by
    intro k q hq
    have hq2 : (w ++ wr)[w.length + k]? = some q := by rw [List.getElem?_append_right (by omega), Nat.add_sub_cancel_left]; exact hq
    have hl := (I.1 _ q hq2).lt
    refine ⟨hl, fun h => ?_⟩
    rcases h with ⟨k2, e, h⟩ | h
    · have h3 : (w ++ wr)[k2]? = some (q.1, e) := by rw [List.getElem?_append_left (List.getElem?_eq_some_iff.mp h).1]; exact h
      have hij := I.2.1.1 _ _ q (q.1, e) hq2 h3 rfl
      have := (List.getElem?_eq_some_iff.mp h).1
      omega
    · omega
  refine ⟨va_P.app hP1 (fun k q hq => ?_), va_D.app (hD1.weaken (fun k q _ h => hF q.1 h)) (w6_Dr I.2.1) (fun i j x y hx hy hxy => ?_), hS1⟩
  · obtain ⟨g1, g2⟩ := apart k q hq
    exact (w6_Pr I.1 k q hq).kept (hk q.1 g1 g2)
  · exact (apart j y hy).2 (by rw [← hxy]; exact hD1.2 i x hx)
theorem w6_I.drop {w : va_W} (I : w6_I D (w ++ wr) A s H locs) : w6_I D (w ++ []) A s H locs := by
  rw [List.append_nil]
  exact ⟨w6_Pl I.1, w6_Dl I.2.1, I.2.2⟩
theorem w6_pre {w : va_W} {av : List Value} (F : w6_F p s m args c cc nL own D g A) (I : w6_I D (w ++ wr) A s H locs) (U : State) (hU : U.heap = H) (hW : s.WarmedH U.vm) : w6_Pc D g av w H.size av.toArray U :=
  ⟨rfl, by rw [hU], by rw [hU]; exact w6_Pl I.1, va_K.moved hW.alike F.2.1, (w6_Dl I.2.1).weaken (fun _ _ _ _ => trivial), by rw [hU]; exact zsA.call hW F.2.2.1 I.2.2 (w6_free F I)⟩
/-! calls -/
theorem w6_calli {w w' : va_W} {mc ms : Nat} {st0 : List Value} {av : List Value} {r : Int32} (F : w6_F p s m args c cc nL own D g A) (I : w6_I D (w ++ wr) A s H locs) (hr : va_Run p l e R s m args below meth c H locs cells slots mc ms (F0 m pc ls st0) rest (w6_Qi D g w w' H.size r av.toArray) (va_A w H.size))
    (kk : ∀ (H1 : Heap) (locs1 : List Loc), w6_I D (w' ++ wr) A s H1 locs1 → W p l e R s m args below meth c H1 locs1 (cells + mc) (slots + ms) Q (F0 m (pc + 3) ls (.int r :: rest))) : W p l e R s m args below meth c H locs cells slots Q (F0 m pc ls st0) := by
  refine va_calli hr I.2.2 (fun q _ h => w6_free F I q h) (w6_free F I) (fun r1 u t H1 locs1 ht hvm hw hB hz hk hS => ?_)
  have hw : r1 = r := hw
  subst hw
  obtain ⟨hP1, hK1, hD1⟩ := hB
  rw [ht] at hP1
  exact kk H1 locs1 (w6_join F I hk hP1 hD1 hS)
theorem w6_calll {w w' : va_W} {mc ms : Nat} {st0 : List Value} {av : List Value} {r : Int64} (F : w6_F p s m args c cc nL own D g A) (I : w6_I D (w ++ wr) A s H locs) (hr : va_Run p l e R s m args below meth c H locs cells slots mc ms (F0 m pc ls st0) rest (w6_Ql D g w w' H.size r av.toArray) (va_A w H.size))
    (kk : ∀ (H1 : Heap) (locs1 : List Loc), w6_I D (w' ++ wr) A s H1 locs1 → W p l e R s m args below meth c H1 locs1 (cells + mc) (slots + ms) Q (F0 m (pc + 3) ls (.long r :: rest))) : W p l e R s m args below meth c H locs cells slots Q (F0 m pc ls st0) := by
  refine va_calll hr I.2.2 (fun q _ h => w6_free F I q h) (w6_free F I) (fun r1 u t H1 locs1 ht hvm hw hB hz hk hS => ?_)
  have hw : r1 = r := hw
  subst hw
  obtain ⟨hP1, hK1, hD1⟩ := hB
  rw [ht] at hP1
  exact kk H1 locs1 (w6_join F I hk hP1 hD1 hS)
theorem w6_callv {w w' : va_W} {mc ms : Nat} {st0 : List Value} {av : List Value} (F : w6_F p s m args c cc nL own D g A) (I : w6_I D (w ++ wr) A s H locs) (hr : va_Run p l e R s m args below meth c H locs cells slots mc ms (F0 m pc ls st0) rest (w6_Qv D g w w' H.size av.toArray) (va_A w H.size))
    (kk : ∀ (H1 : Heap) (locs1 : List Loc), w6_I D (w' ++ wr) A s H1 locs1 → W p l e R s m args below meth c H1 locs1 (cells + mc) (slots + ms) Q (F0 m (pc + 3) ls rest)) : W p l e R s m args below meth c H locs cells slots Q (F0 m pc ls st0) := by
  refine va_callv hr I.2.2 (fun q _ h => w6_free F I q h) (w6_free F I) (fun u t H1 locs1 ht hvm hw hB hz hk hS => ?_)
  obtain ⟨hP1, hK1, hD1⟩ := hB
  rw [ht] at hP1
  exact kk H1 locs1 (w6_join F I hk hP1 hD1 hS)
/-- the receiver: an object of class ci at cell k -/
theorem w6_recv {k ci : Nat} {q : vw_C} {fs : (Nat → Nat) → (Nat → Int32) → List Value} (F : w6_F p s m args c cc nL own D g A) (I : w6_I D (w6_w sh N g ad V ++ wr) A s H locs) (hO : w6_Ob sh N k ci fs) (hc : CL[ci]? = some q) : ∃ cell : Cell, H[ad k]? = some cell ∧ cell.vm.isStatics = false ∧ s.vm.findClass q.1 = some cell.cls :=
  va_recv F.2.1 I.1 hc ((w6_fl_at hO.1).trans (by rw [hO.2]))
theorem xc_Vi {C : String} {index b nL' : Nat} {y : MethodName} {cc' : ByteArray} {rt : FieldType} {rm : Room} {As : List Value} {w w' : va_W} {r : Int32} {st0 : List Value}
    (F : w6_F p s m args c cc nL own D g A) (I : w6_I D (w ++ wr) A s H locs) (hM : CTi l D g y cc' nL' rt rm (.ref b :: As) w w' r) (n : Nat) (hG : GoodIn lw_all (wsV own index C y (ws_ y cc' nL' (some rt))))
    (hd : y.cls = C ∧ y.cls ≠ "java/lang/invoke/MethodHandle" ∧ y.cls ≠ "java/lang/invoke/VarHandle" ∧ (parseMethodDescriptor y.desc).map (fun d => d.parameters.length) = some n) (hR : rm.frames + 1 ≤ R.frames ∧ 8 + (nL' + 11) + rm.locals ≤ R.locals)
    (hrec : ∃ cell : Cell, H[b]? = some cell ∧ cell.vm.isStatics = false ∧ s.vm.findClass C = some cell.cls) (hn : As.length = n) (hl : ls.size = nL) (rest : List Value) (hst : st0 = As.reverse ++ .ref b :: rest) (hW : (rest.map fun v => v.category).sum ≤ 8) (hdg : decode cc pc = .ok (.invokevirtual index, 3)) (hf : cells + rm.cells ≤ R.cells ∧ slots + rm.slots ≤ R.slots)
    (kk : ∀ (H1 : Heap) (locs1 : List Loc), w6_I D (w' ++ wr) A s H1 locs1 → W p l e R s m args below meth c H1 locs1 (cells + rm.cells) (slots + rm.slots) Q (F0 m (pc + 3) ls (.int r :: rest))) : W p l e R s m args below meth c H locs cells slots Q (F0 m pc ls st0) :=
  w6_calli F I (va_runV (As := As) (rest := rest) F.1 (hM H.size) (cwV n F.1.2.2.2.2 hG rfl rfl rfl hd hR) ⟨w6_Pc_blind, hrec, fun U hU hW => w6_pre F I U hU hW⟩ rfl hn hl hst (lv_room hW) hdg hf) kk
theorem xc_Vv {C : String} {index b nL' : Nat} {y : MethodName} {cc' : ByteArray} {rm : Room} {As : List Value} {w w' : va_W} {st0 : List Value}
    (F : w6_F p s m args c cc nL own D g A) (I : w6_I D (w ++ wr) A s H locs) (hM : CTv l D g y cc' nL' rm (.ref b :: As) w w') (n : Nat) (hG : GoodIn lw_all (wsV own index C y (ws_ y cc' nL' none)))
    (hd : y.cls = C ∧ y.cls ≠ "java/lang/invoke/MethodHandle" ∧ y.cls ≠ "java/lang/invoke/VarHandle" ∧ (parseMethodDescriptor y.desc).map (fun d => d.parameters.length) = some n) (hR : rm.frames + 1 ≤ R.frames ∧ 8 + (nL' + 11) + rm.locals ≤ R.locals)
    (hrec : ∃ cell : Cell, H[b]? = some cell ∧ cell.vm.isStatics = false ∧ s.vm.findClass C = some cell.cls) (hn : As.length = n) (hl : ls.size = nL) (rest : List Value) (hst : st0 = As.reverse ++ .ref b :: rest) (hW : (rest.map fun v => v.category).sum ≤ 8) (hdg : decode cc pc = .ok (.invokevirtual index, 3)) (hf : cells + rm.cells ≤ R.cells ∧ slots + rm.slots ≤ R.slots)
    (kk : ∀ (H1 : Heap) (locs1 : List Loc), w6_I D (w' ++ wr) A s H1 locs1 → W p l e R s m args below meth c H1 locs1 (cells + rm.cells) (slots + rm.slots) Q (F0 m (pc + 3) ls rest)) : W p l e R s m args below meth c H locs cells slots Q (F0 m pc ls st0) :=
  w6_callv F I (va_runV (As := As) (rest := rest) F.1 (hM H.size) (cwV n F.1.2.2.2.2 hG rfl rfl rfl hd hR) ⟨w6_Pc_blind, hrec, fun U hU hW => w6_pre F I U hU hW⟩ rfl hn hl hst (lv_room hW) hdg hf) kk
theorem xc_Si {index nL' : Nat} {y : MethodName} {cc' : ByteArray} {rt : FieldType} {rm : Room} {As : List Value} {w w' : va_W} {r : Int32} {st0 : List Value}
    (F : w6_F p s m args c cc nL own D g A) (I : w6_I D (w ++ wr) A s H locs) (hM : CTi l D g y cc' nL' rt rm As w w' r) (n : Nat) (hG : GoodIn lw_all (va_wsS own index y (ws_ y cc' nL' (some rt))))
    (hd : y.cls ≠ "java/lang/invoke/MethodHandle" ∧ y.cls ≠ "java/lang/invoke/VarHandle" ∧ (parseMethodDescriptor y.desc).map (fun d => d.parameters.length) = some n) (hR : rm.frames + 1 ≤ R.frames ∧ 8 + (nL' + 11) + rm.locals ≤ R.locals)
    (hn : As.length = n) (hl : ls.size = nL) (rest : List Value) (hst : st0 = As.reverse ++ rest) (hW : (rest.map fun v => v.category).sum ≤ 8) (hdg : decode cc pc = .ok (.invokestatic index, 3)) (hf : cells + rm.cells ≤ R.cells ∧ slots + rm.slots ≤ R.slots)
    (kk : ∀ (H1 : Heap) (locs1 : List Loc), w6_I D (w' ++ wr) A s H1 locs1 → W p l e R s m args below meth c H1 locs1 (cells + rm.cells) (slots + rm.slots) Q (F0 m (pc + 3) ls (.int r :: rest))) : W p l e R s m args below meth c H locs cells slots Q (F0 m pc ls st0) :=
  w6_calli F I (va_runS (As := As) (rest := rest) F.1 (hM H.size) (va_cwS n F.1.2.2.2.2 hG rfl rfl rfl hd hR) ⟨w6_Pc_blind, fun U hU hW => w6_pre F I U hU hW⟩ rfl hn hl hst (lv_room hW) hdg hf) kk
theorem xc_Sl {index nL' : Nat} {y : MethodName} {cc' : ByteArray} {rm : Room} {As : List Value} {w w' : va_W} {r : Int64} {st0 : List Value}
    (F : w6_F p s m args c cc nL own D g A) (I : w6_I D (w ++ wr) A s H locs) (hM : CTl l D g y cc' nL' rm As w w' r) (n : Nat) (hG : GoodIn lw_all (va_wsS own index y (ws_ y cc' nL' (some .long))))
    (hd : y.cls ≠ "java/lang/invoke/MethodHandle" ∧ y.cls ≠ "java/lang/invoke/VarHandle" ∧ (parseMethodDescriptor y.desc).map (fun d => d.parameters.length) = some n) (hR : rm.frames + 1 ≤ R.frames ∧ 8 + (nL' + 11) + rm.locals ≤ R.locals)
    (hn : As.length = n) (hl : ls.size = nL) (rest : List Value) (hst : st0 = As.reverse ++ rest) (hW : (rest.map fun v => v.category).sum ≤ 8) (hdg : decode cc pc = .ok (.invokestatic index, 3)) (hf : cells + rm.cells ≤ R.cells ∧ slots + rm.slots ≤ R.slots)
    (kk : ∀ (H1 : Heap) (locs1 : List Loc), w6_I D (w' ++ wr) A s H1 locs1 → W p l e R s m args below meth c H1 locs1 (cells + rm.cells) (slots + rm.slots) Q (F0 m (pc + 3) ls (.long r :: rest))) : W p l e R s m args below meth c H locs cells slots Q (F0 m pc ls st0) :=
  w6_calll F I (va_runS (As := As) (rest := rest) F.1 (hM H.size) (va_cwS n F.1.2.2.2.2 hG rfl rfl rfl hd hR) ⟨w6_Pc_blind, fun U hU hW => w6_pre F I U hU hW⟩ rfl hn hl hst (lv_room hW) hdg hf) kk
/-! fields -/
theorem w6_setI {k : Nat} {e : va_E} {H1 : Heap} {locs1 : List Loc} (hk : k < N) (he : sh g ad V' k = e) (ho : ∀ j, j < N → j ≠ k → sh g ad V' j = sh g ad V j) (hP : va_P D CL ((w6_w sh N g ad V ++ wr).set k (ad k, e)) H1) (hD : va_D A ((w6_w sh N g ad V ++ wr).set k (ad k, e))) (hS : va_S A s.heap H1 locs1) : w6_I D (w6_w sh N g ad V' ++ wr) A s H1 locs1 := by
  have h := w6_fl_set (n := N) (ad := ad) (E := sh g ad V) (E' := sh g ad V') (wr := wr) hk he ho
  unfold w6_w at hP hD ⊢
  rw [h] at hP hD
  exact ⟨hP, hD, hS⟩
theorem w6_get {C : String} {T : u_T} {n ci k : Nat} {fs : (Nat → Nat) → (Nat → Int32) → List Value} {index : Nat} {v : Value} (F : w6_F p s m args c cc nL own D g A) (I : w6_I D (w6_w sh N g ad V ++ wr) A s H locs) (hO : w6_Ob sh N k ci fs) (hc : CL[ci]? = some (C, T, n)) (hin : ∀ w ∈ u_ws C T n, w ∈ lw_all) (j : Nat) (hj : j < n) (hq : Cond.fieldLink own index C (T j).2.1 (T j).2.2.1 ∈ lw_all) (hC : (T j).1 = C) (hv : (fs ad (V.1 k))[j]? = some v) (hdg : decode cc pc = .ok (.getfield index, 3))
    (kk : W p l e R s m args below meth c H locs cells slots Q (F0 m (pc + 3) ls (v :: rest))) : W p l e R s m args below meth c H locs cells slots Q (F0 m pc ls (.ref (ad k) :: rest)) :=
  va_get F.1.1 F.1.2.1 F.1.2.2.2.2 hin F.1.2.2.2.1 F.2.1 I.1 k ((w6_fl_at hO.1).trans (by rw [hO.2])) hc j hj (F.1.2.2.2.2 _ hq) (fun _ h => by rw [hC] at h; exact h) hv hdg kk
theorem w6_getN {C host : String} {T : u_T} {n ci k : Nat} {fs : (Nat → Nat) → (Nat → Int32) → List Value} {index : Nat} {v : Value} (F : w6_F p s m args c cc nL own D g A) (I : w6_I D (w6_w sh N g ad V ++ wr) A s H locs) (hO : w6_Ob sh N k ci fs) (hc : CL[ci]? = some (C, T, n)) (hin : ∀ w ∈ u_ws C T n, w ∈ lw_all) (j : Nat) (hj : j < n) (hq : (own, index, C, (T j).2.1, (T j).2.2.1, host) ∈ zsFN) (hC : (T j).1 = C) (hv : (fs ad (V.1 k))[j]? = some v) (hdg : decode cc pc = .ok (.getfield index, 3))
    (kk : W p l e R s m args below meth c H locs cells slots Q (F0 m (pc + 3) ls (v :: rest))) : W p l e R s m args below meth c H locs cells slots Q (F0 m pc ls (.ref (ad k) :: rest)) :=
  va_getN F.1.1 F.1.2.1 F.1.2.2.2.2 hin F.1.2.2.2.1 F.2.1 I.1 k ((w6_fl_at hO.1).trans (by rw [hO.2])) hc j hj (va_Nw.use rfl (F.2.2.1.1.1 _ hq)) (fun _ h => by rw [hC] at h; exact h) hv hdg kk
theorem w6_ob_set {ci k j : Nat} {fs : (Nat → Nat) → (Nat → Int32) → List Value} {v : Int32} {H1 : Heap} {locs1 : List Loc} (hL : w6_Lc sh) (hO : w6_Ob sh N k ci fs) (hnf : w6_Nf fs j) (eV : V' = mset V k j v) (hP : va_P D CL ((w6_w sh N g ad V ++ wr).set k (ad k, .inr (ci, (fs ad (V.1 k)).set j (.int v)))) H1) (hD : va_D A ((w6_w sh N g ad V ++ wr).set k (ad k, .inr (ci, (fs ad (V.1 k)).set j (.int v))))) (hS : va_S A s.heap H1 locs1) : w6_I D (w6_w sh N g ad V' ++ wr) A s H1 locs1 := by
  subst eV
  refine w6_setI hO.1 ?_ (fun i _ hik => hL g ad _ _ i (mset_ne V j v hik) rfl) hP hD hS
  rw [hO.2, mset_row, (hnf ad (V.1 k) v).2]
theorem w6_put {C : String} {T : u_T} {n ci k : Nat} {fs : (Nat → Nat) → (Nat → Int32) → List Value} {index : Nat} {v : Int32} {ty : FieldType} (hL : w6_Lc sh) (F : w6_F p s m args c cc nL own D g A) (I : w6_I D (w6_w sh N g ad V ++ wr) A s H locs) (hO : w6_Ob sh N k ci fs) (hc : CL[ci]? = some (C, T, n)) (hin : ∀ w ∈ u_ws C T n, w ∈ lw_all) (ty0 : Nat → FieldType) (hty : ∀ k, k < n → parseFieldDescriptor (T k).2.2.1 = some (ty0 k)) (hnm : ∀ a, a < n → ∀ b, b < n → a ≠ b → (T a).2.1 ≠ (T b).2.1) (j : Nat) (hj : j < n) (hnf : w6_Nf fs j) (hq : Cond.fieldLink own index C (T j).2.1 (T j).2.2.1 ∈ lw_all) (hC : (T j).1 = C) (hfin : (T j).2.2.2 = false) (hd : parseFieldDescriptor (T j).2.2.1 = some ty) (hn : narrow ty (.int v) = .int v) (hfit : fits ty (.int v) = true) (hdg : decode cc pc = .ok (.putfield index, 3)) (eV : V' = mset V k j v)
    (kk : ∀ (H1 : Heap) (locs1 : List Loc), w6_I D (w6_w sh N g ad V' ++ wr) A s H1 locs1 → W p l e R s m args below meth c H1 locs1 cells slots Q (F0 m (pc + 3) ls rest)) : W p l e R s m args below meth c H locs cells slots Q (F0 m pc ls (.int v :: .ref (ad k) :: rest)) :=
  va_put F.1.1 F.1.2.1 F.1.2.2.2.2 hin ty0 hty hnm F.1.2.2.2.1 F.2.1 I.1 I.2.1 I.2.2 k ((w6_fl_at hO.1).trans (by rw [hO.2])) hc j hj (F.1.2.2.2.2 _ hq) (fun _ h => by rw [hC] at h; exact h) hfin hd hn hfit (hnf ad (V.1 k) v).1 hdg (fun H1 locs1 hP hD hS => kk H1 locs1 (w6_ob_set hL hO hnf eV hP hD hS))
theorem w6_putN {C host : String} {T : u_T} {n ci k : Nat} {fs : (Nat → Nat) → (Nat → Int32) → List Value} {index : Nat} {v : Int32} {ty : FieldType} (hL : w6_Lc sh) (F : w6_F p s m args c cc nL own D g A) (I : w6_I D (w6_w sh N g ad V ++ wr) A s H locs) (hO : w6_Ob sh N k ci fs) (hc : CL[ci]? = some (C, T, n)) (hin : ∀ w ∈ u_ws C T n, w ∈ lw_all) (ty0 : Nat → FieldType) (hty : ∀ k, k < n → parseFieldDescriptor (T k).2.2.1 = some (ty0 k)) (hnm : ∀ a, a < n → ∀ b, b < n → a ≠ b → (T a).2.1 ≠ (T b).2.1) (j : Nat) (hj : j < n) (hnf : w6_Nf fs j) (hq : (own, index, C, (T j).2.1, (T j).2.2.1, host) ∈ zsFN) (hC : (T j).1 = C) (hfin : (T j).2.2.2 = false) (hd : parseFieldDescriptor (T j).2.2.1 = some ty) (hn : narrow ty (.int v) = .int v) (hfit : fits ty (.int v) = true) (hdg : decode cc pc = .ok (.putfield index, 3)) (eV : V' = mset V k j v)
    (kk : ∀ (H1 : Heap) (locs1 : List Loc), w6_I D (w6_w sh N g ad V' ++ wr) A s H1 locs1 → W p l e R s m args below meth c H1 locs1 cells slots Q (F0 m (pc + 3) ls rest)) : W p l e R s m args below meth c H locs cells slots Q (F0 m pc ls (.int v :: .ref (ad k) :: rest)) :=
  va_putN F.1.1 F.1.2.1 F.1.2.2.2.2 hin ty0 hty hnm F.1.2.2.2.1 F.2.1 I.1 I.2.1 I.2.2 k ((w6_fl_at hO.1).trans (by rw [hO.2])) hc j hj (va_Nw.use rfl (F.2.2.1.1.1 _ hq)) (fun _ h => by rw [hC] at h; exact h) hfin hd hn hfit (hnf ad (V.1 k) v).1 hdg (fun H1 locs1 hP hD hS => kk H1 locs1 (w6_ob_set hL hO hnf eV hP hD hS))
/-! arrays -/
theorem w6_iald {k n j : Nat} {i : Int32} (F : w6_F p s m args c cc nL own D g A) (I : w6_I D (w6_w sh N g ad V ++ wr) A s H locs) (hX : w6_Ar sh N k 0 n) (hin : vp_in i n) (ej : i.toNatClampNeg = j) (hdg : decode cc pc = .ok (.iaload, 1))
    (kk : W p l e R s m args below meth c H locs cells slots Q (F0 m (pc + 1) ls (.int (V.1 k j) :: rest))) : W p l e R s m args below meth c H locs cells slots Q (F0 m pc ls (.int i :: .ref (ad k) :: rest)) := by
  subst ej
  exact va_iald F.1.1 F.1.2.1 F.2.1 I.1 k 0 ((w6_fl_at hX.1).trans (by rw [hX.2])) rfl hin hdg kk
theorem w6_zald {k n j : Nat} {i : Int32} (F : w6_F p s m args c cc nL own D g A) (I : w6_I D (w6_w sh N g ad V ++ wr) A s H locs) (hX : w6_Ar sh N k 1 n) (hin : vp_in i n) (ej : i.toNatClampNeg = j) (hdg : decode cc pc = .ok (.baload, 1))
    (kk : W p l e R s m args below meth c H locs cells slots Q (F0 m (pc + 1) ls (.int (V.1 k j) :: rest))) : W p l e R s m args below meth c H locs cells slots Q (F0 m pc ls (.int i :: .ref (ad k) :: rest)) := by
  subst ej
  exact va_zald F.1.1 F.1.2.1 F.2.1 I.1 k 1 ((w6_fl_at hX.1).trans (by rw [hX.2])) rfl hin hdg kk
theorem w6_bald {k n j : Nat} {i : Int32} (F : w6_F p s m args c cc nL own D g A) (I : w6_I D (w6_w sh N g ad V ++ wr) A s H locs) (hX : w6_Ar sh N k 5 n) (hin : vp_in i n) (ej : i.toNatClampNeg = j) (hdg : decode cc pc = .ok (.baload, 1))
    (kk : W p l e R s m args below meth c H locs cells slots Q (F0 m (pc + 1) ls (.int (V.1 k j) :: rest))) : W p l e R s m args below meth c H locs cells slots Q (F0 m pc ls (.int i :: .ref (ad k) :: rest)) := by
  subst ej
  exact va_bald F.1.1 F.1.2.1 F.2.1 I.1 k 5 ((w6_fl_at hX.1).trans (by rw [hX.2])) rfl hin hdg kk
theorem w6_ar_set {k t n j : Nat} {v : Int32} {H1 : Heap} {locs1 : List Loc} (hL : w6_Lc sh) (hX : w6_Ar sh N k t n) (eV : V' = mset V k j v) (hP : va_P D CL ((w6_w sh N g ad V ++ wr).set k (ad k, .inl (g t, n, .inl (upd (V.1 k) j v)))) H1) (hD : va_D A ((w6_w sh N g ad V ++ wr).set k (ad k, .inl (g t, n, .inl (upd (V.1 k) j v))))) (hS : va_S A s.heap H1 locs1) : w6_I D (w6_w sh N g ad V' ++ wr) A s H1 locs1 := by
  subst eV
  refine w6_setI hX.1 ?_ (fun i _ hik => hL g ad _ _ i (mset_ne V j v hik) rfl) hP hD hS
  rw [hX.2, mset_row]
theorem w6_iast {k n j : Nat} {i x : Int32} (hL : w6_Lc sh) (F : w6_F p s m args c cc nL own D g A) (I : w6_I D (w6_w sh N g ad V ++ wr) A s H locs) (hX : w6_Ar sh N k 0 n) (hin : vp_in i n) (ej : i.toNatClampNeg = j) (hdg : decode cc pc = .ok (.iastore, 1)) (eV : V' = mset V k j x)
    (kk : ∀ (H1 : Heap) (locs1 : List Loc), w6_I D (w6_w sh N g ad V' ++ wr) A s H1 locs1 → W p l e R s m args below meth c H1 locs1 cells slots Q (F0 m (pc + 1) ls rest)) : W p l e R s m args below meth c H locs cells slots Q (F0 m pc ls (.int x :: .int i :: .ref (ad k) :: rest)) := by
  subst ej
  exact va_iast F.1.1 F.1.2.1 F.2.1 I.1 I.2.1 I.2.2 k 0 ((w6_fl_at hX.1).trans (by rw [hX.2])) rfl hin hdg (fun H1 locs1 hP hD hS => kk H1 locs1 (w6_ar_set hL hX eV hP hD hS))
theorem w6_zast {k n j : Nat} {i x x' : Int32} (hL : w6_Lc sh) (F : w6_F p s m args c cc nL own D g A) (I : w6_I D (w6_w sh N g ad V ++ wr) A s H locs) (hX : w6_Ar sh N k 1 n) (hin : vp_in i n) (ej : i.toNatClampNeg = j) (ex : vp_nar .boolean x = x') (hdg : decode cc pc = .ok (.bastore, 1)) (eV : V' = mset V k j x')
    (kk : ∀ (H1 : Heap) (locs1 : List Loc), w6_I D (w6_w sh N g ad V' ++ wr) A s H1 locs1 → W p l e R s m args below meth c H1 locs1 cells slots Q (F0 m (pc + 1) ls rest)) : W p l e R s m args below meth c H locs cells slots Q (F0 m pc ls (.int x :: .int i :: .ref (ad k) :: rest)) := by
  subst ej
  subst ex
  exact va_zast F.1.1 F.1.2.1 F.2.1 I.1 I.2.1 I.2.2 k 1 ((w6_fl_at hX.1).trans (by rw [hX.2])) rfl hin hdg (fun H1 locs1 hP hD hS => kk H1 locs1 (w6_ar_set hL hX eV hP hD hS))
theorem w6_bast {k n j : Nat} {i x x' : Int32} (hL : w6_Lc sh) (F : w6_F p s m args c cc nL own D g A) (I : w6_I D (w6_w sh N g ad V ++ wr) A s H locs) (hX : w6_Ar sh N k 5 n) (hin : vp_in i n) (ej : i.toNatClampNeg = j) (ex : vp_nar .byte x = x') (hdg : decode cc pc = .ok (.bastore, 1)) (eV : V' = mset V k j x')
    (kk : ∀ (H1 : Heap) (locs1 : List Loc), w6_I D (w6_w sh N g ad V' ++ wr) A s H1 locs1 → W p l e R s m args below meth c H1 locs1 cells slots Q (F0 m (pc + 1) ls rest)) : W p l e R s m args below meth c H locs cells slots Q (F0 m pc ls (.int x :: .int i :: .ref (ad k) :: rest)) := by
  subst ej
  subst ex
  exact va_bast F.1.1 F.1.2.1 F.2.1 I.1 I.2.1 I.2.2 k 5 ((w6_fl_at hX.1).trans (by rw [hX.2])) rfl hin hdg (fun H1 locs1 hP hD hS => kk H1 locs1 (w6_ar_set hL hX eV hP hD hS))
theorem w6_alen {k t n : Nat} {ty : FieldType} {v : Int32} (F : w6_F p s m args c cc nL own D g A) (I : w6_I D (w6_w sh N g ad V ++ wr) A s H locs) (hX : w6_Ar sh N k t n) (ht : (tyG g)[t]? = some (g t, ty)) (hv : Int32.ofNat n = v) (hdg : decode cc pc = .ok (.arraylength, 1))
    (kk : W p l e R s m args below meth c H locs cells slots Q (F0 m (pc + 1) ls (.int v :: rest))) : W p l e R s m args below meth c H locs cells slots Q (F0 m pc ls (.ref (ad k) :: rest)) :=
  va_alen F.1.1 F.1.2.1 F.2.1 I.1 k t ((w6_fl_at hX.1).trans (by rw [hX.2])) ht hv hdg kk
theorem w6_rlen {k t n : Nat} {ty : FieldType} {f : Nat → Nat} {v : Int32} (F : w6_F p s m args c cc nL own D g A) (I : w6_I D (w6_w sh N g ad V ++ wr) A s H locs) (hX : w6_Rf sh N k t n f) (ht : (tyG g)[t]? = some (g t, ty)) (hv : Int32.ofNat n = v) (hdg : decode cc pc = .ok (.arraylength, 1))
    (kk : W p l e R s m args below meth c H locs cells slots Q (F0 m (pc + 1) ls (.int v :: rest))) : W p l e R s m args below meth c H locs cells slots Q (F0 m pc ls (.ref (ad k) :: rest)) :=
  va_alen F.1.1 F.1.2.1 F.2.1 I.1 k t ((w6_fl_at hX.1).trans (by rw [hX.2])) ht hv hdg kk
theorem w6_aald {k t n j : Nat} {ty : FieldType} {f : Nat → Nat} {i : Int32} (F : w6_F p s m args c cc nL own D g A) (I : w6_I D (w6_w sh N g ad V ++ wr) A s H locs) (hX : w6_Rf sh N k t n f) (ht : (tyG g)[t]? = some (g t, ty)) (hr : refKind ty = true) (hin : vp_in i n) (ej : i.toNatClampNeg = j) (hdg : decode cc pc = .ok (.aaload, 1))
    (kk : W p l e R s m args below meth c H locs cells slots Q (F0 m (pc + 1) ls (.ref (ad (f j)) :: rest))) : W p l e R s m args below meth c H locs cells slots Q (F0 m pc ls (.int i :: .ref (ad k) :: rest)) := by
  subst ej
  have hlt : i.toNatClampNeg < n := Nat.not_le.mp fun q => hin (Or.inr q)
  have ha : (w6_w sh N g ad V ++ wr)[k]? = some (ad k, .inl (g t, n, va_refs (fun j => some (ad (f j))))) := (w6_fl_at hX.1).trans (by rw [hX.2])
  exact W.aald (v := .ref (ad (f i.toNatClampNeg))) (ty := ty) F.1.1 F.1.2.1 (I.1 k _ ha) ((F.2.1.2 t _ ht).1 n (fun j => va_rf (some (ad (f j))))) hr (fun q => by cases q) (by show ¬ (i < 0 ∨ (arrV _ _ _).slots.size ≤ _); rw [arrV_size]; exact hin) (by show (arrV _ _ _).slots[_]? = _; rw [arrV_read _ _ hlt]; rfl) rfl rfl hdg kk
/-- the model's table of longs: cell 14 -/
theorem w6_lald {i : Int32} {j : Nat} (F : w6_F p s m args c cc nL own D g A) (I : w6_I D (mw g ad V ++ wr) A s H locs) (hin : vp_in i 69192) (ej : i.toNatClampNeg = j) (hdg : decode cc pc = .ok (.laload, 1))
    (kk : W p l e R s m args below meth c H locs cells slots Q (F0 m (pc + 1) ls (.long (V.2 j) :: rest))) : W p l e R s m args below meth c H locs cells slots Q (F0 m pc ls (.int i :: .ref (ad 14) :: rest)) := by
  subst ej
  exact va_lald F.1.1 F.1.2.1 F.2.1 I.1 14 6 ((w6_fl_at (by decide)).trans rfl) rfl hin hdg kk
theorem w6_last {i : Int32} {j : Nat} {x : Int64} (F : w6_F p s m args c cc nL own D g A) (I : w6_I D (mw g ad V ++ wr) A s H locs) (hin : vp_in i 69192) (ej : i.toNatClampNeg = j) (hdg : decode cc pc = .ok (.lastore, 1)) (eV : V' = lset V j x)
    (kk : ∀ (H1 : Heap) (locs1 : List Loc), w6_I D (mw g ad V' ++ wr) A s H1 locs1 → W p l e R s m args below meth c H1 locs1 cells slots Q (F0 m (pc + 1) ls rest)) : W p l e R s m args below meth c H locs cells slots Q (F0 m pc ls (.long x :: .int i :: .ref (ad 14) :: rest)) := by
  subst ej
  subst eV
  refine va_last F.1.1 F.1.2.1 F.2.1 I.1 I.2.1 I.2.2 14 6 ((w6_fl_at (by decide)).trans rfl) rfl hin hdg (fun H1 locs1 hP hD hS => kk H1 locs1 (w6_setI (V := V) (by decide) ?_ (fun j _ hj => ?_) hP hD hS))
  · rfl
  · unfold msh
    rw [if_neg hj, if_neg hj]
    rfl
/-- arraycopy between arrays of numbers -/
theorem w6_cpy {k0 k1 t n0 n1 sp' dp' n' : Nat} {ty : FieldType} {sp dp n : Int32} {index : Nat} (hL : w6_Lc sh) (F : w6_F p s m args c cc nL own D g A) (I : w6_I D (w6_w sh N g ad V ++ wr) A s H locs) (hl : ls.size = nL) (hq : Cond.methodLink own index arraycopyName ∈ lw_all) (hX0 : w6_Ar sh N k0 t n0) (hX1 : w6_Ar sh N k1 t n1) (ht : (tyG g)[t]? = some (g t, ty)) (hprim : refKind ty = false)
    (h1 : ¬ sp < 0) (h2 : ¬ dp < 0) (h3 : ¬ n < 0) (es : sp.toNatClampNeg = sp') (ed : dp.toNatClampNeg = dp') (en : n.toNatClampNeg = n') (h4 : sp' + n' ≤ n0) (h5 : dp' + n' ≤ n1) (hfit : ∀ i, i < n' → fits ty (.int (V.1 k0 (sp' + i))) = true)
    (hframes : 1 ≤ R.frames) (hlocals : (rest.map fun v => v.category).sum + (nativeFrameWords "java/lang/System" "arraycopy" 5 + 11) ≤ R.locals) (hdg : decode cc pc = .ok (.invokestatic index, 3)) (eV : V' = mrow V k1 (va_cpy (V.1 k0) (V.1 k1) sp' dp' n'))
    (kk : ∀ (H1 : Heap) (locs1 : List Loc), w6_I D (w6_w sh N g ad V' ++ wr) A s H1 locs1 → W p l e R s m args below meth c H1 locs1 cells slots Q (F0 m (pc + 3) ls rest)) : W p l e R s m args below meth c H locs cells slots Q (F0 m pc ls (.int n :: .int dp :: .ref (ad k1) :: .int sp :: .ref (ad k0) :: rest)) := by
  subst es ed en
  subst eV
  refine va_copyi F.1.1 F.1.2.1 (by rw [F.1.2.2.1, hl]) F.1.2.2.2.1 (F.1.2.2.2.2 _ hq) (F.1.2.2.2.2 _ q269) (F.1.2.2.2.2 _ q268) (F.1.2.2.2.2 _ q51) F.2.1 I.1 I.2.1 I.2.2 k0 k1 t t ((w6_fl_at hX0.1).trans (by rw [hX0.2])) ((w6_fl_at hX1.1).trans (by rw [hX1.2])) ht ht hprim h1 h2 h3 h4 h5 hfit hframes hlocals hdg (fun H1 locs1 hP hD hS => kk H1 locs1 (w6_setI (V := V) hX1.1 ?_ (fun i _ hik => hL g ad _ _ i (mrow_ne V _ hik) rfl) hP hD hS))
  rw [hX1.2, mrow_row]
/-- a static array of numbers -/
theorem w6_gets {index : Nat} (i : Nat) (hi : i < 10) (F : w6_F p s m args c cc nL own D g A) (I : w6_I D wr A s H locs) (hq : Cond.fieldLink own index (zsT.getD i ("", "", [])).1 (zsT.getD i ("", "", [])).2.1 "[I" ∈ lw_all) (hdg : decode cc pc = .ok (.getstatic index, 3))
    (kk : ∀ t : Nat, va_T .int t (zsT.getD i ("", "", [])).2.2.length (fun j => .int (zsg i j)) A s s.heap → W p l e R s m args below meth c H locs cells slots Q (F0 m (pc + 3) ls (.ref t :: rest))) : W p l e R s m args below meth c H locs cells slots Q (F0 m pc ls rest) := by
  obtain ⟨t, h1, h2⟩ := F.2.2.1.2.1.1 i hi
  exact va_gets F.1.1 F.1.2.1 h1 I.2.2 F.1.2.2.2.1 (F.1.2.2.2.2 _ hq) (fun _ h => h) hdg (kk t h2)
theorem w6_getsN {index : Nat} {host : String} (i : Nat) (hi : i < 10) (F : w6_F p s m args c cc nL own D g A) (I : w6_I D wr A s H locs) (hq : (own, index, (zsT.getD i ("", "", [])).1, (zsT.getD i ("", "", [])).2.1, "[I", host) ∈ zsFN) (hdg : decode cc pc = .ok (.getstatic index, 3))
    (kk : ∀ t : Nat, va_T .int t (zsT.getD i ("", "", [])).2.2.length (fun j => .int (zsg i j)) A s s.heap → W p l e R s m args below meth c H locs cells slots Q (F0 m (pc + 3) ls (.ref t :: rest))) : W p l e R s m args below meth c H locs cells slots Q (F0 m pc ls rest) := by
  obtain ⟨t, h1, h2⟩ := F.2.2.1.2.1.1 i hi
  exact va_getsN F.1.1 F.1.2.1 h1 I.2.2 F.1.2.2.2.1 (va_Nw.use rfl (F.2.2.1.1.1 _ hq)) (fun _ h => h) hdg (kk t h2)
theorem w6_tld {t n j : Nat} {i : Int32} {f : Nat → Int32} (F : w6_F p s m args c cc nL own D g A) (I : w6_I D wr A s H locs) (hT : va_T .int t n (fun j => .int (f j)) A s s.heap) (hin : vp_in i n) (ej : i.toNatClampNeg = j) (hdg : decode cc pc = .ok (.iaload, 1))
    (kk : W p l e R s m args below meth c H locs cells slots Q (F0 m (pc + 1) ls (.int (f j) :: rest))) : W p l e R s m args below meth c H locs cells slots Q (F0 m pc ls (.int i :: .ref t :: rest)) := by
  subst ej
  exact va_ti F.1.1 F.1.2.1 hT I.2.2 hin rfl hdg kk
theorem w6_tlen {t n : Nat} {f : Nat → Int32} {v : Int32} (F : w6_F p s m args c cc nL own D g A) (I : w6_I D wr A s H locs) (hT : va_T .int t n (fun j => .int (f j)) A s s.heap) (hv : Int32.ofNat n = v) (hdg : decode cc pc = .ok (.arraylength, 1))
    (kk : W p l e R s m args below meth c H locs cells slots Q (F0 m (pc + 1) ls (.int v :: rest))) : W p l e R s m args below meth c H locs cells slots Q (F0 m pc ls (.ref t :: rest)) :=
  va_tlen F.1.1 F.1.2.1 hT I.2.2 hv hdg kk
/-- a computed number gets its name -/
theorem w6_nmi {x y : Int32} (h : y = x) (k : W p l e R s m args below meth c H locs cells slots Q (F0 m pc ls (.int y :: rest))) : W p l e R s m args below meth c H locs cells slots Q (F0 m pc ls (.int x :: rest)) := by subst h; exact k
theorem w6_nml {x y : Int64} (h : y = x) (k : W p l e R s m args below meth c H locs cells slots Q (F0 m pc ls (.long y :: rest))) : W p l e R s m args below meth c H locs cells slots Q (F0 m pc ls (.long x :: rest)) := by subst h; exact k
end W6R
section W6M
variable {p : Program} {l : Launch} {e : Env} {s : State} {m : MethodId} {args : Array Value} {below : List Frame} {meth : Method} {c : Code} {H : Heap} {locs : List Loc}
variable {cc : ByteArray} {nL pc : Nat} {ls : Array Slot} {D : va_G} {g : Nat → ClassId} {A : Nat → Prop} {own : String} {w w' : va_W} {R : Room} {cells slots : Nat}
/-! ends -/
theorem w6_end {t : State} (F : w6_F p s m args c cc nL own D g A) (hA : A = va_A w s.heap.size) (I : w6_I D (w' ++ []) A s H locs) (ht : t.heap = H) (hW : s.WarmedH t.vm) : w6_B D g w w' s.heap.size t ∧ va_F (va_A w s.heap.size) s t := by
  subst hA
  rw [List.append_nil] at I
  exact ⟨⟨by rw [ht]; exact I.1, va_K.moved hW.alike F.2.1, I.2.1⟩, I.2.2.F ht⟩
theorem x_iret {v r : Int32} (F : w6_F p s m args c cc nL own D g A) (hA : A = va_A w s.heap.size) (I : w6_I D (w' ++ []) A s H locs) (hr : meth.sig.returnType = some .int) (hlocks : meth.locks = false) (hv : v = r) (hdg : decode cc pc = .ok (.ireturn, 1)) : W p l e R s m args below meth c H locs cells slots (MQ below (w6_Qi D g w w' s.heap.size r) args s cells slots A) (F0 m pc ls [.int v]) :=
  W.iret F.1.1 F.1.2.1 hr (fun t ht hW => ⟨⟨v, (), rfl, hv, (w6_end F hA I ht hW).1⟩, (w6_end F hA I ht hW).2⟩) I.2.2.2.2 hdg hlocks
theorem x_zret {v r : Int32} {ty : FieldType} (F : w6_F p s m args c cc nL own D g A) (hA : A = va_A w s.heap.size) (I : w6_I D (w' ++ []) A s H locs) (hr : meth.sig.returnType = some ty) (hlocks : meth.locks = false) (hn : narrow ty (.int v) = .int v) (hv : v = r) (hdg : decode cc pc = .ok (.ireturn, 1)) : W p l e R s m args below meth c H locs cells slots (MQ below (w6_Qi D g w w' s.heap.size r) args s cells slots A) (F0 m pc ls [.int v]) :=
  W.zret F.1.1 F.1.2.1 hr hn (fun t ht hW => ⟨⟨v, (), rfl, hv, (w6_end F hA I ht hW).1⟩, (w6_end F hA I ht hW).2⟩) I.2.2.2.2 hdg hlocks
theorem x_lret {v r : Int64} (F : w6_F p s m args c cc nL own D g A) (hA : A = va_A w s.heap.size) (I : w6_I D (w' ++ []) A s H locs) (hr : meth.sig.returnType = some .long) (hlocks : meth.locks = false) (hv : v = r) (hdg : decode cc pc = .ok (.lreturn, 1)) : W p l e R s m args below meth c H locs cells slots (MQ below (w6_Ql D g w w' s.heap.size r) args s cells slots A) (F0 m pc ls [.long v]) :=
  W.lret F.1.1 F.1.2.1 hr (fun t ht hW => ⟨⟨v, (), rfl, hv, (w6_end F hA I ht hW).1⟩, (w6_end F hA I ht hW).2⟩) I.2.2.2.2 hdg hlocks
theorem x_vret (F : w6_F p s m args c cc nL own D g A) (hA : A = va_A w s.heap.size) (I : w6_I D (w' ++ []) A s H locs) (hr : meth.sig.returnType = none) (hlocks : meth.locks = false) (hdg : decode cc pc = .ok (.return_, 1)) : W p l e R s m args below meth c H locs cells slots (MQ below (w6_Qv D g w w' s.heap.size) args s cells slots A) (F0 m pc ls []) :=
  W.vret F.1.1 F.1.2.1 hr (fun t ht hW => ⟨⟨(), rfl, trivial, (w6_end F hA I ht hW).1⟩, (w6_end F hA I ht hW).2⟩) I.2.2.2.2 hdg hlocks
end W6M
/-! a method's start -/
theorem w6_start {l : Launch} {D : va_G} {g : Nat → ClassId} {y : MethodName} {cc : ByteArray} {nL : Nat} {ret : Option FieldType} {rm : Room} {av : List Value} {w : va_W} {sz : Nat} {Qc : Array Value → State → Outcome → State → Prop} {mc ms : Nat} (own : String) (hy : plainName y.cls = true) (hn : (lg_sl av).length ≤ nL) (ho : own = y.cls)
    (body : ∀ (p : Program) (e : Env) (s : State) (m : MethodId) (below : List Frame) (meth : Method) (c : Code) (A : Nat → Prop) (ls : Array Slot), s.heap.size = sz → A = va_A w s.heap.size → meth.sig.returnType = ret → meth.locks = false → w6_F p s m av.toArray c cc nL own D g A → w6_I D (w ++ []) A s s.heap [] → lv_has ls nL (lv_args 0 av) →
      W p l e (headSpec (ws_ y cc nL ret) rm).room s m av.toArray below meth c s.heap [] 0 0 (MQ below Qc av.toArray s mc ms A) (F0 m 0 ls [])) : Met l y (ws_ y cc nL ret) rm (w6_Pc D g av w sz) Qc mc ms (va_A w sz) := by
  refine Met.ofW (cc := cc) (maxL := nL) (ret := ret) hy rfl ?_
  intro p e s m args below meth c s₁ B hml hv
  obtain ⟨rfl, hsz, hP, hK, hD0, hZ⟩ := hv
  have hts := atoms_spec (ws := ws_ y cc nL ret) B.pre
  have hts : ∀ w ∈ lw_all, w.before _ s = true := fun w h => hts w (List.mem_cons_of_mem _ h)
  have hown : s.vm.findClass own = some m.cls := by rw [ho]; exact findClass_of_methodNamed B.named
  have hlocks := B.notSynchronized
  have hl := lv_entry av (n := nL) hn
  rw [lg_entry_eq]
  generalize (lg_sl av ++ List.replicate (nL - (lg_sl av).length) Slot.unset).toArray = ls at hl ⊢
  subst hsz
  refine body p e s m below meth c _ ls rfl rfl B.returns hlocks ⟨⟨B.exec, B.bytes, hml, hown, hts⟩, hK, hZ, fun q h => Or.inr h⟩ ⟨by rw [List.append_nil]; exact hP, by rw [List.append_nil]; exact hD0.self, va_S.rf⟩ hl

/-! ways of the printed walks -/
abbrev ix_ (i : Int32) (n : Nat) : Prop := ¬ (i < 0 ∨ n ≤ i.toNatClampNeg)
abbrev bz_ (i : Int32) : Prop := i = 0 ∨ i = 1
def bzr_ (f : Nat → Int32) (n : Nat) : Bool := (List.range n).all fun i => f i == 0 || f i == 1
theorem ix_lt {i : Int32} {n : Nat} (h : ix_ i n) : i.toNatClampNeg < n := Nat.not_le.mp fun q => h (Or.inr q)
theorem ix_l {i : Int32} {n j : Nat} (h : ix_ i n) (e : i.toNatClampNeg = j) : j < n := e ▸ ix_lt h
theorem bz_n {i : Int32} (h : bz_ i) : narrow .boolean (.int i) = .int i := by rcases h with h | h <;> subst h <;> rfl
theorem bz_f {i : Int32} (h : bz_ i) : fits .boolean (.int i) = true := by rcases h with h | h <;> subst h <;> rfl
theorem bz_v {i : Int32} (h : bz_ i) : vp_nar .boolean i = i := by rcases h with h | h <;> subst h <;> rfl
theorem bzr_f {f : Nat → Int32} {n : Nat} (h : bzr_ f n = true) : ∀ i, i < n → fits .boolean (.int (f (0 + i))) = true := by
  intro i hi
  have := List.all_eq_true.mp h i (List.mem_range.mpr hi)
  simp only [Bool.or_eq_true, beq_iff_eq] at this
  rw [Nat.zero_add]
  exact bz_f this
theorem so_e {α β : Type} {a c : α} {b d : β} (h : some (a, b) = some (c, d)) : a = c ∧ b = d := by cases h; exact ⟨rfl, rfl⟩
def bi_ {α β γ : Type} (a : Option (α × β)) (f : α → β → Option γ) : Option γ := match a with
  | none => none
  | some (x, y) => f x y
theorem bi_e {α β γ : Type} {a : Option (α × β)} {f : α → β → Option γ} {r : γ} (h : bi_ a f = some r) : ∃ x y, a = some (x, y) ∧ f x y = some r := by
  unfold bi_ at h
  split at h
  · cases h
  · exact ⟨_, _, rfl, h⟩
theorem w6_mv {D : va_G} {g : Nat → ClassId} {A : Nat → Prop} {s : State} {H : Heap} {locs : List Loc} {ad : Nat → Nat} {V V' : Mm} {wr : va_W} {sh : w6_Sh} {N : Nat} (e : V = V') (I : w6_I D (w6_w sh N g ad V ++ wr) A s H locs) : w6_I D (w6_w sh N g ad V' ++ wr) A s H locs := e ▸ I
section W6S
variable {l : Launch} {D : va_G} {g : Nat → ClassId} {y : MethodName} {cc : ByteArray} {nL : Nat} {rm : Room} {av : List Value} {w w' : va_W} {sz : Nat}
theorem w6_starti {rt : FieldType} {r : Int32} (own : String) (hy : plainName y.cls = true) (hn : (lg_sl av).length ≤ nL) (ho : own = y.cls)
    (body : ∀ (p : Program) (e : Env) (s : State) (m : MethodId) (below : List Frame) (meth : Method) (c : Code) (A : Nat → Prop) (ls : Array Slot) (Q : State → Prop), p.tables.exec = Jvm.exec → c.code = cc → s.vm.findClass own = some m.cls → (∀ w ∈ lw_all, w.before av.toArray s = true) → w6_F p s m av.toArray c cc nL own D g A → w6_I D (w ++ []) A s s.heap [] → lv_has ls nL (lv_args 0 av) →
      (∀ (v : Int32) (pc : Nat) (H : Heap) (locs : List Loc) (ls : Array Slot), decode cc pc = .ok (.ireturn, 1) → w6_I D (w' ++ []) A s H locs → v = r → narrow rt (.int v) = .int v → W p l e rm s m av.toArray below meth c H locs rm.cells rm.slots Q (F0 m pc ls [.int v])) →
      W p l e rm s m av.toArray below meth c s.heap [] 0 0 Q (F0 m 0 ls [])) : Met l y (ws_ y cc nL (some rt)) rm (w6_Pc D g av w sz) (w6_Qi D g w w' sz r) rm.cells rm.slots (va_A w sz) := by
  refine w6_start own hy hn ho (fun p e s m below meth c A ls hsz hA hr hlocks F I hl => ?_)
  subst hsz
  exact body p e s m below meth c A ls _ F.1.1 F.1.2.1 F.1.2.2.2.1 F.1.2.2.2.2 F I hl (fun v pc H locs ls hdg I1 hv hnr => x_zret F hA I1 hr hlocks hnr hv hdg)
theorem w6_startl {r : Int64} (own : String) (hy : plainName y.cls = true) (hn : (lg_sl av).length ≤ nL) (ho : own = y.cls)
    (body : ∀ (p : Program) (e : Env) (s : State) (m : MethodId) (below : List Frame) (meth : Method) (c : Code) (A : Nat → Prop) (ls : Array Slot) (Q : State → Prop), p.tables.exec = Jvm.exec → c.code = cc → s.vm.findClass own = some m.cls → (∀ w ∈ lw_all, w.before av.toArray s = true) → w6_F p s m av.toArray c cc nL own D g A → w6_I D (w ++ []) A s s.heap [] → lv_has ls nL (lv_args 0 av) →
      (∀ (v : Int64) (pc : Nat) (H : Heap) (locs : List Loc) (ls : Array Slot), decode cc pc = .ok (.lreturn, 1) → w6_I D (w' ++ []) A s H locs → v = r → W p l e rm s m av.toArray below meth c H locs rm.cells rm.slots Q (F0 m pc ls [.long v])) →
      W p l e rm s m av.toArray below meth c s.heap [] 0 0 Q (F0 m 0 ls [])) : Met l y (ws_ y cc nL (some .long)) rm (w6_Pc D g av w sz) (w6_Ql D g w w' sz r) rm.cells rm.slots (va_A w sz) := by
  refine w6_start own hy hn ho (fun p e s m below meth c A ls hsz hA hr hlocks F I hl => ?_)
  subst hsz
  exact body p e s m below meth c A ls _ F.1.1 F.1.2.1 F.1.2.2.2.1 F.1.2.2.2.2 F I hl (fun v pc H locs ls hdg I1 hv => x_lret F hA I1 hr hlocks hv hdg)
theorem w6_startv (own : String) (hy : plainName y.cls = true) (hn : (lg_sl av).length ≤ nL) (ho : own = y.cls)
    (body : ∀ (p : Program) (e : Env) (s : State) (m : MethodId) (below : List Frame) (meth : Method) (c : Code) (A : Nat → Prop) (ls : Array Slot) (Q : State → Prop), p.tables.exec = Jvm.exec → c.code = cc → s.vm.findClass own = some m.cls → (∀ w ∈ lw_all, w.before av.toArray s = true) → w6_F p s m av.toArray c cc nL own D g A → w6_I D (w ++ []) A s s.heap [] → lv_has ls nL (lv_args 0 av) →
      (∀ (pc : Nat) (H : Heap) (locs : List Loc) (ls : Array Slot), decode cc pc = .ok (.return_, 1) → w6_I D (w' ++ []) A s H locs → W p l e rm s m av.toArray below meth c H locs rm.cells rm.slots Q (F0 m pc ls [])) →
      W p l e rm s m av.toArray below meth c s.heap [] 0 0 Q (F0 m 0 ls [])) : Met l y (ws_ y cc nL none) rm (w6_Pc D g av w sz) (w6_Qv D g w w' sz) rm.cells rm.slots (va_A w sz) := by
  refine w6_start own hy hn ho (fun p e s m below meth c A ls hsz hA hr hlocks F I hl => ?_)
  subst hsz
  exact body p e s m below meth c A ls _ F.1.1 F.1.2.1 F.1.2.2.2.1 F.1.2.2.2.2 F I hl (fun pc H locs ls hdg I1 => x_vret F hA I1 hr hlocks hdg)
end W6S
section W6Z
variable {p : Program} {l : Launch} {e : Env} {R : Room} {s : State} {m : MethodId} {args : Array Value} {below : List Frame} {meth : Method} {c : Code} {H : Heap} {locs : List Loc} {cells slots : Nat} {Q : State → Prop}
variable {cc : ByteArray} {nL pc : Nat} {ls : Array Slot} {D : va_G} {g : Nat → ClassId} {A : Nat → Prop} {own : String} {wr : va_W}
abbrev w6_hd (y : MethodName) (n : Nat) : Prop := y.cls ≠ "java/lang/invoke/MethodHandle" ∧ y.cls ≠ "java/lang/invoke/VarHandle" ∧ (parseMethodDescriptor y.desc).map (fun d => d.parameters.length) = some n
/-- calls that make no cells -/
theorem xz_Vi {C : String} {index b nL' n : Nat} {y : MethodName} {cc' : ByteArray} {rt : FieldType} {fr lo : Nat} {As : List Value} {w w' : va_W} {r : Int32} {st0 : List Value}
    (F : w6_F p s m args c cc nL own D g A) (I : w6_I D (w ++ wr) A s H locs) (hM : CTi l D g y cc' nL' rt { frames := fr, cells := 0, slots := 0, locals := lo } (.ref b :: As) w w' r) (hG : GoodIn lw_all (wsV own index C y (ws_ y cc' nL' (some rt)))) (hd : w6_hd y n) (hC : y.cls = C) (hR : fr + 1 ≤ R.frames) (hR2 : 8 + (nL' + 11) + lo ≤ R.locals)
    (hrec : ∃ cell : Cell, H[b]? = some cell ∧ cell.vm.isStatics = false ∧ s.vm.findClass C = some cell.cls) (hn : As.length = n) (hl : ls.size = nL) (rest : List Value) (hst : st0 = As.reverse ++ .ref b :: rest) (hW : (rest.map fun v => v.category).sum ≤ 8) (hdg : decode cc pc = .ok (.invokevirtual index, 3)) (hf : cells ≤ R.cells ∧ slots ≤ R.slots)
    (kk : ∀ (H1 : Heap) (locs1 : List Loc), w6_I D (w' ++ wr) A s H1 locs1 → W p l e R s m args below meth c H1 locs1 cells slots Q (F0 m (pc + 3) ls (.int r :: rest))) : W p l e R s m args below meth c H locs cells slots Q (F0 m pc ls st0) :=
  xc_Vi (cells := cells) (slots := slots) F I hM n hG ⟨hC, hd⟩ ⟨hR, hR2⟩ hrec hn hl rest hst hW hdg hf kk
theorem xz_Vv {C : String} {index b nL' n : Nat} {y : MethodName} {cc' : ByteArray} {fr lo : Nat} {As : List Value} {w w' : va_W} {st0 : List Value}
    (F : w6_F p s m args c cc nL own D g A) (I : w6_I D (w ++ wr) A s H locs) (hM : CTv l D g y cc' nL' { frames := fr, cells := 0, slots := 0, locals := lo } (.ref b :: As) w w') (hG : GoodIn lw_all (wsV own index C y (ws_ y cc' nL' none))) (hd : w6_hd y n) (hC : y.cls = C) (hR : fr + 1 ≤ R.frames) (hR2 : 8 + (nL' + 11) + lo ≤ R.locals)
    (hrec : ∃ cell : Cell, H[b]? = some cell ∧ cell.vm.isStatics = false ∧ s.vm.findClass C = some cell.cls) (hn : As.length = n) (hl : ls.size = nL) (rest : List Value) (hst : st0 = As.reverse ++ .ref b :: rest) (hW : (rest.map fun v => v.category).sum ≤ 8) (hdg : decode cc pc = .ok (.invokevirtual index, 3)) (hf : cells ≤ R.cells ∧ slots ≤ R.slots)
    (kk : ∀ (H1 : Heap) (locs1 : List Loc), w6_I D (w' ++ wr) A s H1 locs1 → W p l e R s m args below meth c H1 locs1 cells slots Q (F0 m (pc + 3) ls rest)) : W p l e R s m args below meth c H locs cells slots Q (F0 m pc ls st0) :=
  xc_Vv (cells := cells) (slots := slots) F I hM n hG ⟨hC, hd⟩ ⟨hR, hR2⟩ hrec hn hl rest hst hW hdg hf kk
/-- static methods that touch no cell -/
theorem xz_Pi {index nL' n : Nat} {y : MethodName} {cc' : ByteArray} {rt : FieldType} {fr lo : Nat} {As : List Value} {r : Int32} {st0 : List Value}
    (F : w6_F p s m args c cc nL own D g A) (I : w6_I D wr A s H locs) (hM : CTi l D g y cc' nL' rt { frames := fr, cells := 0, slots := 0, locals := lo } As [] [] r) (hG : GoodIn lw_all (va_wsS own index y (ws_ y cc' nL' (some rt)))) (hd : w6_hd y n) (hR : fr + 1 ≤ R.frames) (hR2 : 8 + (nL' + 11) + lo ≤ R.locals)
    (hn : As.length = n) (hl : ls.size = nL) (rest : List Value) (hst : st0 = As.reverse ++ rest) (hW : (rest.map fun v => v.category).sum ≤ 8) (hdg : decode cc pc = .ok (.invokestatic index, 3)) (hf : cells ≤ R.cells ∧ slots ≤ R.slots)
    (kk : ∀ (H : Heap) (locs : List Loc), w6_I D wr A s H locs → W p l e R s m args below meth c H locs cells slots Q (F0 m (pc + 3) ls (.int r :: rest))) : W p l e R s m args below meth c H locs cells slots Q (F0 m pc ls st0) :=
  xc_Si (cells := cells) (slots := slots) (w := []) (w' := []) F I hM n hG hd ⟨hR, hR2⟩ hn hl rest hst hW hdg hf kk
theorem xz_Pl {index nL' n : Nat} {y : MethodName} {cc' : ByteArray} {fr lo : Nat} {As : List Value} {r : Int64} {st0 : List Value}
    (F : w6_F p s m args c cc nL own D g A) (I : w6_I D wr A s H locs) (hM : CTl l D g y cc' nL' { frames := fr, cells := 0, slots := 0, locals := lo } As [] [] r) (hG : GoodIn lw_all (va_wsS own index y (ws_ y cc' nL' (some .long)))) (hd : w6_hd y n) (hR : fr + 1 ≤ R.frames) (hR2 : 8 + (nL' + 11) + lo ≤ R.locals)
    (hn : As.length = n) (hl : ls.size = nL) (rest : List Value) (hst : st0 = As.reverse ++ rest) (hW : (rest.map fun v => v.category).sum ≤ 8) (hdg : decode cc pc = .ok (.invokestatic index, 3)) (hf : cells ≤ R.cells ∧ slots ≤ R.slots)
    (kk : ∀ (H : Heap) (locs : List Loc), w6_I D wr A s H locs → W p l e R s m args below meth c H locs cells slots Q (F0 m (pc + 3) ls (.long r :: rest))) : W p l e R s m args below meth c H locs cells slots Q (F0 m pc ls st0) :=
  xc_Sl (cells := cells) (slots := slots) (w := []) (w' := []) F I hM n hG hd ⟨hR, hR2⟩ hn hl rest hst hW hdg hf kk
end W6Z
