/-! new int[2][12][4]: the machine's multianewarray of three dimensions, out of the library's two -/
def mu_o (c : ClassId) (h0 : Nat) : Nat → Cell
  | 0 => { cls := c, slots := Array.replicate 2 .null, vm := .none }
  | i + 1 => (mu_o c h0 i).setSlot i (.ref (h0 + 1 + 13 * i))
def mu_f (s : State) (c3 c2 c1 : ClassId) : Nat → State
  | 0 => s.pushCell (mu_o c3 s.heap.size 0)
  | i + 1 => (Jvm.Free.Multi.fill (mu_f s c3 c2 c1 i) c2 c1 12 4 (.int 0) 12).setCell s.heap.size (mu_o c3 s.heap.size (i + 1))
theorem mu_o_facts (c : ClassId) (h0 : Nat) : ∀ i, (mu_o c h0 i).cls = c ∧ (mu_o c h0 i).vm = .none ∧ (mu_o c h0 i).slots.size = 2
  | 0 => ⟨rfl, rfl, by simp [mu_o]⟩
  | i + 1 => by
    obtain ⟨a, b, d⟩ := mu_o_facts c h0 i
    exact ⟨by simp [mu_o, Cell.setSlot, a], by simp [mu_o, Cell.setSlot, b], by simp [mu_o, Cell.setSlot, d]⟩
theorem mu_f_facts (s : State) (c3 c2 c1 : ClassId) : ∀ i, (mu_f s c3 c2 c1 i).heap.size = s.heap.size + 1 + 13 * i ∧ (mu_f s c3 c2 c1 i).heap[s.heap.size]? = some (mu_o c3 s.heap.size i) ∧ (mu_f s c3 c2 c1 i).vm = s.vm ∧ (mu_f s c3 c2 c1 i).slotsUsed = s.slotsUsed + 2 + i * 60
  | 0 => ⟨by simp [mu_f], by simp [mu_f], rfl, by simp [mu_f, mu_o]⟩
  | i + 1 => by
    obtain ⟨a, b, d, u⟩ := mu_f_facts s c3 c2 c1 i
    obtain ⟨f1, f2, f3, f4⟩ := Jvm.Free.Multi.fill_facts (mu_f s c3 c2 c1 i) c2 c1 12 4 (.int 0) 12
    have hlt : s.heap.size < (mu_f s c3 c2 c1 i).heap.size := by omega
    have hb' : (Jvm.Free.Multi.fill (mu_f s c3 c2 c1 i) c2 c1 12 4 (.int 0) 12).heap[s.heap.size]? = some (mu_o c3 s.heap.size i) := by rw [Jvm.Free.Multi.fill_old _ _ _ _ _ _ hlt]; exact b
    refine ⟨?_, State.heap_setCell_self hb', by simp [mu_f, f3, d], ?_⟩
    · simp [mu_f, State.setCell, f1, a]; omega
    · simp [mu_f, f4, u]; omega
theorem mu_f_setTop (s : State) (f : JFrame) (c3 c2 c1 : ClassId) : ∀ i, mu_f (s.setTop f) c3 c2 c1 i = (mu_f s c3 c2 c1 i).setTop f
  | 0 => rfl
  | i + 1 => by simp only [mu_f, mu_f_setTop s f c3 c2 c1 i, State.heap_setTop, Jvm.Free.Multi.fill_setTop, State.setCell_setTop]
theorem mu_f_old (s : State) (c3 c2 c1 : ClassId) {a : Addr} (ha : a < s.heap.size) : ∀ i, (mu_f s c3 c2 c1 i).heap[a]? = s.heap[a]?
  | 0 => State.heap_pushCell_of_lt _ _ ha
  | i + 1 => by
    have f1 := (mu_f_facts s c3 c2 c1 i).1
    show ((Jvm.Free.Multi.fill (mu_f s c3 c2 c1 i) c2 c1 12 4 (.int 0) 12).setCell s.heap.size _).heap[a]? = _
    rw [State.heap_setCell_other (Nat.ne_of_gt ha), Jvm.Free.Multi.fill_old _ _ _ _ _ _ (Nat.lt_of_lt_of_le ha (by rw [f1]; omega))]
    exact mu_f_old s c3 c2 c1 ha i
/-- row i, and its players' arrays, as they are made and stay -/
theorem mu_f_row (s : State) (c3 c2 c1 : ClassId) : ∀ i j, j < i → (mu_f s c3 c2 c1 i).heap[s.heap.size + 1 + 13 * j]? = some (Jvm.Free.Multi.outerC c2 12 (s.heap.size + 1 + 13 * j) 12) ∧ ∀ p, p < 12 → (mu_f s c3 c2 c1 i).heap[s.heap.size + 1 + 13 * j + 1 + p]? = some (Jvm.Free.Multi.innerC c1 4 (.int 0))
  | 0, _, h => absurd h (Nat.not_lt_zero _)
  | i + 1, j, h => by
    have f1 := (mu_f_facts s c3 c2 c1 i).1
    obtain ⟨g1, g2, -, -⟩ := Jvm.Free.Multi.fill_facts (mu_f s c3 c2 c1 i) c2 c1 12 4 (.int 0) 12
    have key : ∀ a, s.heap.size < a → (mu_f s c3 c2 c1 (i + 1)).heap[a]? = (Jvm.Free.Multi.fill (mu_f s c3 c2 c1 i) c2 c1 12 4 (.int 0) 12).heap[a]? := fun a ha => by
      show ((Jvm.Free.Multi.fill (mu_f s c3 c2 c1 i) c2 c1 12 4 (.int 0) 12).setCell s.heap.size _).heap[a]? = _
      rw [State.heap_setCell_other (Nat.ne_of_lt ha)]
    rcases Nat.lt_or_ge j i with hj | hj
    · obtain ⟨r1, r2⟩ := mu_f_row s c3 c2 c1 i j hj
      refine ⟨?_, fun p hp => ?_⟩
      · rw [key _ (by omega), Jvm.Free.Multi.fill_old _ _ _ _ _ _ (show s.heap.size + 1 + 13 * j < (mu_f s c3 c2 c1 i).heap.size by omega)]
        exact r1
      · rw [key _ (by omega), Jvm.Free.Multi.fill_old _ _ _ _ _ _ (show s.heap.size + 1 + 13 * j + 1 + p < (mu_f s c3 c2 c1 i).heap.size by omega)]
        exact r2 p hp
    · obtain rfl : j = i := by omega
      refine ⟨?_, fun p hp => ?_⟩
      · rw [key _ (by omega), ← f1]
        exact g2
      · rw [key _ (by omega), ← f1]
        exact Jvm.Free.Multi.fill_inner _ _ _ _ _ _ _ _ hp
section MUW
variable {E : CtlPost} {e : Env} {d : Bool} {acts : List Action} {s : State}
theorem mu_make {c3 c2 c1 c0 : ClassId} {k3 k2 k1 : Class} (hk3 : s.vm.classes[c3]? = some k3) (hkind3 : k3.kind = .array c2 (.array (.array .int))) (hk2 : s.vm.classes[c2]? = some k2) (hkind2 : k2.kind = .array c1 (.array .int)) (hk1 : s.vm.classes[c1]? = some k1) (hkind1 : k1.kind = .array c0 .int)
    (hl : ¬ 12 > e.platform.arrayLengthLimit) (hh : ¬ 48 > e.platform.maxHeapBytes) (hc : s.heap.size + 27 ≤ e.platform.maxCells) (hs : s.slotsUsed + 122 ≤ e.platform.maxSlots)
    {Q : Addr → Pre} (hq : ∀ d' acts', Q s.heap.size d' acts' (mu_f s c3 c2 c1 2)) :
    wp (multianewarray.make c3 [2, 12, 4]) Q E e d acts s := by
  have hn : ¬ (2 : Int32) < 0 := by decide
  have hfind : ([12, 4] : List Int32).find? (· < 0) = none := by decide
  rw [multianewarray.make]
  simp only [wp_bind', W.ite, hn, if_false, wp_pure', W.theClass, hk3, hkind3, Option.some.injEq, exists_eq_left']
  refine Jvm.Free.Multi.wp_newArray hk3 hkind3 (by show ¬ 2 > _; omega) (by show ¬ 2 * 4 > _; omega) rfl rfl (by omega) (by show s.slotsUsed + 2 ≤ _; omega) ?_
  simp only [hfind]
  rw [ite_self, wp_bind', Std.Legacy.Range.forIn_eq_forIn_range']
  show wp (forIn (List.range' 0 2 1) PUnit.unit _) _ E e d acts _
  refine wp_forIn_inv (fun rest s' => ∃ i, i ≤ 2 ∧ rest = List.range' i (2 - i) ∧ s' = mu_f s c3 c2 c1 i) _ _ ⟨0, Nat.zero_le _, rfl, rfl⟩ ?_ ?_
  · rintro x rest s' d' acts' Q' ⟨i, hi, hl', rfl⟩ hnext
    have hlt : i < 2 := by
      rcases Nat.lt_or_ge i 2 with h | h
      · exact h
      · rw [show 2 - i = 0 from by omega] at hl'; simp at hl'
    obtain ⟨rfl, hrest⟩ : x = i ∧ rest = List.range' (i + 1) (2 - (i + 1)) := by
      rw [show 2 - i = (2 - (i + 1)) + 1 from by omega, List.range'_succ] at hl'
      exact ⟨(List.cons.inj hl').1, (List.cons.inj hl').2⟩
    obtain ⟨f1, f2, f3, f4⟩ := mu_f_facts s c3 c2 c1 x
    obtain ⟨o1, o2, o3⟩ := mu_o_facts c3 s.heap.size x
    simp only [wp_bind']
    refine Jvm.Free.Multi.wp_make2 (n := 12) (m := 4) (by rw [f3]; exact hk2) hkind2 rfl (by rw [f3]; exact hk1) hkind1 (by decide) (by decide) hl (by show ¬ 12 * 4 > _; omega) (by show ¬ 4 > _; omega) (by show ¬ 4 * 4 > _; omega) rfl rfl (by rw [f1]; show _ + 1 + 12 ≤ _; omega) (by rw [f4]; show _ + 12 + 12 * 4 ≤ _; omega) (fun d2 acts2 => ?_)
    obtain ⟨g1, g2, g3, g4⟩ := Jvm.Free.Multi.fill_facts (mu_f s c3 c2 c1 x) c2 c1 12 4 (.int 0) 12
    have hlt0 : s.heap.size < (mu_f s c3 c2 c1 x).heap.size := by rw [f1]; omega
    have hb' : (Jvm.Free.Multi.fill (mu_f s c3 c2 c1 x) c2 c1 12 4 (.int 0) 12).heap[s.heap.size]? = some (mu_o c3 s.heap.size x) := by rw [Jvm.Free.Multi.fill_old _ _ _ _ _ _ hlt0]; exact f2
    simp only [wp_bind', W.writeLoc, wp_pure']
    refine ⟨mu_o c3 s.heap.size x, hb', by rw [o2]; simp, by rw [o3]; exact hlt, ?_, hnext _ _ _ ⟨x + 1, hlt, hrest, ?_⟩⟩
    · rw [o1, o2]
      have hv : (Jvm.Free.Multi.fill (mu_f s c3 c2 c1 x) c2 c1 (Int32.toNatClampNeg 12) (Int32.toNatClampNeg 4) (defaultValue .int) (Int32.toNatClampNeg 12)).vm = s.vm := g3.trans f3
      have hfit : ∀ a : Addr, fits (.array (.array .int)) (.ref a) = true := fun _ => rfl
      unfold State.fitsSlot State.slotType?
      rw [hv]
      simp [hk3, hkind3, hfit]
    · rw [f1]
      rfl
  · rintro s' d' acts' ⟨i, hi, hl', rfl⟩
    have hiN : i = 2 := by
      rcases Nat.lt_or_ge i 2 with h | h
      · rw [show 2 - i = (2 - (i + 1)) + 1 from by omega, List.range'_succ] at hl'; cases hl'
      · omega
    subst hiN
    simp only [wp_pure']
    exact hq _ _
end MUW
section MUS
variable {p : Program} {l : Launch} {e : Env} {R : Room} {s : State} {m : MethodId} {args : Array Value} {below : List Frame} {meth : Method} {c : Code} {T : State} {locs : List Loc} {cells slots : Nat}
theorem mu_filled (X : Stand p l e R s m args below meth c T locs cells slots) (c3 c2 c1 : ClassId) : ∀ i, ∃ L : List Loc, (∀ q ∈ L, T.heap.size ≤ q.base) ∧ Stand p l e R s m args below meth c (mu_f T c3 c2 c1 i) (locs ++ L) (cells + 1 + 13 * i) (slots + 2 + i * 60)
  | 0 => by
    have h := X.pushed (mu_o c3 T.heap.size 0)
    rw [(mu_o_facts c3 T.heap.size 0).2.2] at h
    exact ⟨[], (fun q hq => (by cases hq)), by simpa [mu_f] using h⟩
  | i + 1 => by
    obtain ⟨L, hL, Xi⟩ := mu_filled X c3 c2 c1 i
    obtain ⟨f1, f2, f3, f4⟩ := mu_f_facts T c3 c2 c1 i
    have hlt : T.heap.size < (mu_f T c3 c2 c1 i).heap.size := by omega
    have X2 := Xi.filled c2 c1 12 4 (.int 0) 12
    have hb' : (Jvm.Free.Multi.fill (mu_f T c3 c2 c1 i) c2 c1 12 4 (.int 0) 12).heap[T.heap.size]? = some (mu_o c3 T.heap.size i) := by rw [Jvm.Free.Multi.fill_old _ _ _ _ _ _ hlt]; exact f2
    have h := X2.stored hb' i (.ref (T.heap.size + 1 + 13 * i))
    refine ⟨L ++ ((List.range 12).map fun j => (⟨(mu_f T c3 c2 c1 i).heap.size, j⟩ : Loc)) ++ [⟨T.heap.size, i⟩], fun q hq => ?_, ?_⟩
    · rcases List.mem_append.mp hq with h1 | h1
      · rcases List.mem_append.mp h1 with h2 | h2
        · exact hL q h2
        · obtain ⟨j, -, rfl⟩ := List.mem_map.mp h2
          show T.heap.size ≤ (mu_f T c3 c2 c1 i).heap.size
          omega
      · rcases List.mem_singleton.mp h1 with rfl
        exact Nat.le_refl _
    · have e2 : locs ++ (L ++ ((List.range 12).map fun j => (⟨(mu_f T c3 c2 c1 i).heap.size, j⟩ : Loc)) ++ [⟨T.heap.size, i⟩]) = ((locs ++ L) ++ (List.range 12).map fun j => (⟨(mu_f T c3 c2 c1 i).heap.size, j⟩ : Loc)) ++ [⟨T.heap.size, i⟩] := by simp [List.append_assoc]
      have e3 : cells + 1 + 13 * (i + 1) = cells + 1 + 13 * i + 1 + 12 := by omega
      have e4 : slots + 2 + (i + 1) * 60 = slots + 2 + i * 60 + 12 + 12 * 4 := by omega
      rw [e2, e3, e4]
      exact h
theorem mu_W {H : Heap} {Q : State → Prop} {cc : ByteArray} (hexec : p.tables.exec = Jvm.exec) (hb : c.code = cc) {own : String} {index : Nat}
    (hown : s.vm.findClass own = some m.cls) (hclink : (Cond.classLink own index "[[[I").before args s = true) (hover3 : (Cond.arrayOver (.array (.array .int))).before args s = true) (hover2 : (Cond.arrayOver (.array .int)).before args s = true) (harr : (Cond.arrayClass .int).before args s = true)
    {g : JFrame} (hg : g.method = m) (hdg : decode cc g.pc = .ok (.multianewarray index 3, 4)) {rest : List Value} (hstack : g.stack = .int 4 :: .int 12 :: .int 2 :: rest)
    (hcells : cells + 27 ≤ R.cells) (hslots : slots + 122 ≤ R.slots)
    (kk : ∀ (c3 c2 c1 c0 : ClassId) (k3 k2 k1 : Class) (H' : Heap) (locs' : List Loc), s.vm.classes[c3]? = some k3 → k3.kind = .array c2 (.array (.array .int)) → s.vm.findClass "[[[I" = some c3 → s.vm.classes[c2]? = some k2 → k2.kind = .array c1 (.array .int) → s.vm.findClass "[[I" = some c2 → s.vm.classes[c1]? = some k1 → k1.kind = .array c0 .int → s.vm.findClass "[I" = some c1 →
      H'.size = H.size + 27 → (∀ q, q < H.size → H'[q]? = H[q]?) → H'[H.size]? = some (mu_o c3 H.size 2) → (∀ j, j < 2 → H'[H.size + 1 + 13 * j]? = some (Jvm.Free.Multi.outerC c2 12 (H.size + 1 + 13 * j) 12) ∧ ∀ p, p < 12 → H'[H.size + 1 + 13 * j + 1 + p]? = some (Jvm.Free.Multi.innerC c1 4 (.int 0))) → (∀ q ∈ locs', q ∈ locs ∨ H.size ≤ q.base) →
      W p l e R s m args below meth c H' locs' (cells + 27) (slots + 122) Q { g with pc := g.pc + 4, stack := .ref H.size :: rest }) : W p l e R s m args below meth c H locs cells slots Q g := by
  intro T hT X
  subst hT; subst hb; subst hg
  have hpl : e.platform.magicAccessors = ({} : Platform).magicAccessors := by rw [X.admits.platform]
  obtain ⟨c2, c3, k3, hc2, hk3, hkind3, hname3⟩ := Cond.arrayOver_specA hover3
  obtain ⟨c1, c2', k2, hc1, hk2, hkind2, hname2⟩ := Cond.arrayOver_specA hover2
  obtain ⟨c1', k1, c0, hc1', hk1, hkind1⟩ := Cond.arrayClass_spec harr
  have e2 : c2' = c2 := Option.some.inj (hname2.symm.trans hc2)
  subst e2
  have e1 : c1' = c1 := Option.some.inj (hc1'.symm.trans hc1)
  subst e1
  obtain ⟨c9, hfc9, hcl⟩ := Cond.classLink_spec hown hclink e.platform hpl
  cases hname3.symm.trans hfc9
  obtain ⟨hg₁, hwarm₁, hready₁⟩ := State.classEntry (e := e) X.warmed hcl
  generalize T.vm.noted g.method.cls index (.cls c3) = vm₁ at hg₁ hwarm₁ hready₁
  have hal : s.vm.Alike vm₁ := hwarm₁.alike
  obtain ⟨k3', hk3', he3⟩ := hal.2.2 _ _ hk3
  obtain ⟨k2', hk2', he2⟩ := hal.2.2 _ _ hk2
  obtain ⟨k1', hk1', he1⟩ := hal.2.2 _ _ hk1
  have X₁ := X.noted hwarm₁
  obtain ⟨hr1, hr2⟩ := X.roomAbove hcells hslots
  obtain ⟨L, hL, XF⟩ := mu_filled X₁ c3 c2' c1' 2
  obtain ⟨f1, f2, f3, f4⟩ := mu_f_facts (T.setVm vm₁) c3 c2' c1' 2
  rw [show cells + 1 + 13 * 2 = cells + 27 by omega, show slots + 2 + 2 * 60 = slots + 122 by omega] at XF
  have f1 : (mu_f (T.setVm vm₁) c3 c2' c1' 2).heap.size = T.heap.size + 27 := f1.trans (by show T.heap.size + 1 + 13 * 2 = T.heap.size + 27; omega)
  obtain ⟨t', a1, b1⟩ := kk c3 c2' c1' c0 k3 k2 k1 (mu_f (T.setVm vm₁) c3 c2' c1' 2).heap (locs ++ L) hk3 hkind3 hname3 hk2 hkind2 hname2 hk1 hkind1 hc1 f1 (fun q hq => mu_f_old (T.setVm vm₁) c3 c2' c1' hq 2) f2 (fun j hj => mu_f_row (T.setVm vm₁) c3 c2' c1' 2 j hj) (fun q hq => (List.mem_append.mp hq).imp id (hL q)) (mu_f (T.setVm vm₁) c3 c2' c1' 2) rfl XF
  refine ⟨t', ?_, b1⟩
  jvm_step X.here [hexec, hdg]
  simp only [multianewarray.sem, wp_bind', W.resolveClassAt_links (State.method?_setTop g X.here.top) hg₁]
  rw [W.popN, if_neg (by decide)]
  refine ⟨g, State.topJava?_setTop' (s := T.setVm vm₁) g X.here.top, [.int 2, .int 12, .int 4], rest, rfl, hstack, ?_⟩
  simp only [List.mapM_cons, List.mapM_nil, wp_bind', wp_pure']
  refine mu_make (k3 := k3') (k2 := k2') (k1 := k1') (c2 := c2') (c1 := c1') (c0 := c0) hk3' (by rw [he3]; exact hkind3) hk2' (by rw [he2]; exact hkind2) hk1' (by rw [he1]; exact hkind1) (by rw [Launch.admits_arrayLengthLimit X.admits]; decide) (by rw [Launch.admits_maxHeapBytes X.admits]; decide) (by show T.heap.size + 27 ≤ _; omega) (by show T.slotsUsed + 122 ≤ _; omega) (fun d' acts' => ?_)
  have eS : ((T.setTop g).setVm vm₁).setTop { g with stack := rest } = (T.setVm vm₁).setTop { g with stack := rest } := by
    show ((T.setVm vm₁).setTop g).setTop _ = _
    rw [State.setTop_setTop]
  rw [eS, mu_f_setTop]
  simp only [wp_bind', W.mark, W.pushRef, State.topJava?_setTop' _ XF.here.top, Option.some.injEq, exists_eq_left', State.setTop_setTop, State.heap_setTop]
  intro acts
  simp [jvm, XF.here.top]
  exact a1
end MUS
/-! the skills' arrays beside a world: the outer one, two rows, their players' arrays -/
def skE (g : Nat → ClassId) (h k : Nat) : va_E := if k = 0 then .inl (g 4, 2, va_refs (fun j => some (h + 1 + 13 * j))) else if k = 1 ∨ k = 14 then .inl (g 3, 12, va_refs (fun j => some (h + k + 1 + j))) else .inl (g 0, 4, .inl (fun _ => 0))
def skW (g : Nat → ClassId) (h : Nat) : va_W := w6_fl 27 (fun k => h + k) (skE g h)
theorem mu_cell {a b : Cell} (h1 : a.cls = b.cls) (h2 : a.slots = b.slots) (h3 : a.vm = b.vm) (h4 : a.monitor = b.monitor) (h5 : a.hash = b.hash) : a = b := by
  cases a; cases b; simp_all
theorem mu_o_eq (c : ClassId) (h : Nat) : mu_o c h 2 = vp_cell c (2, va_refs (fun j => some (h + 1 + 13 * j))) := by
  refine mu_cell rfl ?_ rfl rfl rfl
  apply Array.ext_getElem?
  intro j
  show _ = (arrV c 2 (fun j => va_rf (some (h + 1 + 13 * j)))).slots[j]?
  by_cases hj : j < 2
  · rw [arrV_read _ _ hj]
    rcases (show j = 0 ∨ j = 1 by omega) with rfl | rfl <;> simp [mu_o, Cell.setSlot, va_rf]
  · rw [Array.getElem?_eq_none (by rw [(mu_o_facts c h 2).2.2]; omega), Array.getElem?_eq_none (by rw [arrV_size]; omega)]
theorem mu_outer_plain (c : ClassId) (N h0 : Nat) : ∀ i, (Jvm.Free.Multi.outerC c N h0 i).monitor = (arrV c 0 (fun _ => .null)).monitor ∧ (Jvm.Free.Multi.outerC c N h0 i).hash = (arrV c 0 (fun _ => .null)).hash
  | 0 => ⟨rfl, rfl⟩
  | i + 1 => mu_outer_plain c N h0 i
theorem mu_row_eq (c : ClassId) (h : Nat) : Jvm.Free.Multi.outerC c 12 h 12 = vp_cell c (12, va_refs (fun j => some (h + 1 + j))) := by
  obtain ⟨o1, o2, o3⟩ := Jvm.Free.Multi.outerC_facts c 12 h 12
  obtain ⟨p1, p2⟩ := mu_outer_plain c 12 h 12
  refine mu_cell o1 ?_ o2 p1 p2
  apply Array.ext_getElem?
  intro j
  show _ = (arrV c 12 (fun j => va_rf (some (h + 1 + j)))).slots[j]?
  by_cases hj : j < 12
  · rw [arrV_read _ _ hj, Jvm.Free.Multi.outerC_slot c 12 h 12 j hj, if_pos hj]
    rfl
  · rw [Array.getElem?_eq_none (by rw [o3]; omega), Array.getElem?_eq_none (by rw [arrV_size]; omega)]
theorem mu_in_eq (c : ClassId) : Jvm.Free.Multi.innerC c 4 (.int 0) = vp_cell c (4, .inl (fun _ => 0)) := by
  show ({ cls := c, slots := Array.replicate 4 (.int 0), vm := .none } : Cell) = arrV c 4 (fun _ => .int 0)
  exact arrV_new c 4 (.int 0)
section MUR
variable {p : Program} {l : Launch} {e : Env} {R : Room} {s : State} {m : MethodId} {args : Array Value} {below : List Frame} {meth : Method} {c : Code} {H : Heap} {locs : List Loc} {cells slots : Nat} {Q : State → Prop}
variable {cc : ByteArray} {nL pc : Nat} {ls : Array Slot} {rest : List Value} {D : va_G} {g : Nat → ClassId} {A : Nat → Prop} {ws : va_W}
theorem w6_mnew (F : w6_F p s m args c cc nL "SixWhoTurn" D g A) (I : w6_I D ws A s H locs) (hdg : decode cc pc = .ok (.multianewarray 27 3, 4)) (hcells : cells + 27 ≤ R.cells) (hslots : slots + 122 ≤ R.slots)
    (kk : ∀ (h : Nat) (H1 : Heap) (locs1 : List Loc), w6_I D (ws ++ skW g h) A s H1 locs1 → W p l e R s m args below meth c H1 locs1 (cells + 27) (slots + 122) Q (F0 m (pc + 4) ls (.ref h :: rest))) : W p l e R s m args below meth c H locs cells slots Q (F0 m pc ls (.int 4 :: .int 12 :: .int 2 :: rest)) := by
  refine mu_W F.1.1 F.1.2.1 F.1.2.2.2.1 (F.1.2.2.2.2 _ q150) F.2.2.1.1.2.2.2.2.1.use F.2.2.1.1.2.2.2.2.2.use (F.1.2.2.2.2 _ q148) rfl hdg rfl hcells hslots (fun c3 c2 c1 c0 k3 k2 k1 H' locs' hk3 hkind3 hn3 hk2 hkind2 hn2 hk1 hkind1 hn1 hz hold h0 hrow hlo => kk H.size H' locs' ?_)
  have e3 : c3 = g 4 := tyG_un (t := 4) F.2.1 rfl (show va_RA s c3 (.array (.array .int)) from hn3)
  have e2 : c2 = g 3 := tyG_un (t := 3) F.2.1 rfl (show va_RA s c2 (.array .int) from hn2)
  have e1 : c1 = g 0 := tyG_un (t := 0) F.2.1 rfl (show va_RA s c1 .int from hn1)
  subst e3 e2 e1
  have hA := F.2.2.2
  have hnew : ∀ (k : Nat) (q : Nat × va_E), (skW g H.size)[k]? = some q → q.1 = H.size + k ∧ k < 27 ∧ q.2 = skE g H.size k := by
    intro k q hq
    have hk : k < 27 := by
      have := (List.getElem?_eq_some_iff.mp hq).1
      unfold skW at this
      rw [w6_fl_len] at this
      exact this
    have h9 := w6_fl_at (ad := fun k => H.size + k) (E := skE g H.size) (wr := []) hk
    rw [List.append_nil] at h9
    unfold skW at hq
    rw [h9] at hq
    cases hq
    exact ⟨rfl, hk, rfl⟩
  refine ⟨va_P.app (I.1.kept (fun k q hk => hold q.1 ((I.1 k q hk).lt))) (fun k q hk => ?_), va_D.app I.2.1 ⟨fun i j x y hi hj hxy => ?_, fun k q hk => ?_⟩ (fun i j x y hx hy hxy => ?_), ⟨Nat.le_trans I.2.2.1 (by omega), fun q h1 h2 => (hold q (Nat.lt_of_lt_of_le h1 I.2.2.1)).trans (I.2.2.2.1 q h1 h2), fun q hq => ?_⟩⟩
  · obtain ⟨a1, a2, a3⟩ := hnew k q hk
    obtain ⟨qa, qe⟩ := q
    subst a1 a3
    unfold skE
    by_cases hk0 : k = 0
    · subst hk0
      rw [if_pos rfl]
      show H'[H.size + 0]? = some (vp_cell _ _)
      rw [← mu_o_eq]
      exact h0
    · rw [if_neg hk0]
      by_cases hk1 : k = 1 ∨ k = 14
      · rw [if_pos hk1]
        show H'[H.size + k]? = some (vp_cell _ _)
        rw [← mu_row_eq]
        rcases hk1 with rfl | rfl
        · exact (hrow 0 (by decide)).1
        · exact (hrow 1 (by decide)).1
      · rw [if_neg hk1]
        show H'[H.size + k]? = some (vp_cell _ _)
        rw [← mu_in_eq]
        rcases Nat.lt_or_ge k 14 with h | h
        · have := (hrow 0 (by decide)).2 (k - 2) (by omega)
          rw [show H.size + 1 + 13 * 0 + 1 + (k - 2) = H.size + k by omega] at this
          exact this
        · have := (hrow 1 (by decide)).2 (k - 15) (by omega)
          rw [show H.size + 1 + 13 * 1 + 1 + (k - 15) = H.size + k by omega] at this
          exact this
  · obtain ⟨a1, -, -⟩ := hnew i x hi
    obtain ⟨b1, -, -⟩ := hnew j y hj
    rw [a1, b1] at hxy
    omega
  · obtain ⟨a1, -, -⟩ := hnew k q hk
    rw [a1]
    exact hA _ (Nat.le_trans I.2.2.1 (by omega))
  · obtain ⟨b1, -, -⟩ := hnew j y hy
    have := (I.1 i x hx).lt
    omega
  · rcases hlo q hq with h | h
    · exact I.2.2.2.2 q h
    · exact hA _ (Nat.le_trans I.2.2.1 h)
/-- new Side[n] -/
theorem w6_newS {n : Int32} {n' : Nat} (F : w6_F p s m args c cc nL "SixWhoTurn" D g A) (I : w6_I D ws A s H locs) (hn : ¬ n < 0) (hN : n.toNatClampNeg = n') (hbytes : n' * 4 ≤ 536870912) (hcells : cells + 1 ≤ R.cells) (hslots : slots + n' ≤ R.slots) (hdg : decode cc pc = .ok (.anewarray 17, 3))
    (kk : ∀ (q : Nat) (H1 : Heap), w6_I D (ws ++ [(q, .inl (g 2, n', va_refs (fun _ => none)))]) A s H1 locs → W p l e R s m args below meth c H1 locs (cells + 1) (slots + n') Q (F0 m (pc + 3) ls (.ref q :: rest))) : W p l e R s m args below meth c H locs cells slots Q (F0 m pc ls (.int n :: rest)) := by
  refine va_newq F.1.1 F.1.2.1 F.1.2.2.2.1 (F.1.2.2.2.2 _ q75) F.2.2.1.1.2.2.1 F.2.1 I.1 I.2.1 I.2.2 F.2.2.2 hn hN hbytes hcells hslots hdg (fun q cA H1 hK hP hD hS => ?_)
  have h9 : (tyG g ++ [(cA, .object RX2)])[(tyG g).length]? = some (cA, .object RX2) := by simp
  have hc : cA = g 2 := tyG_un (t := 2) (ty := .object RX2) F.2.1 rfl (hK.2 _ _ h9).2
  subst hc
  exact kk q H1 ⟨hP, hD, hS⟩
theorem w6_I.reref {i a n : Nat} {cA : ClassId} {f f' : Nat → Option Nat} (I : w6_I D ws A s H locs) (h : ws[i]? = some (a, .inl (cA, n, va_refs f))) (he : ∀ j, j < n → f j = f' j) : w6_I D (ws.set i (a, .inl (cA, n, va_refs f'))) A s H locs := by
  refine ⟨I.1.set I.2.1 h ?_ (fun _ _ => rfl), I.2.1.set h, I.2.2⟩
  have h1 : H[a]? = some (vp_cell cA (n, va_refs f)) := I.1 i _ h
  show H[a]? = some (vp_cell cA (n, va_refs f'))
  rw [h1]
  congr 1
  show arrV cA n (fun j => va_rf (f j)) = arrV cA n (fun j => va_rf (f' j))
  unfold arrV
  congr 1
  congr 1
  funext j
  exact congrArg va_rf (he j.val j.isLt)
end MUR
