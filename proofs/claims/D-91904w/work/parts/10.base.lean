/-! the memory as numbers: cell k, place j; the model's table of longs beside it -/
abbrev Mm : Type := (Nat → Nat → Int32) × (Nat → Int64)
def mset (V : Mm) (k j : Nat) (v : Int32) : Mm := (fun a b => if a = k ∧ b = j then v else V.1 a b, V.2)
def mrow (V : Mm) (k : Nat) (f : Nat → Int32) : Mm := (fun a b => if a = k then f b else V.1 a b, V.2)
def lset (V : Mm) (j : Nat) (v : Int64) : Mm := (V.1, fun b => if b = j then v else V.2 b)
def lt_ {α β : Type} (a : α) (f : α → β) : β := f a
def gd_ {β : Type} (c : Prop) [Decidable c] (b : Option β) : Option β := if c then b else none
theorem lt_e {α β : Type} {a : α} {f : α → β} {r : β} (h : lt_ a f = r) : ∃ x, x = a ∧ f x = r := ⟨a, rfl, h⟩
theorem gd_e {β : Type} {c : Prop} [Decidable c] {b : Option β} {r : β} (h : gd_ c b = some r) : c ∧ b = some r := by
  unfold gd_ at h
  split at h
  · exact ⟨by assumption, h⟩
  · cases h
theorem bn_e {α β : Type} {a : Option α} {f : α → Option β} {r : β} (h : a.bind f = some r) : ∃ x, a = some x ∧ f x = some r := by
  cases a with
  | none => cases h
  | some x => exact ⟨x, rfl, h⟩
theorem if_p {α : Type} {c : Prop} [Decidable c] {a b r : α} (hc : c) (h : (if c then a else b) = r) : a = r := by rw [if_pos hc] at h; exact h
theorem if_n {α : Type} {c : Prop} [Decidable c] {a b r : α} (hc : ¬ c) (h : (if c then a else b) = r) : b = r := by rw [if_neg hc] at h; exact h
theorem mset_row (V : Mm) (k j : Nat) (v : Int32) : (mset V k j v).1 k = upd (V.1 k) j v := by
  funext b
  simp [mset, upd]
theorem mset_ne (V : Mm) {k a : Nat} (j : Nat) (v : Int32) (h : a ≠ k) : (mset V k j v).1 a = V.1 a := by
  funext b
  simp [mset, h]
theorem mrow_row (V : Mm) (k : Nat) (f : Nat → Int32) : (mrow V k f).1 k = f := by
  funext b
  simp [mrow]
theorem mrow_ne (V : Mm) {k a : Nat} (f : Nat → Int32) (h : a ≠ k) : (mrow V k f).1 a = V.1 a := by
  funext b
  simp [mrow, h]
/-! worlds: n cells at the addresses ad, their contents by place -/
def w6_fl (n : Nat) (ad : Nat → Nat) (E : Nat → va_E) : va_W := (List.range n).map fun k => (ad k, E k)
theorem w6_fl_at {n : Nat} {ad : Nat → Nat} {E : Nat → va_E} {wr : va_W} {k : Nat} (h : k < n) : (w6_fl n ad E ++ wr)[k]? = some (ad k, E k) := by
  unfold w6_fl
  rw [List.getElem?_append_left (by simpa using h)]
  simp [h]
theorem w6_fl_len (n : Nat) (ad : Nat → Nat) (E : Nat → va_E) : (w6_fl n ad E).length = n := by simp [w6_fl]
theorem w6_fl_set {n : Nat} {ad : Nat → Nat} {E E' : Nat → va_E} {wr : va_W} {k : Nat} {e : va_E} (h : k < n) (he : E' k = e) (ho : ∀ j, j < n → j ≠ k → E' j = E j) : (w6_fl n ad E ++ wr).set k (ad k, e) = w6_fl n ad E' ++ wr := by
  rw [List.set_append_left _ _ (by rw [w6_fl_len]; exact h)]
  congr 1
  apply List.ext_getElem?
  intro j
  by_cases hj : j < n
  · by_cases hk : j = k
    · subst hk
      rw [List.getElem?_set_self (by rw [w6_fl_len]; exact h)]
      unfold w6_fl
      simp [hj, he]
    · rw [List.getElem?_set_ne (Ne.symm hk)]
      unfold w6_fl
      simp [hj, ho j hj hk]
  · rw [List.getElem?_eq_none (by rw [List.length_set, w6_fl_len]; omega), List.getElem?_eq_none (by rw [w6_fl_len]; omega)]
theorem w6_fl_ext {n : Nat} {ad ad' : Nat → Nat} {E E' : Nat → va_E} (h : ∀ k, k < n → ad k = ad' k ∧ E k = E' k) : w6_fl n ad E = w6_fl n ad' E' := by
  unfold w6_fl
  apply List.map_congr_left
  intro k hk
  obtain ⟨h1, h2⟩ := h k (List.mem_range.mp hk)
  rw [h1, h2]
/-! the system's cells -/
abbrev va_refs (f : Nat → Option Nat) : (Nat → Int32) ⊕ (Nat → Int64) ⊕ (Nat → UInt32) ⊕ (Nat → UInt64) ⊕ (Nat → Option Nat) := .inr (.inr (.inr (.inr f)))
def xo (ad : Nat → Nat) (f : Nat → Int32) : List Value := [.ref (ad 1), .ref (ad 2), .ref (ad 39), .ref (ad 66), .int (f 4), .int (f 5), .int (f 6), .int (f 7), .int (f 8), .int (f 9), .int (f 10), .ref (ad 67), .int (f 12), .int (f 13), .int (f 14), .int (f 15), .int (f 16), .int (f 17), .int (f 18), .int (f 19), .int (f 20), .ref (ad 68), .ref (ad 69), .ref (ad 70), .int (f 24)]
def so (k : Nat) (ad : Nat → Nat) (f : Nat → Int32) : List Value := [.ref (ad (k + 1)), .ref (ad (k + 2)), .ref (ad (k + 3)), .ref (ad (k + 4)), .ref (ad (k + 5)), .ref (ad (k + 6)), .ref (ad (k + 7)), .ref (ad (k + 8)), .int (f 8), .int (f 9), .int (f 10), .int (f 11), .int (f 12), .int (f 13), .int (f 14), .int (f 15), .int (f 16)]
def slen (r : Nat) : Nat := if r = 3 ∨ r = 4 ∨ r = 7 ∨ r = 8 then 12 else 6
def xlen (k : Nat) : Nat := if k = 66 then 6 else if k = 67 then 100 else if k = 68 then 72 else if k = 69 then 69192 else 1
def ssh (g : Nat → ClassId) (ad : Nat → Nat) (V : Mm) (k r : Nat) : va_E :=
  if r = 0 then .inr (1, so k ad (V.1 k)) else .inl (if r < 7 then g 0 else g 1, slen r, .inl (V.1 k))
def xsh (g : Nat → ClassId) (ad : Nat → Nat) (V : Mm) (k : Nat) : va_E :=
  if k = 0 then .inr (0, xo ad (V.1 k))
  else if k = 1 then .inl (g 2, 2, va_refs (fun j => some (ad (3 + 9 * j))))
  else if k = 2 then .inl (g 2, 2, va_refs (fun j => some (ad (21 + 9 * j))))
  else if k < 39 then ssh g ad V k ((k - 3) % 9)
  else if k = 39 then .inl (g 4, 2, va_refs (fun j => some (ad (40 + j))))
  else if k < 42 then .inl (g 3, 12, va_refs (fun j => some (ad (42 + 12 * (k - 40) + j))))
  else if k < 66 then .inl (g 0, 4, .inl (V.1 k))
  else .inl (g 0, xlen k, .inl (V.1 k))
def mo (ad : Nat → Nat) (f : Nat → Int32) : List Value := [.ref (ad 1), .ref (ad 2), .ref (ad 3), .ref (ad 4), .ref (ad 5), .ref (ad 6), .ref (ad 7), .ref (ad 8), .ref (ad 9), .ref (ad 10), .int (f 10), .int (f 11), .int (f 12), .int (f 13), .ref (ad 11), .ref (ad 12), .ref (ad 13), .ref (ad 14)]
def mlen (k : Nat) : Nat := if k = 1 then 96 else if k = 2 then 2 else if k = 3 then 6 else if k = 4 then 12 else if k = 5 then 2 else if k = 6 then 106 else if k = 7 then 106 else if k = 8 then 12 else if k = 9 then 12 else if k = 10 then 100 else if k = 11 then 6 else if k = 12 then 12 else 72
def msh (g : Nat → ClassId) (ad : Nat → Nat) (V : Mm) (k : Nat) : va_E :=
  if k = 0 then .inr (2, mo ad (V.1 k))
  else if k = 14 then .inl (g 6, 69192, .inr (.inl V.2))
  else .inl (if k = 5 then g 1 else if k = 10 then g 5 else g 0, mlen k, .inl (V.1 k))
abbrev w6_Sh : Type := (Nat → ClassId) → (Nat → Nat) → Mm → Nat → va_E
def w6_w (sh : w6_Sh) (n : Nat) (g : Nat → ClassId) (ad : Nat → Nat) (V : Mm) : va_W := w6_fl n ad (sh g ad V)
abbrev xw (g : Nat → ClassId) (ad : Nat → Nat) (V : Mm) : va_W := w6_w xsh 71 g ad V
abbrev mw (g : Nat → ClassId) (ad : Nat → Nat) (V : Mm) : va_W := w6_w msh 15 g ad V
/-- a cell's contents hang on its own row (and the longs) -/
def w6_Lc (sh : w6_Sh) : Prop := ∀ (g : Nat → ClassId) (ad : Nat → Nat) (V V' : Mm) (j : Nat), V.1 j = V'.1 j → V.2 = V'.2 → sh g ad V j = sh g ad V' j
theorem xsh_lc : w6_Lc xsh := by
  intro g ad V V' j h1 h2
  unfold xsh ssh
  rw [h1]
theorem msh_lc : w6_Lc msh := by
  intro g ad V V' j h1 h2
  unfold msh
  rw [h1, h2]
/-- cell k is an array of kind t (0: int, 1: boolean, 5: byte) of n places that holds row k -/
def w6_Ar (sh : w6_Sh) (N k t n : Nat) : Prop := k < N ∧ ∀ (g : Nat → ClassId) (ad : Nat → Nat) (V : Mm), sh g ad V k = .inl (g t, n, .inl (V.1 k))
/-- cell k is an array of references of kind t -/
def w6_Rf (sh : w6_Sh) (N k t n : Nat) (f : Nat → Nat) : Prop := k < N ∧ ∀ (g : Nat → ClassId) (ad : Nat → Nat) (V : Mm), sh g ad V k = .inl (g t, n, va_refs (fun j => some (ad (f j))))
/-- cell k is an object of class ci -/
def w6_Ob (sh : w6_Sh) (N k ci : Nat) (fs : (Nat → Nat) → (Nat → Int32) → List Value) : Prop := k < N ∧ ∀ (g : Nat → ClassId) (ad : Nat → Nat) (V : Mm), sh g ad V k = .inr (ci, fs ad (V.1 k))
def isSide (k : Nat) : Prop := k = 3 ∨ k = 12 ∨ k = 21 ∨ k = 30
theorem isSide_s {t : Nat} (h : t < 2) : isSide (3 + 9 * t) := by unfold isSide; omega
theorem isSide_k {t : Nat} (h : t < 2) : isSide (21 + 9 * t) := by unfold isSide; omega
theorem xo_ob : w6_Ob xsh 71 0 0 xo := ⟨by decide, fun _ _ _ => rfl⟩
theorem mo_ob : w6_Ob msh 15 0 2 mo := ⟨by decide, fun _ _ _ => rfl⟩
theorem so_ob {k : Nat} (h : isSide k) : w6_Ob xsh 71 k 1 (so k) := by
  rcases h with rfl | rfl | rfl | rfl <;> exact ⟨by decide, fun _ _ _ => rfl⟩
theorem x_sides : w6_Rf xsh 71 1 2 2 (fun j => 3 + 9 * j) := ⟨by decide, fun _ _ _ => rfl⟩
theorem x_kept : w6_Rf xsh 71 2 2 2 (fun j => 21 + 9 * j) := ⟨by decide, fun _ _ _ => rfl⟩
theorem x_skt : w6_Rf xsh 71 39 4 2 (fun j => 40 + j) := ⟨by decide, fun _ _ _ => rfl⟩
theorem x_skp {t : Nat} (h : t < 2) : w6_Rf xsh 71 (40 + t) 3 12 (fun j => 42 + 12 * t + j) := by
  rcases (show t = 0 ∨ t = 1 by omega) with rfl | rfl <;> exact ⟨by decide, fun _ _ _ => rfl⟩
theorem x_skl {t p : Nat} (h : t < 2) (hp : p < 12) : w6_Ar xsh 71 (42 + 12 * t + p) 0 4 := by
  refine ⟨by omega, fun g ad V => ?_⟩
  unfold xsh
  rw [if_neg (by omega), if_neg (by omega), if_neg (by omega), if_neg (by omega), if_neg (by omega), if_neg (by omega), if_pos (by omega)]
theorem x_ar (k n : Nat) (h : 66 ≤ k ∧ k < 71) (hn : xlen k = n) : w6_Ar xsh 71 k 0 n := by
  refine ⟨by omega, fun g ad V => ?_⟩
  unfold xsh
  rw [if_neg (by omega), if_neg (by omega), if_neg (by omega), if_neg (by omega), if_neg (by omega), if_neg (by omega), if_neg (by omega), hn]
theorem s_ar {k : Nat} (h : isSide k) (r n : Nat) (hr : 1 ≤ r ∧ r < 7) (hn : slen r = n) : w6_Ar xsh 71 (k + r) 0 n := by
  unfold isSide at h
  refine ⟨by omega, fun g ad V => ?_⟩
  unfold xsh ssh
  rw [if_neg (by omega), if_neg (by omega), if_neg (by omega), if_pos (by omega), show (k + r - 3) % 9 = r by omega, if_neg (by omega), if_pos (by omega), hn]
theorem s_az {k : Nat} (h : isSide k) (r n : Nat) (hr : 7 ≤ r ∧ r < 9) (hn : slen r = n) : w6_Ar xsh 71 (k + r) 1 n := by
  unfold isSide at h
  refine ⟨by omega, fun g ad V => ?_⟩
  unfold xsh ssh
  rw [if_neg (by omega), if_neg (by omega), if_neg (by omega), if_pos (by omega), show (k + r - 3) % 9 = r by omega, if_neg (by omega), if_neg (by omega), hn]
theorem m_ar (k n : Nat) (h : (1 ≤ k ∧ k < 14) ∧ k ≠ 5 ∧ k ≠ 10) (hn : mlen k = n) : w6_Ar msh 15 k 0 n := by
  refine ⟨by omega, fun g ad V => ?_⟩
  unfold msh
  rw [if_neg (by omega), if_neg (by omega), if_neg (by omega), if_neg (by omega), hn]
theorem m_az : w6_Ar msh 15 5 1 2 := ⟨by decide, fun _ _ _ => rfl⟩
theorem m_ab : w6_Ar msh 15 10 5 100 := ⟨by decide, fun _ _ _ => rfl⟩
/-! fields that hold numbers -/
def w6_Nf (fs : (Nat → Nat) → (Nat → Int32) → List Value) (j : Nat) : Prop := ∀ (ad : Nat → Nat) (f : Nat → Int32) (v : Int32), j < (fs ad f).length ∧ (fs ad f).set j (.int v) = fs ad (upd f j v)
theorem xo_nf (j : Nat) (h : (4 ≤ j ∧ j < 11) ∨ (12 ≤ j ∧ j < 21) ∨ j = 24) : w6_Nf xo j := by
  intro ad f v
  refine ⟨by show j < 25; omega, ?_⟩
  rcases (show j = 4 ∨ j = 5 ∨ j = 6 ∨ j = 7 ∨ j = 8 ∨ j = 9 ∨ j = 10 ∨ j = 12 ∨ j = 13 ∨ j = 14 ∨ j = 15 ∨ j = 16 ∨ j = 17 ∨ j = 18 ∨ j = 19 ∨ j = 20 ∨ j = 24 by omega) with rfl | rfl | rfl | rfl | rfl | rfl | rfl | rfl | rfl | rfl | rfl | rfl | rfl | rfl | rfl | rfl | rfl <;> rfl
theorem so_nf (k j : Nat) (h : 8 ≤ j ∧ j < 17) : w6_Nf (so k) j := by
  intro ad f v
  refine ⟨by show j < 17; omega, ?_⟩
  rcases (show j = 8 ∨ j = 9 ∨ j = 10 ∨ j = 11 ∨ j = 12 ∨ j = 13 ∨ j = 14 ∨ j = 15 ∨ j = 16 by omega) with rfl | rfl | rfl | rfl | rfl | rfl | rfl | rfl | rfl <;> rfl
theorem mo_nf (j : Nat) (h : 10 ≤ j ∧ j < 14) : w6_Nf mo j := by
  intro ad f v
  refine ⟨by show j < 18; omega, ?_⟩
  rcases (show j = 10 ∨ j = 11 ∨ j = 12 ∨ j = 13 by omega) with rfl | rfl | rfl | rfl <;> rfl
