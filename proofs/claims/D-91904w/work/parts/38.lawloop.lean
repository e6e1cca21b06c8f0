/-! what the plain law owes: each call keeps the relation and answers alike -/
def S6_skill (Rel : Nat → Mm → Mm → Prop) : Prop := ∀ (N : Nat) (V U : Mm) (a1 a2 a3 a4 : Int32), N < 64 → Rel N V U → ∃ (r : Int32) (V' U' : Mm), x_skill V a1 a2 a3 a4 = some (r, V') ∧ m_skill U a1 a2 a3 a4 = some (r, U') ∧ Rel (N + 1) V' U'
def S6_libre (Rel : Nat → Mm → Mm → Prop) : Prop := ∀ (N : Nat) (V U : Mm) (a1 a2 : Int32), N < 64 → Rel N V U → ∃ (r : Int32) (V' U' : Mm), x_libre V a1 a2 = some (r, V') ∧ m_libre U a1 a2 = some (r, U') ∧ Rel (N + 1) V' U'
def S6_set (Rel : Nat → Mm → Mm → Prop) : Prop := ∀ (N : Nat) (V U : Mm) (a1 a2 : Int32), N < 64 → Rel N V U → ∃ (r : Int32) (V' U' : Mm), x_set V a1 a2 = some (r, V') ∧ m_set U a1 a2 = some (r, U') ∧ Rel (N + 1) V' U'
def S6_lineUp (Rel : Nat → Mm → Mm → Prop) : Prop := ∀ (N : Nat) (V U : Mm) (a1 a2 a3 a4 a5 a6 a7 : Int32), N < 64 → Rel N V U → ∃ (r : Int32) (V' U' : Mm), x_lineUp V a1 a2 a3 a4 a5 a6 a7 = some (r, V') ∧ m_lineUp U a1 a2 a3 a4 a5 a6 a7 = some (r, U') ∧ Rel (N + 1) V' U'
def S6_begin (Rel : Nat → Mm → Mm → Prop) : Prop := ∀ (N : Nat) (V U : Mm) (a1 : Int32), N < 64 → Rel N V U → ∃ (r : Int32) (V' U' : Mm), x_begin V a1 = some (r, V') ∧ m_begin U a1 = some (r, U') ∧ Rel (N + 1) V' U'
def S6_rally (Rel : Nat → Mm → Mm → Prop) : Prop := ∀ (N : Nat) (V U : Mm) (a1 : Int32), N < 64 → Rel N V U → ∃ (r : Int32) (V' U' : Mm), x_rally V a1 = some (r, V') ∧ m_rally U a1 = some (r, U') ∧ Rel (N + 1) V' U'
def S6_may (Rel : Nat → Mm → Mm → Prop) : Prop := ∀ (N : Nat) (V U : Mm) (a1 a2 a3 : Int32), N < 64 → Rel N V U → ∃ (r : Int32) (V' U' : Mm), x_may V a1 a2 a3 = some (r, V') ∧ m_may U a1 a2 a3 = some (r, U') ∧ Rel (N + 1) V' U'
def S6_change (Rel : Nat → Mm → Mm → Prop) : Prop := ∀ (N : Nat) (V U : Mm) (a1 a2 a3 : Int32), N < 64 → Rel N V U → ∃ (r : Int32) (V' U' : Mm), x_change V a1 a2 a3 = some (r, V') ∧ m_change U a1 a2 a3 = some (r, U') ∧ Rel (N + 1) V' U'
def S6_free (Rel : Nat → Mm → Mm → Prop) : Prop := ∀ (N : Nat) (V U : Mm) (a1 a2 : Int32), N < 64 → Rel N V U → ∃ (r : Int32) (V' U' : Mm), x_free V a1 a2 = some (r, V') ∧ m_free U a1 a2 = some (r, U') ∧ Rel (N + 1) V' U'
def S6_pause (Rel : Nat → Mm → Mm → Prop) : Prop := ∀ (N : Nat) (V U : Mm) (a1 : Int32), N < 64 → Rel N V U → ∃ (r : Int32) (V' U' : Mm), x_pause V a1 = some (r, V') ∧ m_pause U a1 = some (r, U') ∧ Rel (N + 1) V' U'
def S6_wrong (Rel : Nat → Mm → Mm → Prop) : Prop := ∀ (N : Nat) (V U : Mm) (a1 : Int32), N < 64 → Rel N V U → ∃ (r : Int32) (V' U' : Mm), x_wrong V a1 = some (r, V') ∧ m_wrong U a1 = some (r, U') ∧ Rel (N + 1) V' U'
def S6_at (Rel : Nat → Mm → Mm → Prop) : Prop := ∀ (N : Nat) (V U : Mm) (a1 a2 : Int32), N < 64 → Rel N V U → ∃ (r : Int32) (V' U' : Mm), x_at V a1 a2 = some (r, V') ∧ m_at U a1 a2 = some (r, U') ∧ Rel (N + 1) V' U'
def S6_of (Rel : Nat → Mm → Mm → Prop) : Prop := ∀ (N : Nat) (V U : Mm) (a1 a2 : Int32), N < 64 → Rel N V U → ∃ (r : Int32) (V' U' : Mm), x_of V a1 a2 = some (r, V') ∧ m_of U a1 a2 = some (r, U') ∧ Rel (N + 1) V' U'
def S6_count (Rel : Nat → Mm → Mm → Prop) : Prop := ∀ (N : Nat) (V U : Mm) (a1 : Int32), N < 64 → Rel N V U → ∃ (r : Int32) (V' U' : Mm), x_count V a1 = some (r, V') ∧ m_count U a1 = some (r, U') ∧ Rel (N + 1) V' U'
def S6_served (Rel : Nat → Mm → Mm → Prop) : Prop := ∀ (N : Nat) (V U : Mm) (a1 a2 : Int32), N < 64 → Rel N V U → ∃ (r : Int32) (V' U' : Mm), x_served V a1 a2 = some (r, V') ∧ m_served U a1 a2 = some (r, U') ∧ Rel (N + 1) V' U'
def S6_feet (Rel : Nat → Mm → Mm → Prop) : Prop := ∀ (N : Nat) (V U : Mm) (a1 a2 a3 a4 : Int32), N < 64 → Rel N V U → ∃ (r : Int32) (V' U' : Mm), x_feet V a1 a2 a3 a4 = some (r, V') ∧ m_feet U a1 a2 a3 a4 = some (r, U') ∧ Rel (N + 1) V' U'
def S6_overlap (Rel : Nat → Mm → Mm → Prop) : Prop := ∀ (N : Nat) (V U : Mm) (a1 : Int32), N < 64 → Rel N V U → ∃ (r : Int32) (V' U' : Mm), x_overlap V a1 = some (r, V') ∧ m_overlap U a1 = some (r, U') ∧ Rel (N + 1) V' U'
def S6_sign (Rel : Nat → Mm → Mm → Prop) : Prop := ∀ (N : Nat) (V U : Mm) (a1 : Int32), N < 64 → Rel N V U → ∃ (r : Int32) (V' U' : Mm), x_sign V a1 = some (r, V') ∧ m_sign U a1 = some (r, U') ∧ Rel (N + 1) V' U'
def S6_end (Rel : Nat → Mm → Mm → Prop) : Prop := ∀ (N : Nat) (V U : Mm) (a1 : Int32), N < 64 → Rel N V U → ∃ (r : Int32) (V' U' : Mm), x_end V a1 = some (r, V') ∧ m_end U a1 = some (r, U') ∧ Rel (N + 1) V' U'
def S6_sheet (Rel : Nat → Mm → Mm → Prop) : Prop := ∀ (N : Nat) (V U : Mm), N < 64 → Rel N V U → ∃ (r : Int32) (V' U' : Mm), x_sheet V = some (r, V') ∧ m_sheet U = some (r, U') ∧ Rel (N + 1) V' U'
def S6_odds (Rel : Nat → Mm → Mm → Prop) : Prop := ∀ (N : Nat) (V U : Mm) (a1 a2 a3 : Int32), N < 64 → Rel N V U → ∃ (r : Int32) (V' U' : Mm), x_odds V a1 a2 a3 = some (r, V') ∧ m_odds U a1 a2 a3 = some (r, U') ∧ Rel (N + 1) V' U'
def S6_chance (Rel : Nat → Mm → Mm → Prop) : Prop := ∀ (N : Nat) (V U : Mm), N < 64 → Rel N V U → ∃ (r : Int32) (V' U' : Mm), x_chance V = some (r, V') ∧ m_chance U = some (r, U') ∧ Rel (N + 1) V' U'
def S6_weight (Rel : Nat → Mm → Mm → Prop) : Prop := ∀ (N : Nat) (V U : Mm), N < 64 → Rel N V U → ∃ (r : Int32) (V' U' : Mm), x_weight V = some (r, V') ∧ m_weight U = some (r, U') ∧ Rel (N + 1) V' U'
def S6_turn (Rel : Nat → Mm → Mm → Prop) : Prop := ∀ (N : Nat) (V U : Mm) (a1 a2 : Int32), N < 64 → Rel N V U → ∃ (r : Int32) (V' U' : Mm), x_turn V a1 a2 = some (r, V') ∧ m_turn_2 U a1 a2 = some (r, U') ∧ Rel (N + 1) V' U'
def S6_advice (Rel : Nat → Mm → Mm → Prop) : Prop := ∀ (N : Nat) (V U : Mm) (a1 : Int32), N < 64 → Rel N V U → ∃ (r : Int32) (V' U' : Mm), x_advice V a1 = some (r, V') ∧ m_advice U a1 = some (r, U') ∧ Rel (N + 1) V' U'
def S6_row (Rel : Nat → Mm → Mm → Prop) : Prop := ∀ (N : Nat) (V U : Mm) (a1 : Int32), N < 64 → Rel N V U → (px_in a1.toInt64 0 ((V.1 0 24 - 1).toInt64) = 0 ∧ ∃ (q : Int32) (U2 U' : Mm), m_row U a1 = some (q, U2) ∧ m_thrown U2 = some (1, U') ∧ Rel (N + 1) V U') ∨
    (¬ px_in a1.toInt64 0 ((V.1 0 24 - 1).toInt64) = 0 ∧ ix_ a1 1 ∧ ∃ (U2 U' : Mm), m_row U a1 = some (V.1 70 a1.toNatClampNeg, U2) ∧ m_thrown U2 = some (0, U') ∧ Rel (N + 1) V U')
def S6_idle (Rel : Nat → Mm → Mm → Prop) : Prop := ∀ (N : Nat) (V U : Mm), N < 64 → Rel N V U → Rel (N + 1) V U
def Steps6 (Rel : Nat → Mm → Mm → Prop) : Prop := S6_skill Rel ∧ S6_libre Rel ∧ S6_set Rel ∧ S6_lineUp Rel ∧ S6_begin Rel ∧ S6_rally Rel ∧ S6_may Rel ∧ S6_change Rel ∧ S6_free Rel ∧ S6_pause Rel ∧ S6_wrong Rel ∧ S6_at Rel ∧ S6_of Rel ∧ S6_count Rel ∧ S6_served Rel ∧ S6_feet Rel ∧ S6_overlap Rel ∧ S6_sign Rel ∧ S6_end Rel ∧ S6_sheet Rel ∧ S6_odds Rel ∧ S6_chance Rel ∧ S6_weight Rel ∧ S6_turn Rel ∧ S6_advice Rel ∧ S6_row Rel ∧ S6_idle Rel
theorem law_j8 (j : Nat) : nI j + Int32.ofInt 8 = nI (j + 8) := nI_add j 8
theorem law_more {j L : Nat} (hL : L ≤ 512) (h : ¬ Int32.ofNat L - (8 : Int32) < nI j) (hj : j ≤ 512) : j + 8 ≤ L := by
  rw [Int32.lt_iff_toInt_lt, Int32.toInt_sub, nI_toInt (by omega), show (Int32.ofNat L).toInt = L from nI_toInt (by omega), show (8 : Int32).toInt = 8 from rfl] at h
  have e : ((L : Int) - 8).bmod (2 ^ 32) = L - 8 := by
    rw [Int.bmod_eq_of_le] <;> omega
  rw [e] at h
  omega
set_option maxHeartbeats 4000000 in
theorem law_loop {p : Program} {l : Launch} {e : Env} {s : State} {m : MethodId} {below : List Frame} {meth : Method} {c : Code} {b L : Nat} {xs : Nat → Int32} {D : va_G} {g : Nat → ClassId} {ad bd : Nat → Nat} {o : Nat} {Rel : Nat → Mm → Mm → Prop} (hl0 : l.stackTraces = false) (St : Steps6 Rel) (X : LX p s m meth c b L xs D g) :
    ∀ (n N : Nat), 64 < N + n → ∀ (V U : Mm) (fL : Nat → Int64) (H : Heap) (locs : List Loc) (ls : Array Slot) (cells slots : Nat), cells ≤ 1000 + 100 * N → slots ≤ 200000 + 600 * N → 8 * N ≤ L → Rel N V U → w6_I D (LW g ad V bd U o fL) (LA s) s H locs → lv_has ls 7 (Ll b (ad 0) (bd 0) o (8 * N)) →
      W p l e room_1 s m #[Value.ref b] below meth c H locs cells slots (lw_Z below #[Value.ref b] s) (F0 m 23 ls []) := by
  obtain ⟨F, hX, hbl, hL, hr, hlocks, hXN⟩ := id X
  obtain ⟨s_skill, s_libre, s_set, s_lineUp, s_begin, s_rally, s_may, s_change, s_free, s_pause, s_wrong, s_at, s_of, s_count, s_served, s_feet, s_overlap, s_sign, s_end, s_sheet, s_odds, s_chance, s_weight, s_turn, s_advice, s_row, s_idle⟩ := St
  have hx := F.1.1
  have hb := F.1.2.1
  intro n
  induction n with
  | zero =>
    intro N hN V U fL H locs ls cells slots hc hs h8
    omega
  | succ n ih =>
    intro N hN V U fL H locs ls cells slots hc hs h8 hR I hl
    refine lv_iload hx hb dL_law_23 (lv_at hl 4 rfl) ?_
    refine lv_aload_n hx hb dL_law_25 rfl (lv_at hl 0 rfl) ?_
    refine va_slen hx hb hX hbl (Nat.not_le.mpr hbl) I.2.2 dL_law_26 ?_
    refine lv_bipush (v := (8 : Int32)) hx hb dL_law_27 (by decide) ?_
    refine lv_isub hx hb dL_law_29 ?_
    refine lv_icmp_gt (tgt := 1115) hx hb dL_law_30 (by decide) (fun c9 => ?_) (fun c9 => ?_)
    · refine lv_iconst (v := (1 : Int32)) hx hb dL_law_1115 (by decide) ?_
      refine va_forget (fun q hq => I.2.2.2.2 q hq) ?_
      exact W.widen (by omega) (by omega) (lw_ret hx hb hr hlocks dL_law_1116)
    · have hj : 8 * N + 8 ≤ L := law_more hL c9 (by omega)
      have hN64 : N < 64 := by omega
      have hc1 : cells + 100 ≤ room_1.cells := by show cells + 100 ≤ 601024; omega
      have hs1 : slots + 600 ≤ room_1.slots := by show slots + 600 ≤ 7293034; omega
      have next : ∀ (V U : Mm) (fL : Nat → Int64) (H : Heap) (locs : List Loc) (ls : Array Slot), Rel (N + 1) V U → w6_I D (LW g ad V bd U o fL) (LA s) s H locs → lv_has ls 7 (Ll b (ad 0) (bd 0) o (8 * N)) → W p l e room_1 s m #[Value.ref b] below meth c H locs (cells + 100) (slots + 600) (lw_Z below #[Value.ref b] s) (F0 m 1109 ls []) := by
        intro V U fL H locs ls hR I hl
        refine lv_iinc hx hb dL_law_1109 hl (k := 4) rfl (law_j8 (8 * N)) (by decide) rfl (fun ls hl => ?_)
        refine lv_goto (tgt := 23) hx hb dL_law_1112 (by decide) ?_
        exact ih (N + 1) (by omega) V U fL H locs ls _ _ (by omega) (by omega) (by omega) hR I (lv_sub hl [1, 2, 3, 4, 0] rfl)
      refine lv_aload_n hx hb dL_law_33 rfl (lv_at hl 0 rfl) ?_
      refine lv_iload hx hb dL_law_34 (lv_at hl 4 rfl) ?_
      refine va_sld hx hb hX hbl (Nat.not_le.mpr hbl) I.2.2 (nI_in (by omega) (by omega)) dL_law_36 ?_
      refine lv_bipush (v := (31 : Int32)) hx hb dL_law_37 (by decide) ?_
      refine lv_iand hx hb dL_law_39 ?_
      generalize hk : xs ((nI (8 * N)).toNatClampNeg) &&& (31 : Int32) = kk
      by_cases k0 : kk.toInt = 0
      · refine lv_tableIn (off := 120) (tgt := 160) hx hb dL_law_40 (by omega) (by omega) (by rw [k0]; rfl) (by decide) ?_
        obtain ⟨r, V1, U1, e1, e2, hR1⟩ := s_skill N V U (xs (8 * N + 1)) (xs (8 * N + 2)) (xs (8 * N + 3)) (xs (8 * N + 4)) hN64 hR
        exact lc_skill e1 e2 X I hl hj hc1 hs1 (fun H locs I => next V1 U1 fL H locs ls hR1 I hl)
      by_cases k1 : kk.toInt = 1
      · refine lv_tableIn (off := 181) (tgt := 221) hx hb dL_law_40 (by omega) (by omega) (by rw [k1]; rfl) (by decide) ?_
        obtain ⟨r, V1, U1, e1, e2, hR1⟩ := s_libre N V U (xs (8 * N + 1)) (xs (8 * N + 2)) hN64 hR
        exact lc_libre e1 e2 X I hl hj hc1 hs1 (fun H locs I => next V1 U1 fL H locs ls hR1 I hl)
      by_cases k2 : kk.toInt = 2
      · refine lv_tableIn (off := 218) (tgt := 258) hx hb dL_law_40 (by omega) (by omega) (by rw [k2]; rfl) (by decide) ?_
        obtain ⟨r, V1, U1, e1, e2, hR1⟩ := s_set N V U (xs (8 * N + 1)) (xs (8 * N + 2)) hN64 hR
        exact lc_set e1 e2 X I hl hj hc1 hs1 (fun H locs I => next V1 U1 fL H locs ls hR1 I hl)
      by_cases k3 : kk.toInt = 3
      · refine lv_tableIn (off := 255) (tgt := 295) hx hb dL_law_40 (by omega) (by omega) (by rw [k3]; rfl) (by decide) ?_
        obtain ⟨r, V1, U1, e1, e2, hR1⟩ := s_lineUp N V U (xs (8 * N + 1)) (xs (8 * N + 2)) (xs (8 * N + 3)) (xs (8 * N + 4)) (xs (8 * N + 5)) (xs (8 * N + 6)) (xs (8 * N + 7)) hN64 hR
        exact lc_lineUp e1 e2 X I hl hj hc1 hs1 (fun H locs I => next V1 U1 fL H locs ls hR1 I hl)
      by_cases k4 : kk.toInt = 4
      · refine lv_tableIn (off := 356) (tgt := 396) hx hb dL_law_40 (by omega) (by omega) (by rw [k4]; rfl) (by decide) ?_
        obtain ⟨r, V1, U1, e1, e2, hR1⟩ := s_begin N V U (xs (8 * N + 1)) hN64 hR
        exact lc_begin e1 e2 X I hl hj hc1 hs1 (fun H locs I => next V1 U1 fL H locs ls hR1 I hl)
      by_cases k5 : kk.toInt = 5
      · refine lv_tableIn (off := 381) (tgt := 421) hx hb dL_law_40 (by omega) (by omega) (by rw [k5]; rfl) (by decide) ?_
        obtain ⟨r, V1, U1, e1, e2, hR1⟩ := s_rally N V U (xs (8 * N + 1)) hN64 hR
        exact lc_rally e1 e2 X I hl hj hc1 hs1 (fun H locs I => next V1 U1 fL H locs ls hR1 I hl)
      by_cases k6 : kk.toInt = 6
      · refine lv_tableIn (off := 406) (tgt := 446) hx hb dL_law_40 (by omega) (by omega) (by rw [k6]; rfl) (by decide) ?_
        obtain ⟨r, V1, U1, e1, e2, hR1⟩ := s_may N V U (xs (8 * N + 1)) (xs (8 * N + 2)) (xs (8 * N + 3)) hN64 hR
        exact lc_may e1 e2 X I hl hj hc1 hs1 (fun H locs I => next V1 U1 fL H locs ls hR1 I hl)
      by_cases k7 : kk.toInt = 7
      · refine lv_tableIn (off := 455) (tgt := 495) hx hb dL_law_40 (by omega) (by omega) (by rw [k7]; rfl) (by decide) ?_
        obtain ⟨r, V1, U1, e1, e2, hR1⟩ := s_change N V U (xs (8 * N + 1)) (xs (8 * N + 2)) (xs (8 * N + 3)) hN64 hR
        exact lc_change e1 e2 X I hl hj hc1 hs1 (fun H locs I => next V1 U1 fL H locs ls hR1 I hl)
      by_cases k8 : kk.toInt = 8
      · refine lv_tableIn (off := 504) (tgt := 544) hx hb dL_law_40 (by omega) (by omega) (by rw [k8]; rfl) (by decide) ?_
        obtain ⟨r, V1, U1, e1, e2, hR1⟩ := s_free N V U (xs (8 * N + 1)) (xs (8 * N + 2)) hN64 hR
        exact lc_free e1 e2 X I hl hj hc1 hs1 (fun H locs I => next V1 U1 fL H locs ls hR1 I hl)
      by_cases k9 : kk.toInt = 9
      · refine lv_tableIn (off := 541) (tgt := 581) hx hb dL_law_40 (by omega) (by omega) (by rw [k9]; rfl) (by decide) ?_
        obtain ⟨r, V1, U1, e1, e2, hR1⟩ := s_pause N V U (xs (8 * N + 1)) hN64 hR
        exact lc_pause e1 e2 X I hl hj hc1 hs1 (fun H locs I => next V1 U1 fL H locs ls hR1 I hl)
      by_cases k10 : kk.toInt = 10
      · refine lv_tableIn (off := 566) (tgt := 606) hx hb dL_law_40 (by omega) (by omega) (by rw [k10]; rfl) (by decide) ?_
        obtain ⟨r, V1, U1, e1, e2, hR1⟩ := s_wrong N V U (xs (8 * N + 1)) hN64 hR
        exact lc_wrong e1 e2 X I hl hj hc1 hs1 (fun H locs I => next V1 U1 fL H locs ls hR1 I hl)
      by_cases k11 : kk.toInt = 11
      · refine lv_tableIn (off := 591) (tgt := 631) hx hb dL_law_40 (by omega) (by omega) (by rw [k11]; rfl) (by decide) ?_
        obtain ⟨r, V1, U1, e1, e2, hR1⟩ := s_at N V U (xs (8 * N + 1)) (xs (8 * N + 2)) hN64 hR
        exact lc_at e1 e2 X I hl hj hc1 hs1 (fun H locs I => next V1 U1 fL H locs ls hR1 I hl)
      by_cases k12 : kk.toInt = 12
      · refine lv_tableIn (off := 628) (tgt := 668) hx hb dL_law_40 (by omega) (by omega) (by rw [k12]; rfl) (by decide) ?_
        obtain ⟨r, V1, U1, e1, e2, hR1⟩ := s_of N V U (xs (8 * N + 1)) (xs (8 * N + 2)) hN64 hR
        exact lc_of e1 e2 X I hl hj hc1 hs1 (fun H locs I => next V1 U1 fL H locs ls hR1 I hl)
      by_cases k13 : kk.toInt = 13
      · refine lv_tableIn (off := 665) (tgt := 705) hx hb dL_law_40 (by omega) (by omega) (by rw [k13]; rfl) (by decide) ?_
        obtain ⟨r, V1, U1, e1, e2, hR1⟩ := s_count N V U (xs (8 * N + 1)) hN64 hR
        exact lc_count e1 e2 X I hl hj hc1 hs1 (fun H locs I => next V1 U1 fL H locs ls hR1 I hl)
      by_cases k14 : kk.toInt = 14
      · refine lv_tableIn (off := 690) (tgt := 730) hx hb dL_law_40 (by omega) (by omega) (by rw [k14]; rfl) (by decide) ?_
        obtain ⟨r, V1, U1, e1, e2, hR1⟩ := s_served N V U (xs (8 * N + 1)) (xs (8 * N + 2)) hN64 hR
        exact lc_served e1 e2 X I hl hj hc1 hs1 (fun H locs I => next V1 U1 fL H locs ls hR1 I hl)
      by_cases k15 : kk.toInt = 15
      · refine lv_tableIn (off := 727) (tgt := 767) hx hb dL_law_40 (by omega) (by omega) (by rw [k15]; rfl) (by decide) ?_
        obtain ⟨r, V1, U1, e1, e2, hR1⟩ := s_feet N V U (xs (8 * N + 1)) (xs (8 * N + 2)) (xs (8 * N + 3)) (xs (8 * N + 4)) hN64 hR
        exact lc_feet e1 e2 X I hl hj hc1 hs1 (fun H locs I => next V1 U1 fL H locs ls hR1 I hl)
      by_cases k16 : kk.toInt = 16
      · refine lv_tableIn (off := 788) (tgt := 828) hx hb dL_law_40 (by omega) (by omega) (by rw [k16]; rfl) (by decide) ?_
        obtain ⟨r, V1, U1, e1, e2, hR1⟩ := s_overlap N V U (xs (8 * N + 1)) hN64 hR
        exact lc_overlap e1 e2 X I hl hj hc1 hs1 (fun H locs I => next V1 U1 fL H locs ls hR1 I hl)
      by_cases k17 : kk.toInt = 17
      · refine lv_tableIn (off := 813) (tgt := 853) hx hb dL_law_40 (by omega) (by omega) (by rw [k17]; rfl) (by decide) ?_
        obtain ⟨r, V1, U1, e1, e2, hR1⟩ := s_sign N V U (xs (8 * N + 1)) hN64 hR
        exact lc_sign e1 e2 X I hl hj hc1 hs1 (fun H locs I => next V1 U1 fL H locs ls hR1 I hl)
      by_cases k18 : kk.toInt = 18
      · refine lv_tableIn (off := 838) (tgt := 878) hx hb dL_law_40 (by omega) (by omega) (by rw [k18]; rfl) (by decide) ?_
        obtain ⟨r, V1, U1, e1, e2, hR1⟩ := s_end N V U (xs (8 * N + 1)) hN64 hR
        exact lc_end e1 e2 X I hl hj hc1 hs1 (fun H locs I => next V1 U1 fL H locs ls hR1 I hl)
      by_cases k19 : kk.toInt = 19
      · refine lv_tableIn (off := 863) (tgt := 903) hx hb dL_law_40 (by omega) (by omega) (by rw [k19]; rfl) (by decide) ?_
        obtain ⟨r, V1, U1, e1, e2, hR1⟩ := s_sheet N V U hN64 hR
        exact lc_sheet e1 e2 X I hl hj hc1 hs1 (fun H locs I => next V1 U1 fL H locs ls hR1 I hl)
      by_cases k20 : kk.toInt = 20
      · refine lv_tableIn (off := 876) (tgt := 916) hx hb dL_law_40 (by omega) (by omega) (by rw [k20]; rfl) (by decide) ?_
        obtain ⟨r, V1, U1, e1, e2, hR1⟩ := s_odds N V U (xs (8 * N + 1)) (xs (8 * N + 2)) (xs (8 * N + 3)) hN64 hR
        exact lc_odds e1 e2 X I hl hj hc1 hs1 (fun H locs I => next V1 U1 fL H locs ls hR1 I hl)
      by_cases k21 : kk.toInt = 21
      · refine lv_tableIn (off := 925) (tgt := 965) hx hb dL_law_40 (by omega) (by omega) (by rw [k21]; rfl) (by decide) ?_
        obtain ⟨r, V1, U1, e1, e2, hR1⟩ := s_chance N V U hN64 hR
        exact lc_chance e1 e2 X I hl hj hc1 hs1 (fun H locs I => next V1 U1 fL H locs ls hR1 I hl)
      by_cases k22 : kk.toInt = 22
      · refine lv_tableIn (off := 938) (tgt := 978) hx hb dL_law_40 (by omega) (by omega) (by rw [k22]; rfl) (by decide) ?_
        obtain ⟨r, V1, U1, e1, e2, hR1⟩ := s_weight N V U hN64 hR
        exact lc_weight e1 e2 X I hl hj hc1 hs1 (fun H locs I => next V1 U1 fL H locs ls hR1 I hl)
      by_cases k23 : kk.toInt = 23
      · refine lv_tableIn (off := 951) (tgt := 991) hx hb dL_law_40 (by omega) (by omega) (by rw [k23]; rfl) (by decide) ?_
        obtain ⟨r, V1, U1, e1, e2, hR1⟩ := s_turn N V U (xs (8 * N + 1)) (xs (8 * N + 2)) hN64 hR
        exact lc_turn e1 e2 X I hl hj hc1 hs1 (fun H locs I => next V1 U1 fL H locs ls hR1 I hl)
      by_cases k24 : kk.toInt = 24
      · refine lv_tableIn (off := 988) (tgt := 1028) hx hb dL_law_40 (by omega) (by omega) (by rw [k24]; rfl) (by decide) ?_
        obtain ⟨r, V1, U1, e1, e2, hR1⟩ := s_advice N V U (xs (8 * N + 1)) hN64 hR
        exact lc_advice e1 e2 X I hl hj hc1 hs1 (fun H locs I => next V1 U1 fL H locs ls hR1 I hl)
      by_cases k25 : kk.toInt = 25
      · refine lv_tableIn (off := 1013) (tgt := 1053) hx hb dL_law_40 (by omega) (by omega) (by rw [k25]; rfl) (by decide) ?_
        rcases s_row N V U (xs (8 * N + 1)) hN64 hR with ⟨e0, q, U2, U1, e1, e2, hR1⟩ | ⟨e0, hi, U2, U1, e1, e2, hR1⟩
        · exact lc_row_x e0 hl0 e1 e2 X I hl hj hc1 hs1 (fun H locs fL ls I hl => next V U1 fL H locs ls hR1 I hl)
        · exact lc_row_n e0 hi e1 e2 X I hl hj hc1 hs1 (fun H locs fL ls I hl => next V U1 fL H locs ls hR1 I hl)
      refine lv_tableOut (tgt := 1109) hx hb dL_law_40 (by omega) (by decide) ?_
      exact W.widen (Nat.le_add_right _ _) (Nat.le_add_right _ _) (next V U fL H locs ls (s_idle N V U hN64 hR) I hl)
