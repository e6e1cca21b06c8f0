/-! items: printed by gen/items.py -/
set_option maxRecDepth 100000
abbrev It : Type := Nat × Int32 × Int32 × Int32
def itc (x0 : Nat) (i : It) (b : Int32) (nx : Value) : va_E :=
  if i.1 = 0 then .inr (3, [.int b, nx, .ref x0, .int i.2.1, .ref x0])
  else if i.1 = 1 then .inr (4, [.int b, nx, .ref x0, .int i.2.1, .ref x0])
  else if i.1 = 2 then .inr (5, [.int b, nx, .ref x0, .int i.2.1, .int i.2.2.1, .ref x0])
  else .inr (6, [.int b, nx, .ref x0, .int i.2.1, .int i.2.2.1, .int i.2.2.2, .ref x0])
abbrev rmX4_init : Room := { frames := 1, cells := 0, slots := 0, locals := 20 }
theorem hdX4_init : w6_hd yX4_init 1 := by decide +kernel
set_option maxHeartbeats 4000000 in
theorem ctItemX5 (l : Launch) (D : va_G) (g : Nat → ClassId) (q x0 : Nat) (a0 a1 a3 a4 : Value) : CTv l D g yX4_init cX4_init 2 rmX4_init [.ref q, .ref x0] [(q, .inr (3, [a0, a1, .null, a3, a4]))] [(q, .inr (3, [a0, a1, .ref x0, a3, a4]))] := by
  intro sz
  refine w6_startcv RX4 (by decide) (Nat.le_of_ble_eq_true rfl) rfl ?_
  intro p e s m below meth c A ls Q hin hx hb hown hts F I hl hret
  have hl : lv_has ls 2 [(0, .ref q), (1, .ref x0)] := hl
  refine lv_aload_n hx hb dX4_init_0 rfl (lv_at hl 0 rfl) ?_
  refine lv_aload_n hx hb dX4_init_1 rfl (lv_at hl 1 rfl) ?_
  refine w6_putFh (D := D) (ci := 3) (v := .ref x0) (ty := .object "SixWhoTurn") (C := RX5) (T := TX5) (N := 5) hx hb hts in_X5 (w6_apart hts in_X5 tyX5 tyX5_ok nm2X5 F.2.1 rfl) hown F.2.1 I.1 I.2.1 I.2.2 0 rfl rfl 2 (by decide) (hts _ q425) (fun _ h => h) rfl hin rfl (by decide +kernel) rfl rfl (Nat.le_of_ble_eq_true rfl) dX4_init_2 (fun H locs hP hD hS => ?_)
  have I : w6_I D ([(q, .inr (3, [a0, a1, .ref x0, a3, a4]))] ++ []) A s H locs := ⟨hP, hD, hS⟩
  refine lv_aload_n hx hb dX4_init_5 rfl (lv_at hl 0 rfl) ?_
  refine W.objInit hx hb hown (hts _ q420) (hts _ q73) (hts _ q74) rfl (hl.1.trans F.1.2.2.1.symm) rfl dX4_init_6 (Nat.le_of_ble_eq_true rfl) (Nat.le_of_ble_eq_true rfl) ?_
  refine W.eq (g2 := F0 m 9 ls []) rfl ?_
  exact hret _ _ _ _ dX4_init_9 I
theorem hdX5_init : w6_hd yX5_init 2 := by decide +kernel
abbrev rmX5_init : Room := { frames := 2, cells := 0, slots := 0, locals := 41 }
set_option maxHeartbeats 4000000 in
theorem ctX5_init (l : Launch) (D : va_G) (g : Nat → ClassId) (q x0 : Nat) (a : Int32) : CTv l D g yX5_init cX5_init 3 rmX5_init [.ref q, .ref x0, .int a] [(q, .inr (3, [.int 0, .null, .null, .int 0, .null]))] [(q, itc x0 (0, a, 0, 0) 0 .null)] := by
  intro sz
  refine w6_startcv RX5 (by decide) (Nat.le_of_ble_eq_true rfl) rfl ?_
  intro p e s m below meth cd A ls Q hin hx hb hown hts F I hl hret
  have hl : lv_has ls 3 [(0, .ref q), (1, .ref x0), (2, .int a)] := hl
  refine lv_aload_n hx hb dX5_init_0 rfl (lv_at hl 0 rfl) ?_
  refine lv_aload_n hx hb dX5_init_1 rfl (lv_at hl 1 rfl) ?_
  refine w6_putFh (D := D) (ci := 3) (v := .ref x0) (ty := .object "SixWhoTurn") (C := RX5) (T := TX5) (N := 5) hx hb hts in_X5 (w6_apart hts in_X5 tyX5 tyX5_ok nm2X5 F.2.1 rfl) hown F.2.1 I.1 I.2.1 I.2.2 0 rfl rfl 4 (by decide) (hts _ q422) (fun _ h => h) rfl hin rfl (by decide +kernel) rfl rfl (Nat.le_of_ble_eq_true rfl) dX5_init_2 (fun H locs hP hD hS => ?_)
  have I : w6_I D ([(q, .inr (3, [.int 0, .null, .null, .int 0, .ref x0]))] ++ []) A s H locs := ⟨hP, hD, hS⟩
  refine lv_aload_n hx hb dX5_init_5 rfl (lv_at hl 0 rfl) ?_
  refine lv_aload_n hx hb dX5_init_6 rfl (lv_at hl 1 rfl) ?_
  refine xc_INv F I (ctItemX5 l D g q x0 _ _ _ _) q419 q53 (List.mem_of_getElem? (i := 1) rfl) q418 hdX4_init rfl (Nat.le_of_ble_eq_true rfl) (Nat.le_of_ble_eq_true rfl) rfl hl.1 [] rfl (Nat.le_of_ble_eq_true rfl) dX5_init_7 ⟨(Nat.le_of_ble_eq_true rfl), (Nat.le_of_ble_eq_true rfl)⟩ (fun H locs I => ?_)
  refine lv_aload_n hx hb dX5_init_10 rfl (lv_at hl 0 rfl) ?_
  refine lv_iload_n hx hb dX5_init_11 rfl (lv_at hl 2 rfl) ?_
  refine w6_putFh (D := D) (ci := 3) (v := .int a) (ty := .int) (C := RX5) (T := TX5) (N := 5) hx hb hts in_X5 (w6_apart hts in_X5 tyX5 tyX5_ok nm2X5 F.2.1 rfl) hown F.2.1 I.1 I.2.1 I.2.2 0 rfl rfl 3 (by decide) (hts _ q421) (fun _ h => h) rfl hin rfl (by decide +kernel) rfl rfl (Nat.le_of_ble_eq_true rfl) dX5_init_12 (fun H locs hP hD hS => ?_)
  have I : w6_I D ([(q, .inr (3, [.int 0, .null, .ref x0, .int a, .ref x0]))] ++ []) A s H locs := ⟨hP, hD, hS⟩
  refine W.widen (k := 0) (n := 0) (Nat.le_of_ble_eq_true rfl) (Nat.le_of_ble_eq_true rfl) ?_
  exact hret _ _ _ _ dX5_init_15 I
set_option maxHeartbeats 4000000 in
theorem ctItemX6 (l : Launch) (D : va_G) (g : Nat → ClassId) (q x0 : Nat) (a0 a1 a3 a4 : Value) : CTv l D g yX4_init cX4_init 2 rmX4_init [.ref q, .ref x0] [(q, .inr (4, [a0, a1, .null, a3, a4]))] [(q, .inr (4, [a0, a1, .ref x0, a3, a4]))] := by
  intro sz
  refine w6_startcv RX4 (by decide) (Nat.le_of_ble_eq_true rfl) rfl ?_
  intro p e s m below meth c A ls Q hin hx hb hown hts F I hl hret
  have hl : lv_has ls 2 [(0, .ref q), (1, .ref x0)] := hl
  refine lv_aload_n hx hb dX4_init_0 rfl (lv_at hl 0 rfl) ?_
  refine lv_aload_n hx hb dX4_init_1 rfl (lv_at hl 1 rfl) ?_
  refine w6_putFh (D := D) (ci := 4) (v := .ref x0) (ty := .object "SixWhoTurn") (C := RX6) (T := TX6) (N := 5) hx hb hts in_X6 (w6_apart hts in_X6 tyX6 tyX6_ok nm2X6 F.2.1 rfl) hown F.2.1 I.1 I.2.1 I.2.2 0 rfl rfl 2 (by decide) (hts _ q425) (fun _ h => h) rfl hin rfl (by decide +kernel) rfl rfl (Nat.le_of_ble_eq_true rfl) dX4_init_2 (fun H locs hP hD hS => ?_)
  have I : w6_I D ([(q, .inr (4, [a0, a1, .ref x0, a3, a4]))] ++ []) A s H locs := ⟨hP, hD, hS⟩
  refine lv_aload_n hx hb dX4_init_5 rfl (lv_at hl 0 rfl) ?_
  refine W.objInit hx hb hown (hts _ q420) (hts _ q73) (hts _ q74) rfl (hl.1.trans F.1.2.2.1.symm) rfl dX4_init_6 (Nat.le_of_ble_eq_true rfl) (Nat.le_of_ble_eq_true rfl) ?_
  refine W.eq (g2 := F0 m 9 ls []) rfl ?_
  exact hret _ _ _ _ dX4_init_9 I
theorem hdX6_init : w6_hd yX6_init 2 := by decide +kernel
abbrev rmX6_init : Room := { frames := 2, cells := 0, slots := 0, locals := 41 }
set_option maxHeartbeats 4000000 in
theorem ctX6_init (l : Launch) (D : va_G) (g : Nat → ClassId) (q x0 : Nat) (a : Int32) : CTv l D g yX6_init cX6_init 3 rmX6_init [.ref q, .ref x0, .int a] [(q, .inr (4, [.int 0, .null, .null, .int 0, .null]))] [(q, itc x0 (1, a, 0, 0) 0 .null)] := by
  intro sz
  refine w6_startcv RX6 (by decide) (Nat.le_of_ble_eq_true rfl) rfl ?_
  intro p e s m below meth cd A ls Q hin hx hb hown hts F I hl hret
  have hl : lv_has ls 3 [(0, .ref q), (1, .ref x0), (2, .int a)] := hl
  refine lv_aload_n hx hb dX6_init_0 rfl (lv_at hl 0 rfl) ?_
  refine lv_aload_n hx hb dX6_init_1 rfl (lv_at hl 1 rfl) ?_
  refine w6_putFh (D := D) (ci := 4) (v := .ref x0) (ty := .object "SixWhoTurn") (C := RX6) (T := TX6) (N := 5) hx hb hts in_X6 (w6_apart hts in_X6 tyX6 tyX6_ok nm2X6 F.2.1 rfl) hown F.2.1 I.1 I.2.1 I.2.2 0 rfl rfl 4 (by decide) (hts _ q448) (fun _ h => h) rfl hin rfl (by decide +kernel) rfl rfl (Nat.le_of_ble_eq_true rfl) dX6_init_2 (fun H locs hP hD hS => ?_)
  have I : w6_I D ([(q, .inr (4, [.int 0, .null, .null, .int 0, .ref x0]))] ++ []) A s H locs := ⟨hP, hD, hS⟩
  refine lv_aload_n hx hb dX6_init_5 rfl (lv_at hl 0 rfl) ?_
  refine lv_aload_n hx hb dX6_init_6 rfl (lv_at hl 1 rfl) ?_
  refine xc_INv F I (ctItemX6 l D g q x0 _ _ _ _) q419 q53 (List.mem_of_getElem? (i := 2) rfl) q418 hdX4_init rfl (Nat.le_of_ble_eq_true rfl) (Nat.le_of_ble_eq_true rfl) rfl hl.1 [] rfl (Nat.le_of_ble_eq_true rfl) dX6_init_7 ⟨(Nat.le_of_ble_eq_true rfl), (Nat.le_of_ble_eq_true rfl)⟩ (fun H locs I => ?_)
  refine lv_aload_n hx hb dX6_init_10 rfl (lv_at hl 0 rfl) ?_
  refine lv_iload_n hx hb dX6_init_11 rfl (lv_at hl 2 rfl) ?_
  refine w6_putFh (D := D) (ci := 4) (v := .int a) (ty := .int) (C := RX6) (T := TX6) (N := 5) hx hb hts in_X6 (w6_apart hts in_X6 tyX6 tyX6_ok nm2X6 F.2.1 rfl) hown F.2.1 I.1 I.2.1 I.2.2 0 rfl rfl 3 (by decide) (hts _ q447) (fun _ h => h) rfl hin rfl (by decide +kernel) rfl rfl (Nat.le_of_ble_eq_true rfl) dX6_init_12 (fun H locs hP hD hS => ?_)
  have I : w6_I D ([(q, .inr (4, [.int 0, .null, .ref x0, .int a, .ref x0]))] ++ []) A s H locs := ⟨hP, hD, hS⟩
  refine W.widen (k := 0) (n := 0) (Nat.le_of_ble_eq_true rfl) (Nat.le_of_ble_eq_true rfl) ?_
  exact hret _ _ _ _ dX6_init_15 I
set_option maxHeartbeats 4000000 in
theorem ctItemX7 (l : Launch) (D : va_G) (g : Nat → ClassId) (q x0 : Nat) (a0 a1 a3 a4 a5 : Value) : CTv l D g yX4_init cX4_init 2 rmX4_init [.ref q, .ref x0] [(q, .inr (5, [a0, a1, .null, a3, a4, a5]))] [(q, .inr (5, [a0, a1, .ref x0, a3, a4, a5]))] := by
  intro sz
  refine w6_startcv RX4 (by decide) (Nat.le_of_ble_eq_true rfl) rfl ?_
  intro p e s m below meth c A ls Q hin hx hb hown hts F I hl hret
  have hl : lv_has ls 2 [(0, .ref q), (1, .ref x0)] := hl
  refine lv_aload_n hx hb dX4_init_0 rfl (lv_at hl 0 rfl) ?_
  refine lv_aload_n hx hb dX4_init_1 rfl (lv_at hl 1 rfl) ?_
  refine w6_putFh (D := D) (ci := 5) (v := .ref x0) (ty := .object "SixWhoTurn") (C := RX7) (T := TX7) (N := 6) hx hb hts in_X7 (w6_apart hts in_X7 tyX7 tyX7_ok nm2X7 F.2.1 rfl) hown F.2.1 I.1 I.2.1 I.2.2 0 rfl rfl 2 (by decide) (hts _ q425) (fun _ h => h) rfl hin rfl (by decide +kernel) rfl rfl (Nat.le_of_ble_eq_true rfl) dX4_init_2 (fun H locs hP hD hS => ?_)
  have I : w6_I D ([(q, .inr (5, [a0, a1, .ref x0, a3, a4, a5]))] ++ []) A s H locs := ⟨hP, hD, hS⟩
  refine lv_aload_n hx hb dX4_init_5 rfl (lv_at hl 0 rfl) ?_
  refine W.objInit hx hb hown (hts _ q420) (hts _ q73) (hts _ q74) rfl (hl.1.trans F.1.2.2.1.symm) rfl dX4_init_6 (Nat.le_of_ble_eq_true rfl) (Nat.le_of_ble_eq_true rfl) ?_
  refine W.eq (g2 := F0 m 9 ls []) rfl ?_
  exact hret _ _ _ _ dX4_init_9 I
theorem hdX7_init : w6_hd yX7_init 3 := by decide +kernel
abbrev rmX7_init : Room := { frames := 2, cells := 0, slots := 0, locals := 41 }
set_option maxHeartbeats 4000000 in
theorem ctX7_init (l : Launch) (D : va_G) (g : Nat → ClassId) (q x0 : Nat) (a b : Int32) : CTv l D g yX7_init cX7_init 4 rmX7_init [.ref q, .ref x0, .int a, .int b] [(q, .inr (5, [.int 0, .null, .null, .int 0, .int 0, .null]))] [(q, itc x0 (2, a, b, 0) 0 .null)] := by
  intro sz
  refine w6_startcv RX7 (by decide) (Nat.le_of_ble_eq_true rfl) rfl ?_
  intro p e s m below meth cd A ls Q hin hx hb hown hts F I hl hret
  have hl : lv_has ls 4 [(0, .ref q), (1, .ref x0), (2, .int a), (3, .int b)] := hl
  refine lv_aload_n hx hb dX7_init_0 rfl (lv_at hl 0 rfl) ?_
  refine lv_aload_n hx hb dX7_init_1 rfl (lv_at hl 1 rfl) ?_
  refine w6_putFh (D := D) (ci := 5) (v := .ref x0) (ty := .object "SixWhoTurn") (C := RX7) (T := TX7) (N := 6) hx hb hts in_X7 (w6_apart hts in_X7 tyX7 tyX7_ok nm2X7 F.2.1 rfl) hown F.2.1 I.1 I.2.1 I.2.2 0 rfl rfl 5 (by decide) (hts _ q465) (fun _ h => h) rfl hin rfl (by decide +kernel) rfl rfl (Nat.le_of_ble_eq_true rfl) dX7_init_2 (fun H locs hP hD hS => ?_)
  have I : w6_I D ([(q, .inr (5, [.int 0, .null, .null, .int 0, .int 0, .ref x0]))] ++ []) A s H locs := ⟨hP, hD, hS⟩
  refine lv_aload_n hx hb dX7_init_5 rfl (lv_at hl 0 rfl) ?_
  refine lv_aload_n hx hb dX7_init_6 rfl (lv_at hl 1 rfl) ?_
  refine xc_INv F I (ctItemX7 l D g q x0 _ _ _ _ _) q419 q53 (List.mem_of_getElem? (i := 3) rfl) q418 hdX4_init rfl (Nat.le_of_ble_eq_true rfl) (Nat.le_of_ble_eq_true rfl) rfl hl.1 [] rfl (Nat.le_of_ble_eq_true rfl) dX7_init_7 ⟨(Nat.le_of_ble_eq_true rfl), (Nat.le_of_ble_eq_true rfl)⟩ (fun H locs I => ?_)
  refine lv_aload_n hx hb dX7_init_10 rfl (lv_at hl 0 rfl) ?_
  refine lv_iload_n hx hb dX7_init_11 rfl (lv_at hl 2 rfl) ?_
  refine w6_putFh (D := D) (ci := 5) (v := .int a) (ty := .int) (C := RX7) (T := TX7) (N := 6) hx hb hts in_X7 (w6_apart hts in_X7 tyX7 tyX7_ok nm2X7 F.2.1 rfl) hown F.2.1 I.1 I.2.1 I.2.2 0 rfl rfl 3 (by decide) (hts _ q463) (fun _ h => h) rfl hin rfl (by decide +kernel) rfl rfl (Nat.le_of_ble_eq_true rfl) dX7_init_12 (fun H locs hP hD hS => ?_)
  have I : w6_I D ([(q, .inr (5, [.int 0, .null, .ref x0, .int a, .int 0, .ref x0]))] ++ []) A s H locs := ⟨hP, hD, hS⟩
  refine lv_aload_n hx hb dX7_init_15 rfl (lv_at hl 0 rfl) ?_
  refine lv_iload_n hx hb dX7_init_16 rfl (lv_at hl 3 rfl) ?_
  refine w6_putFh (D := D) (ci := 5) (v := .int b) (ty := .int) (C := RX7) (T := TX7) (N := 6) hx hb hts in_X7 (w6_apart hts in_X7 tyX7 tyX7_ok nm2X7 F.2.1 rfl) hown F.2.1 I.1 I.2.1 I.2.2 0 rfl rfl 4 (by decide) (hts _ q464) (fun _ h => h) rfl hin rfl (by decide +kernel) rfl rfl (Nat.le_of_ble_eq_true rfl) dX7_init_17 (fun H locs hP hD hS => ?_)
  have I : w6_I D ([(q, .inr (5, [.int 0, .null, .ref x0, .int a, .int b, .ref x0]))] ++ []) A s H locs := ⟨hP, hD, hS⟩
  refine W.widen (k := 0) (n := 0) (Nat.le_of_ble_eq_true rfl) (Nat.le_of_ble_eq_true rfl) ?_
  exact hret _ _ _ _ dX7_init_20 I
set_option maxHeartbeats 4000000 in
theorem ctItemX8 (l : Launch) (D : va_G) (g : Nat → ClassId) (q x0 : Nat) (a0 a1 a3 a4 a5 a6 : Value) : CTv l D g yX4_init cX4_init 2 rmX4_init [.ref q, .ref x0] [(q, .inr (6, [a0, a1, .null, a3, a4, a5, a6]))] [(q, .inr (6, [a0, a1, .ref x0, a3, a4, a5, a6]))] := by
  intro sz
  refine w6_startcv RX4 (by decide) (Nat.le_of_ble_eq_true rfl) rfl ?_
  intro p e s m below meth c A ls Q hin hx hb hown hts F I hl hret
  have hl : lv_has ls 2 [(0, .ref q), (1, .ref x0)] := hl
  refine lv_aload_n hx hb dX4_init_0 rfl (lv_at hl 0 rfl) ?_
  refine lv_aload_n hx hb dX4_init_1 rfl (lv_at hl 1 rfl) ?_
  refine w6_putFh (D := D) (ci := 6) (v := .ref x0) (ty := .object "SixWhoTurn") (C := RX8) (T := TX8) (N := 7) hx hb hts in_X8 (w6_apart hts in_X8 tyX8 tyX8_ok nm2X8 F.2.1 rfl) hown F.2.1 I.1 I.2.1 I.2.2 0 rfl rfl 2 (by decide) (hts _ q425) (fun _ h => h) rfl hin rfl (by decide +kernel) rfl rfl (Nat.le_of_ble_eq_true rfl) dX4_init_2 (fun H locs hP hD hS => ?_)
  have I : w6_I D ([(q, .inr (6, [a0, a1, .ref x0, a3, a4, a5, a6]))] ++ []) A s H locs := ⟨hP, hD, hS⟩
  refine lv_aload_n hx hb dX4_init_5 rfl (lv_at hl 0 rfl) ?_
  refine W.objInit hx hb hown (hts _ q420) (hts _ q73) (hts _ q74) rfl (hl.1.trans F.1.2.2.1.symm) rfl dX4_init_6 (Nat.le_of_ble_eq_true rfl) (Nat.le_of_ble_eq_true rfl) ?_
  refine W.eq (g2 := F0 m 9 ls []) rfl ?_
  exact hret _ _ _ _ dX4_init_9 I
theorem hdX8_init : w6_hd yX8_init 4 := by decide +kernel
abbrev rmX8_init : Room := { frames := 2, cells := 0, slots := 0, locals := 41 }
set_option maxHeartbeats 4000000 in
theorem ctX8_init (l : Launch) (D : va_G) (g : Nat → ClassId) (q x0 : Nat) (a b c : Int32) : CTv l D g yX8_init cX8_init 5 rmX8_init [.ref q, .ref x0, .int a, .int b, .int c] [(q, .inr (6, [.int 0, .null, .null, .int 0, .int 0, .int 0, .null]))] [(q, itc x0 (3, a, b, c) 0 .null)] := by
  intro sz
  refine w6_startcv RX8 (by decide) (Nat.le_of_ble_eq_true rfl) rfl ?_
  intro p e s m below meth cd A ls Q hin hx hb hown hts F I hl hret
  have hl : lv_has ls 5 [(0, .ref q), (1, .ref x0), (2, .int a), (3, .int b), (4, .int c)] := hl
  refine lv_aload_n hx hb dX8_init_0 rfl (lv_at hl 0 rfl) ?_
  refine lv_aload_n hx hb dX8_init_1 rfl (lv_at hl 1 rfl) ?_
  refine w6_putFh (D := D) (ci := 6) (v := .ref x0) (ty := .object "SixWhoTurn") (C := RX8) (T := TX8) (N := 7) hx hb hts in_X8 (w6_apart hts in_X8 tyX8 tyX8_ok nm2X8 F.2.1 rfl) hown F.2.1 I.1 I.2.1 I.2.2 0 rfl rfl 6 (by decide) (hts _ q574) (fun _ h => h) rfl hin rfl (by decide +kernel) rfl rfl (Nat.le_of_ble_eq_true rfl) dX8_init_2 (fun H locs hP hD hS => ?_)
  have I : w6_I D ([(q, .inr (6, [.int 0, .null, .null, .int 0, .int 0, .int 0, .ref x0]))] ++ []) A s H locs := ⟨hP, hD, hS⟩
  refine lv_aload_n hx hb dX8_init_5 rfl (lv_at hl 0 rfl) ?_
  refine lv_aload_n hx hb dX8_init_6 rfl (lv_at hl 1 rfl) ?_
  refine xc_INv F I (ctItemX8 l D g q x0 _ _ _ _ _ _) q419 q53 (List.mem_of_getElem? (i := 4) rfl) q418 hdX4_init rfl (Nat.le_of_ble_eq_true rfl) (Nat.le_of_ble_eq_true rfl) rfl hl.1 [] rfl (Nat.le_of_ble_eq_true rfl) dX8_init_7 ⟨(Nat.le_of_ble_eq_true rfl), (Nat.le_of_ble_eq_true rfl)⟩ (fun H locs I => ?_)
  refine lv_aload_n hx hb dX8_init_10 rfl (lv_at hl 0 rfl) ?_
  refine lv_iload_n hx hb dX8_init_11 rfl (lv_at hl 2 rfl) ?_
  refine w6_putFh (D := D) (ci := 6) (v := .int a) (ty := .int) (C := RX8) (T := TX8) (N := 7) hx hb hts in_X8 (w6_apart hts in_X8 tyX8 tyX8_ok nm2X8 F.2.1 rfl) hown F.2.1 I.1 I.2.1 I.2.2 0 rfl rfl 3 (by decide) (hts _ q571) (fun _ h => h) rfl hin rfl (by decide +kernel) rfl rfl (Nat.le_of_ble_eq_true rfl) dX8_init_12 (fun H locs hP hD hS => ?_)
  have I : w6_I D ([(q, .inr (6, [.int 0, .null, .ref x0, .int a, .int 0, .int 0, .ref x0]))] ++ []) A s H locs := ⟨hP, hD, hS⟩
  refine lv_aload_n hx hb dX8_init_15 rfl (lv_at hl 0 rfl) ?_
  refine lv_iload_n hx hb dX8_init_16 rfl (lv_at hl 3 rfl) ?_
  refine w6_putFh (D := D) (ci := 6) (v := .int b) (ty := .int) (C := RX8) (T := TX8) (N := 7) hx hb hts in_X8 (w6_apart hts in_X8 tyX8 tyX8_ok nm2X8 F.2.1 rfl) hown F.2.1 I.1 I.2.1 I.2.2 0 rfl rfl 4 (by decide) (hts _ q572) (fun _ h => h) rfl hin rfl (by decide +kernel) rfl rfl (Nat.le_of_ble_eq_true rfl) dX8_init_17 (fun H locs hP hD hS => ?_)
  have I : w6_I D ([(q, .inr (6, [.int 0, .null, .ref x0, .int a, .int b, .int 0, .ref x0]))] ++ []) A s H locs := ⟨hP, hD, hS⟩
  refine lv_aload_n hx hb dX8_init_20 rfl (lv_at hl 0 rfl) ?_
  refine lv_iload hx hb dX8_init_21 (lv_at hl 4 rfl) ?_
  refine w6_putFh (D := D) (ci := 6) (v := .int c) (ty := .int) (C := RX8) (T := TX8) (N := 7) hx hb hts in_X8 (w6_apart hts in_X8 tyX8 tyX8_ok nm2X8 F.2.1 rfl) hown F.2.1 I.1 I.2.1 I.2.2 0 rfl rfl 5 (by decide) (hts _ q573) (fun _ h => h) rfl hin rfl (by decide +kernel) rfl rfl (Nat.le_of_ble_eq_true rfl) dX8_init_23 (fun H locs hP hD hS => ?_)
  have I : w6_I D ([(q, .inr (6, [.int 0, .null, .ref x0, .int a, .int b, .int c, .ref x0]))] ++ []) A s H locs := ⟨hP, hD, hS⟩
  refine W.widen (k := 0) (n := 0) (Nat.le_of_ble_eq_true rfl) (Nat.le_of_ble_eq_true rfl) ?_
  exact hret _ _ _ _ dX8_init_26 I
def x_done (V : Mm) (i : It) : Option (Int32 × Mm) :=
  if i.1 = 0 then bi_ (x_rally V i.2.1) fun r V1 => if r < 0 then some (0, V1) else some (1, V1)
  else if i.1 = 1 then bi_ (x_pause V i.2.1) fun r V1 => if r < 0 then some (0, V1) else some (1, V1)
  else if i.1 = 2 then bi_ (x_free V i.2.1 i.2.2.1) fun r V1 => if r < 0 then some (0, V1) else some (1, V1)
  else bi_ (x_change V i.2.1 i.2.2.1 i.2.2.2) fun r V1 => if r < 0 then some (0, V1) else some (1, V1)
theorem itc_0 {x0 : Nat} {i : It} {b : Int32} {nx : Value} (hi : i.1 = 0) : itc x0 i b nx = .inr (3, [.int b, nx, .ref x0, .int i.2.1, .ref x0]) := by
  unfold itc
  rw [if_pos hi]
theorem itc_1 {x0 : Nat} {i : It} {b : Int32} {nx : Value} (hi : i.1 = 1) : itc x0 i b nx = .inr (4, [.int b, nx, .ref x0, .int i.2.1, .ref x0]) := by
  unfold itc
  rw [if_neg (by omega), if_pos hi]
theorem itc_2 {x0 : Nat} {i : It} {b : Int32} {nx : Value} (hi : i.1 = 2) : itc x0 i b nx = .inr (5, [.int b, nx, .ref x0, .int i.2.1, .int i.2.2.1, .ref x0]) := by
  unfold itc
  rw [if_neg (by omega), if_neg (by omega), if_pos hi]
theorem itc_3 {x0 : Nat} {i : It} {b : Int32} {nx : Value} (hi : i.1 ≠ 0 ∧ i.1 ≠ 1 ∧ i.1 ≠ 2) : itc x0 i b nx = .inr (6, [.int b, nx, .ref x0, .int i.2.1, .int i.2.2.1, .int i.2.2.2, .ref x0]) := by
  unfold itc
  rw [if_neg hi.1, if_neg hi.2.1, if_neg hi.2.2]
abbrev rmX5_isDone : Room := { frames := 4, cells := 0, slots := 0, locals := 89 }
set_option maxHeartbeats 4000000 in
theorem ctX5_isDone (l : Launch) (D : va_G) (g : Nat → ClassId) (ad : Nat → Nat) (V : Mm) (i : It) (q : Nat) (b : Int32) (nx : Value) (r : Int32) (V' : Mm) (hf : x_done V i = some (r, V')) (hi : i.1 = 0) : CTi l D g yX5_isDone cX5_isDone 1 .boolean rmX5_isDone [.ref q] (xw g ad V ++ [(q, itc (ad 0) i b nx)]) (xw g ad V' ++ [(q, itc (ad 0) i b nx)]) r := by
  intro sz
  refine w6_starti RX5 (by decide) (Nat.le_of_ble_eq_true rfl) rfl ?_
  intro p e s m below meth c A ls Q hx hb hown hts F I hl hret
  have hl : lv_has ls 1 [(0, .ref q)] := hl
  have I := I.nil
  unfold x_done at hf
  rw [if_pos hi] at hf
  refine lv_aload_n hx hb dX5_isDone_0 rfl (lv_at hl 0 rfl) ?_
  refine va_get (D := D) (ci := 3) (v := .ref (ad 0)) (C := RX5) (T := TX5) (N := 5) hx hb hts in_X5 hown F.2.1 I.1 (71 + 0) (w6_fl_last.trans (congrArg (fun z => some (q, z)) (itc_0 hi))) rfl 4 (by decide) (hts _ q422) (fun _ h => h) rfl dX5_isDone_1 ?_
  refine lv_aload_n hx hb dX5_isDone_4 rfl (lv_at hl 0 rfl) ?_
  refine va_get (D := D) (ci := 3) (v := .int i.2.1) (C := RX5) (T := TX5) (N := 5) hx hb hts in_X5 hown F.2.1 I.1 (71 + 0) (w6_fl_last.trans (congrArg (fun z => some (q, z)) (itc_0 hi))) rfl 3 (by decide) (hts _ q421) (fun _ h => h) rfl dX5_isDone_5 ?_
  obtain ⟨r1, V1, h1, hf⟩ := bi_e hf
  refine xz_Vi F I (ctx_rally l D g ad V i.2.1 r1 V1 h1) (lw_V q614 q291 q292 q47 q293) hdX1_rally rfl (Nat.le_of_ble_eq_true rfl) (Nat.le_of_ble_eq_true rfl) (w6_recv F I xo_ob rfl) rfl hl.1 [] rfl (Nat.le_of_ble_eq_true rfl) dX5_isDone_8 ⟨(Nat.le_of_ble_eq_true rfl), (Nat.le_of_ble_eq_true rfl)⟩ (fun H locs I => ?_)
  refine lv_if_lt (tgt := 18) hx hb dX5_isDone_11 (by decide) (fun c => ?_) (fun c => ?_)
  · have hf := if_p c hf
    refine lv_iconst (v := (0 : Int32)) hx hb dX5_isDone_18 (by decide) ?_
    exact hret _ _ _ _ _ dX5_isDone_19 (w6_mv (so_e hf).2 I).nil' (so_e hf).1 rfl
  · have hf := if_n c hf
    refine lv_iconst (v := (1 : Int32)) hx hb dX5_isDone_14 (by decide) ?_
    refine lv_goto (tgt := 19) hx hb dX5_isDone_15 (by decide) ?_
    exact hret _ _ _ _ _ dX5_isDone_19 (w6_mv (so_e hf).2 I).nil' (so_e hf).1 rfl
abbrev rmX6_isDone : Room := { frames := 2, cells := 0, slots := 0, locals := 41 }
set_option maxHeartbeats 4000000 in
theorem ctX6_isDone (l : Launch) (D : va_G) (g : Nat → ClassId) (ad : Nat → Nat) (V : Mm) (i : It) (q : Nat) (b : Int32) (nx : Value) (r : Int32) (V' : Mm) (hf : x_done V i = some (r, V')) (hi : i.1 = 1) : CTi l D g yX6_isDone cX6_isDone 1 .boolean rmX6_isDone [.ref q] (xw g ad V ++ [(q, itc (ad 0) i b nx)]) (xw g ad V' ++ [(q, itc (ad 0) i b nx)]) r := by
  intro sz
  refine w6_starti RX6 (by decide) (Nat.le_of_ble_eq_true rfl) rfl ?_
  intro p e s m below meth c A ls Q hx hb hown hts F I hl hret
  have hl : lv_has ls 1 [(0, .ref q)] := hl
  have I := I.nil
  unfold x_done at hf
  rw [if_neg (by omega), if_pos hi] at hf
  refine lv_aload_n hx hb dX6_isDone_0 rfl (lv_at hl 0 rfl) ?_
  refine va_get (D := D) (ci := 4) (v := .ref (ad 0)) (C := RX6) (T := TX6) (N := 5) hx hb hts in_X6 hown F.2.1 I.1 (71 + 0) (w6_fl_last.trans (congrArg (fun z => some (q, z)) (itc_1 hi))) rfl 4 (by decide) (hts _ q448) (fun _ h => h) rfl dX6_isDone_1 ?_
  refine lv_aload_n hx hb dX6_isDone_4 rfl (lv_at hl 0 rfl) ?_
  refine va_get (D := D) (ci := 4) (v := .int i.2.1) (C := RX6) (T := TX6) (N := 5) hx hb hts in_X6 hown F.2.1 I.1 (71 + 0) (w6_fl_last.trans (congrArg (fun z => some (q, z)) (itc_1 hi))) rfl 3 (by decide) (hts _ q447) (fun _ h => h) rfl dX6_isDone_5 ?_
  obtain ⟨r1, V1, h1, hf⟩ := bi_e hf
  refine xz_Vi F I (ctx_pause l D g ad V i.2.1 r1 V1 h1) (lw_V q610 q342 q343 q47 q344) hdX1_pause rfl (Nat.le_of_ble_eq_true rfl) (Nat.le_of_ble_eq_true rfl) (w6_recv F I xo_ob rfl) rfl hl.1 [] rfl (Nat.le_of_ble_eq_true rfl) dX6_isDone_8 ⟨(Nat.le_of_ble_eq_true rfl), (Nat.le_of_ble_eq_true rfl)⟩ (fun H locs I => ?_)
  refine lv_if_lt (tgt := 18) hx hb dX6_isDone_11 (by decide) (fun c => ?_) (fun c => ?_)
  · have hf := if_p c hf
    refine lv_iconst (v := (0 : Int32)) hx hb dX6_isDone_18 (by decide) ?_
    exact hret _ _ _ _ _ dX6_isDone_19 (w6_mv (so_e hf).2 I).nil' (so_e hf).1 rfl
  · have hf := if_n c hf
    refine lv_iconst (v := (1 : Int32)) hx hb dX6_isDone_14 (by decide) ?_
    refine lv_goto (tgt := 19) hx hb dX6_isDone_15 (by decide) ?_
    exact hret _ _ _ _ _ dX6_isDone_19 (w6_mv (so_e hf).2 I).nil' (so_e hf).1 rfl
abbrev rmX7_isDone : Room := { frames := 3, cells := 0, slots := 0, locals := 69 }
set_option maxHeartbeats 4000000 in
theorem ctX7_isDone (l : Launch) (D : va_G) (g : Nat → ClassId) (ad : Nat → Nat) (V : Mm) (i : It) (q : Nat) (b : Int32) (nx : Value) (r : Int32) (V' : Mm) (hf : x_done V i = some (r, V')) (hi : i.1 = 2) : CTi l D g yX7_isDone cX7_isDone 1 .boolean rmX7_isDone [.ref q] (xw g ad V ++ [(q, itc (ad 0) i b nx)]) (xw g ad V' ++ [(q, itc (ad 0) i b nx)]) r := by
  intro sz
  refine w6_starti RX7 (by decide) (Nat.le_of_ble_eq_true rfl) rfl ?_
  intro p e s m below meth c A ls Q hx hb hown hts F I hl hret
  have hl : lv_has ls 1 [(0, .ref q)] := hl
  have I := I.nil
  unfold x_done at hf
  rw [if_neg (by omega), if_neg (by omega), if_pos hi] at hf
  refine lv_aload_n hx hb dX7_isDone_0 rfl (lv_at hl 0 rfl) ?_
  refine va_get (D := D) (ci := 5) (v := .ref (ad 0)) (C := RX7) (T := TX7) (N := 6) hx hb hts in_X7 hown F.2.1 I.1 (71 + 0) (w6_fl_last.trans (congrArg (fun z => some (q, z)) (itc_2 hi))) rfl 5 (by decide) (hts _ q465) (fun _ h => h) rfl dX7_isDone_1 ?_
  refine lv_aload_n hx hb dX7_isDone_4 rfl (lv_at hl 0 rfl) ?_
  refine va_get (D := D) (ci := 5) (v := .int i.2.1) (C := RX7) (T := TX7) (N := 6) hx hb hts in_X7 hown F.2.1 I.1 (71 + 0) (w6_fl_last.trans (congrArg (fun z => some (q, z)) (itc_2 hi))) rfl 3 (by decide) (hts _ q463) (fun _ h => h) rfl dX7_isDone_5 ?_
  refine lv_aload_n hx hb dX7_isDone_8 rfl (lv_at hl 0 rfl) ?_
  refine va_get (D := D) (ci := 5) (v := .int i.2.2.1) (C := RX7) (T := TX7) (N := 6) hx hb hts in_X7 hown F.2.1 I.1 (71 + 0) (w6_fl_last.trans (congrArg (fun z => some (q, z)) (itc_2 hi))) rfl 4 (by decide) (hts _ q464) (fun _ h => h) rfl dX7_isDone_9 ?_
  obtain ⟨r1, V1, h1, hf⟩ := bi_e hf
  refine xz_Vi F I (ctx_free l D g ad V i.2.1 i.2.2.1 r1 V1 h1) (lw_V q606 q338 q339 q47 q340) hdX1_free rfl (Nat.le_of_ble_eq_true rfl) (Nat.le_of_ble_eq_true rfl) (w6_recv F I xo_ob rfl) rfl hl.1 [] rfl (Nat.le_of_ble_eq_true rfl) dX7_isDone_12 ⟨(Nat.le_of_ble_eq_true rfl), (Nat.le_of_ble_eq_true rfl)⟩ (fun H locs I => ?_)
  refine lv_if_lt (tgt := 22) hx hb dX7_isDone_15 (by decide) (fun c => ?_) (fun c => ?_)
  · have hf := if_p c hf
    refine lv_iconst (v := (0 : Int32)) hx hb dX7_isDone_22 (by decide) ?_
    exact hret _ _ _ _ _ dX7_isDone_23 (w6_mv (so_e hf).2 I).nil' (so_e hf).1 rfl
  · have hf := if_n c hf
    refine lv_iconst (v := (1 : Int32)) hx hb dX7_isDone_18 (by decide) ?_
    refine lv_goto (tgt := 23) hx hb dX7_isDone_19 (by decide) ?_
    exact hret _ _ _ _ _ dX7_isDone_23 (w6_mv (so_e hf).2 I).nil' (so_e hf).1 rfl
abbrev rmX8_isDone : Room := { frames := 4, cells := 0, slots := 0, locals := 92 }
set_option maxHeartbeats 4000000 in
theorem ctX8_isDone (l : Launch) (D : va_G) (g : Nat → ClassId) (ad : Nat → Nat) (V : Mm) (i : It) (q : Nat) (b : Int32) (nx : Value) (r : Int32) (V' : Mm) (hf : x_done V i = some (r, V')) (hi : i.1 ≠ 0 ∧ i.1 ≠ 1 ∧ i.1 ≠ 2) : CTi l D g yX8_isDone cX8_isDone 1 .boolean rmX8_isDone [.ref q] (xw g ad V ++ [(q, itc (ad 0) i b nx)]) (xw g ad V' ++ [(q, itc (ad 0) i b nx)]) r := by
  intro sz
  refine w6_starti RX8 (by decide) (Nat.le_of_ble_eq_true rfl) rfl ?_
  intro p e s m below meth c A ls Q hx hb hown hts F I hl hret
  have hl : lv_has ls 1 [(0, .ref q)] := hl
  have I := I.nil
  unfold x_done at hf
  rw [if_neg hi.1, if_neg hi.2.1, if_neg hi.2.2] at hf
  refine lv_aload_n hx hb dX8_isDone_0 rfl (lv_at hl 0 rfl) ?_
  refine va_get (D := D) (ci := 6) (v := .ref (ad 0)) (C := RX8) (T := TX8) (N := 7) hx hb hts in_X8 hown F.2.1 I.1 (71 + 0) (w6_fl_last.trans (congrArg (fun z => some (q, z)) (itc_3 hi))) rfl 6 (by decide) (hts _ q574) (fun _ h => h) rfl dX8_isDone_1 ?_
  refine lv_aload_n hx hb dX8_isDone_4 rfl (lv_at hl 0 rfl) ?_
  refine va_get (D := D) (ci := 6) (v := .int i.2.1) (C := RX8) (T := TX8) (N := 7) hx hb hts in_X8 hown F.2.1 I.1 (71 + 0) (w6_fl_last.trans (congrArg (fun z => some (q, z)) (itc_3 hi))) rfl 3 (by decide) (hts _ q571) (fun _ h => h) rfl dX8_isDone_5 ?_
  refine lv_aload_n hx hb dX8_isDone_8 rfl (lv_at hl 0 rfl) ?_
  refine va_get (D := D) (ci := 6) (v := .int i.2.2.1) (C := RX8) (T := TX8) (N := 7) hx hb hts in_X8 hown F.2.1 I.1 (71 + 0) (w6_fl_last.trans (congrArg (fun z => some (q, z)) (itc_3 hi))) rfl 4 (by decide) (hts _ q572) (fun _ h => h) rfl dX8_isDone_9 ?_
  refine lv_aload_n hx hb dX8_isDone_12 rfl (lv_at hl 0 rfl) ?_
  refine va_get (D := D) (ci := 6) (v := .int i.2.2.2) (C := RX8) (T := TX8) (N := 7) hx hb hts in_X8 hown F.2.1 I.1 (71 + 0) (w6_fl_last.trans (congrArg (fun z => some (q, z)) (itc_3 hi))) rfl 5 (by decide) (hts _ q573) (fun _ h => h) rfl dX8_isDone_13 ?_
  obtain ⟨r1, V1, h1, hf⟩ := bi_e hf
  refine xz_Vi F I (ctx_change l D g ad V i.2.1 i.2.2.1 i.2.2.2 r1 V1 h1) (lw_V q602 q328 q329 q47 q330) hdX1_change rfl (Nat.le_of_ble_eq_true rfl) (Nat.le_of_ble_eq_true rfl) (w6_recv F I xo_ob rfl) rfl hl.1 [] rfl (Nat.le_of_ble_eq_true rfl) dX8_isDone_16 ⟨(Nat.le_of_ble_eq_true rfl), (Nat.le_of_ble_eq_true rfl)⟩ (fun H locs I => ?_)
  refine lv_if_lt (tgt := 26) hx hb dX8_isDone_19 (by decide) (fun c => ?_) (fun c => ?_)
  · have hf := if_p c hf
    refine lv_iconst (v := (0 : Int32)) hx hb dX8_isDone_26 (by decide) ?_
    exact hret _ _ _ _ _ dX8_isDone_27 (w6_mv (so_e hf).2 I).nil' (so_e hf).1 rfl
  · have hf := if_n c hf
    refine lv_iconst (v := (1 : Int32)) hx hb dX8_isDone_22 (by decide) ?_
    refine lv_goto (tgt := 27) hx hb dX8_isDone_23 (by decide) ?_
    exact hret _ _ _ _ _ dX8_isDone_27 (w6_mv (so_e hf).2 I).nil' (so_e hf).1 rfl
section W6IT
variable {p : Program} {l : Launch} {e : Env} {R : Room} {s : State} {m : MethodId} {args : Array Value} {below : List Frame} {meth : Method} {c : Code} {H : Heap} {locs : List Loc} {cells slots : Nat} {Q : State → Prop}
variable {cc : ByteArray} {nL pc : Nat} {ls : Array Slot} {rest : List Value} {D : va_G} {g : Nat → ClassId} {A : Nat → Prop} {ws : va_W}
theorem w6_itget_begin {k q x0 : Nat} {i : It} {b : Int32} {nx : Value} (F : w6_F p s m args c cc nL "SixWhoTurn" D g A) (I : w6_I D ws A s H locs) (hk : ws[k]? = some (q, itc x0 i b nx)) (hdg : decode cc pc = .ok (.getfield 245, 3))
    (kk : W p l e R s m args below meth c H locs cells slots Q (F0 m (pc + 3) ls (.int b :: rest))) : W p l e R s m args below meth c H locs cells slots Q (F0 m pc ls (.ref q :: rest)) := by
  by_cases h0 : i.1 = 0
  · exact va_getN (D := D) (ref := "SixWhoTurn$Item") (C := RX5) (T := TX5) (N := 5) F.1.1 F.1.2.1 F.1.2.2.2.2 in_X5 F.1.2.2.2.1 F.2.1 I.1 k (hk.trans (congrArg (fun z => some (q, z)) (itc_0 h0))) rfl 0 (by decide) (va_Nw.use rfl (F.2.2.1.1.1 _ (List.mem_of_getElem? (i := 18) rfl))) (fun _ h => h) rfl hdg kk
  by_cases h1 : i.1 = 1
  · exact va_getN (D := D) (ref := "SixWhoTurn$Item") (C := RX6) (T := TX6) (N := 5) F.1.1 F.1.2.1 F.1.2.2.2.2 in_X6 F.1.2.2.2.1 F.2.1 I.1 k (hk.trans (congrArg (fun z => some (q, z)) (itc_1 h1))) rfl 0 (by decide) (va_Nw.use rfl (F.2.2.1.1.1 _ (List.mem_of_getElem? (i := 18) rfl))) (fun _ h => h) rfl hdg kk
  by_cases h2 : i.1 = 2
  · exact va_getN (D := D) (ref := "SixWhoTurn$Item") (C := RX7) (T := TX7) (N := 6) F.1.1 F.1.2.1 F.1.2.2.2.2 in_X7 F.1.2.2.2.1 F.2.1 I.1 k (hk.trans (congrArg (fun z => some (q, z)) (itc_2 h2))) rfl 0 (by decide) (va_Nw.use rfl (F.2.2.1.1.1 _ (List.mem_of_getElem? (i := 18) rfl))) (fun _ h => h) rfl hdg kk
  exact va_getN (D := D) (ref := "SixWhoTurn$Item") (C := RX8) (T := TX8) (N := 7) F.1.1 F.1.2.1 F.1.2.2.2.2 in_X8 F.1.2.2.2.1 F.2.1 I.1 k (hk.trans (congrArg (fun z => some (q, z)) (itc_3 ⟨h0, h1, h2⟩))) rfl 0 (by decide) (va_Nw.use rfl (F.2.2.1.1.1 _ (List.mem_of_getElem? (i := 18) rfl))) (fun _ h => h) rfl hdg kk
theorem w6_itput_begin {k q x0 : Nat} {i : It} {b : Int32} {nx : Value} {v : Int32} (F : w6_F p s m args c cc nL "SixWhoTurn" D g A) (I : w6_I D ws A s H locs) (hk : ws[k]? = some (q, itc x0 i b nx)) (hdg : decode cc pc = .ok (.putfield 245, 3))
    (kk : ∀ (H1 : Heap) (locs1 : List Loc), w6_I D (ws.set k (q, itc x0 i v nx)) A s H1 locs1 → W p l e R s m args below meth c H1 locs1 cells slots Q (F0 m (pc + 3) ls rest)) : W p l e R s m args below meth c H locs cells slots Q (F0 m pc ls (.int v :: .ref q :: rest)) := by
  by_cases h0 : i.1 = 0
  · exact w6_putNh (D := D) (ref := "SixWhoTurn$Item") (ty := .int) (C := RX5) (T := TX5) (N := 5) F.1.1 F.1.2.1 F.1.2.2.2.2 in_X5 (w6_apart F.1.2.2.2.2 in_X5 tyX5 tyX5_ok nm2X5 F.2.1 rfl) F.1.2.2.2.1 F.2.1 I.1 I.2.1 I.2.2 k (hk.trans (congrArg (fun z => some (q, z)) (itc_0 h0))) rfl 0 (by decide) (va_Nw.use rfl (F.2.2.1.1.1 _ (List.mem_of_getElem? (i := 18) rfl))) (fun _ h => h) rfl (by decide +kernel) rfl rfl (Nat.le_of_ble_eq_true rfl) hdg (fun H1 locs1 hP hD hS => kk H1 locs1 (by rw [itc_0 h0]; exact ⟨hP, hD, hS⟩))
  by_cases h1 : i.1 = 1
  · exact w6_putNh (D := D) (ref := "SixWhoTurn$Item") (ty := .int) (C := RX6) (T := TX6) (N := 5) F.1.1 F.1.2.1 F.1.2.2.2.2 in_X6 (w6_apart F.1.2.2.2.2 in_X6 tyX6 tyX6_ok nm2X6 F.2.1 rfl) F.1.2.2.2.1 F.2.1 I.1 I.2.1 I.2.2 k (hk.trans (congrArg (fun z => some (q, z)) (itc_1 h1))) rfl 0 (by decide) (va_Nw.use rfl (F.2.2.1.1.1 _ (List.mem_of_getElem? (i := 18) rfl))) (fun _ h => h) rfl (by decide +kernel) rfl rfl (Nat.le_of_ble_eq_true rfl) hdg (fun H1 locs1 hP hD hS => kk H1 locs1 (by rw [itc_1 h1]; exact ⟨hP, hD, hS⟩))
  by_cases h2 : i.1 = 2
  · exact w6_putNh (D := D) (ref := "SixWhoTurn$Item") (ty := .int) (C := RX7) (T := TX7) (N := 6) F.1.1 F.1.2.1 F.1.2.2.2.2 in_X7 (w6_apart F.1.2.2.2.2 in_X7 tyX7 tyX7_ok nm2X7 F.2.1 rfl) F.1.2.2.2.1 F.2.1 I.1 I.2.1 I.2.2 k (hk.trans (congrArg (fun z => some (q, z)) (itc_2 h2))) rfl 0 (by decide) (va_Nw.use rfl (F.2.2.1.1.1 _ (List.mem_of_getElem? (i := 18) rfl))) (fun _ h => h) rfl (by decide +kernel) rfl rfl (Nat.le_of_ble_eq_true rfl) hdg (fun H1 locs1 hP hD hS => kk H1 locs1 (by rw [itc_2 h2]; exact ⟨hP, hD, hS⟩))
  exact w6_putNh (D := D) (ref := "SixWhoTurn$Item") (ty := .int) (C := RX8) (T := TX8) (N := 7) F.1.1 F.1.2.1 F.1.2.2.2.2 in_X8 (w6_apart F.1.2.2.2.2 in_X8 tyX8 tyX8_ok nm2X8 F.2.1 rfl) F.1.2.2.2.1 F.2.1 I.1 I.2.1 I.2.2 k (hk.trans (congrArg (fun z => some (q, z)) (itc_3 ⟨h0, h1, h2⟩))) rfl 0 (by decide) (va_Nw.use rfl (F.2.2.1.1.1 _ (List.mem_of_getElem? (i := 18) rfl))) (fun _ h => h) rfl (by decide +kernel) rfl rfl (Nat.le_of_ble_eq_true rfl) hdg (fun H1 locs1 hP hD hS => kk H1 locs1 (by rw [itc_3 ⟨h0, h1, h2⟩]; exact ⟨hP, hD, hS⟩))
theorem w6_itget_next {k q x0 : Nat} {i : It} {b : Int32} {nx : Value} (F : w6_F p s m args c cc nL "SixWhoTurn" D g A) (I : w6_I D ws A s H locs) (hk : ws[k]? = some (q, itc x0 i b nx)) (hdg : decode cc pc = .ok (.getfield 257, 3))
    (kk : W p l e R s m args below meth c H locs cells slots Q (F0 m (pc + 3) ls (nx :: rest))) : W p l e R s m args below meth c H locs cells slots Q (F0 m pc ls (.ref q :: rest)) := by
  by_cases h0 : i.1 = 0
  · exact va_getN (D := D) (ref := "SixWhoTurn$Item") (C := RX5) (T := TX5) (N := 5) F.1.1 F.1.2.1 F.1.2.2.2.2 in_X5 F.1.2.2.2.1 F.2.1 I.1 k (hk.trans (congrArg (fun z => some (q, z)) (itc_0 h0))) rfl 1 (by decide) (va_Nw.use rfl (F.2.2.1.1.1 _ (List.mem_of_getElem? (i := 19) rfl))) (fun _ h => h) rfl hdg kk
  by_cases h1 : i.1 = 1
  · exact va_getN (D := D) (ref := "SixWhoTurn$Item") (C := RX6) (T := TX6) (N := 5) F.1.1 F.1.2.1 F.1.2.2.2.2 in_X6 F.1.2.2.2.1 F.2.1 I.1 k (hk.trans (congrArg (fun z => some (q, z)) (itc_1 h1))) rfl 1 (by decide) (va_Nw.use rfl (F.2.2.1.1.1 _ (List.mem_of_getElem? (i := 19) rfl))) (fun _ h => h) rfl hdg kk
  by_cases h2 : i.1 = 2
  · exact va_getN (D := D) (ref := "SixWhoTurn$Item") (C := RX7) (T := TX7) (N := 6) F.1.1 F.1.2.1 F.1.2.2.2.2 in_X7 F.1.2.2.2.1 F.2.1 I.1 k (hk.trans (congrArg (fun z => some (q, z)) (itc_2 h2))) rfl 1 (by decide) (va_Nw.use rfl (F.2.2.1.1.1 _ (List.mem_of_getElem? (i := 19) rfl))) (fun _ h => h) rfl hdg kk
  exact va_getN (D := D) (ref := "SixWhoTurn$Item") (C := RX8) (T := TX8) (N := 7) F.1.1 F.1.2.1 F.1.2.2.2.2 in_X8 F.1.2.2.2.1 F.2.1 I.1 k (hk.trans (congrArg (fun z => some (q, z)) (itc_3 ⟨h0, h1, h2⟩))) rfl 1 (by decide) (va_Nw.use rfl (F.2.2.1.1.1 _ (List.mem_of_getElem? (i := 19) rfl))) (fun _ h => h) rfl hdg kk
theorem w6_itput_next {k q x0 : Nat} {i : It} {b : Int32} {nx : Value} {v : Nat} (F : w6_F p s m args c cc nL "SixWhoTurn" D g A) (I : w6_I D ws A s H locs) (hk : ws[k]? = some (q, itc x0 i b nx)) (hdg : decode cc pc = .ok (.putfield 257, 3))
    (kk : ∀ (H1 : Heap) (locs1 : List Loc), w6_I D (ws.set k (q, itc x0 i b (.ref v))) A s H1 locs1 → W p l e R s m args below meth c H1 locs1 cells slots Q (F0 m (pc + 3) ls rest)) : W p l e R s m args below meth c H locs cells slots Q (F0 m pc ls (.ref v :: .ref q :: rest)) := by
  by_cases h0 : i.1 = 0
  · exact w6_putNh (D := D) (ref := "SixWhoTurn$Item") (ty := .object "SixWhoTurn$Item") (C := RX5) (T := TX5) (N := 5) F.1.1 F.1.2.1 F.1.2.2.2.2 in_X5 (w6_apart F.1.2.2.2.2 in_X5 tyX5 tyX5_ok nm2X5 F.2.1 rfl) F.1.2.2.2.1 F.2.1 I.1 I.2.1 I.2.2 k (hk.trans (congrArg (fun z => some (q, z)) (itc_0 h0))) rfl 1 (by decide) (va_Nw.use rfl (F.2.2.1.1.1 _ (List.mem_of_getElem? (i := 19) rfl))) (fun _ h => h) rfl (by decide +kernel) rfl rfl (Nat.le_of_ble_eq_true rfl) hdg (fun H1 locs1 hP hD hS => kk H1 locs1 (by rw [itc_0 h0]; exact ⟨hP, hD, hS⟩))
  by_cases h1 : i.1 = 1
  · exact w6_putNh (D := D) (ref := "SixWhoTurn$Item") (ty := .object "SixWhoTurn$Item") (C := RX6) (T := TX6) (N := 5) F.1.1 F.1.2.1 F.1.2.2.2.2 in_X6 (w6_apart F.1.2.2.2.2 in_X6 tyX6 tyX6_ok nm2X6 F.2.1 rfl) F.1.2.2.2.1 F.2.1 I.1 I.2.1 I.2.2 k (hk.trans (congrArg (fun z => some (q, z)) (itc_1 h1))) rfl 1 (by decide) (va_Nw.use rfl (F.2.2.1.1.1 _ (List.mem_of_getElem? (i := 19) rfl))) (fun _ h => h) rfl (by decide +kernel) rfl rfl (Nat.le_of_ble_eq_true rfl) hdg (fun H1 locs1 hP hD hS => kk H1 locs1 (by rw [itc_1 h1]; exact ⟨hP, hD, hS⟩))
  by_cases h2 : i.1 = 2
  · exact w6_putNh (D := D) (ref := "SixWhoTurn$Item") (ty := .object "SixWhoTurn$Item") (C := RX7) (T := TX7) (N := 6) F.1.1 F.1.2.1 F.1.2.2.2.2 in_X7 (w6_apart F.1.2.2.2.2 in_X7 tyX7 tyX7_ok nm2X7 F.2.1 rfl) F.1.2.2.2.1 F.2.1 I.1 I.2.1 I.2.2 k (hk.trans (congrArg (fun z => some (q, z)) (itc_2 h2))) rfl 1 (by decide) (va_Nw.use rfl (F.2.2.1.1.1 _ (List.mem_of_getElem? (i := 19) rfl))) (fun _ h => h) rfl (by decide +kernel) rfl rfl (Nat.le_of_ble_eq_true rfl) hdg (fun H1 locs1 hP hD hS => kk H1 locs1 (by rw [itc_2 h2]; exact ⟨hP, hD, hS⟩))
  exact w6_putNh (D := D) (ref := "SixWhoTurn$Item") (ty := .object "SixWhoTurn$Item") (C := RX8) (T := TX8) (N := 7) F.1.1 F.1.2.1 F.1.2.2.2.2 in_X8 (w6_apart F.1.2.2.2.2 in_X8 tyX8 tyX8_ok nm2X8 F.2.1 rfl) F.1.2.2.2.1 F.2.1 I.1 I.2.1 I.2.2 k (hk.trans (congrArg (fun z => some (q, z)) (itc_3 ⟨h0, h1, h2⟩))) rfl 1 (by decide) (va_Nw.use rfl (F.2.2.1.1.1 _ (List.mem_of_getElem? (i := 19) rfl))) (fun _ h => h) rfl (by decide +kernel) rfl rfl (Nat.le_of_ble_eq_true rfl) hdg (fun H1 locs1 hP hD hS => kk H1 locs1 (by rw [itc_3 ⟨h0, h1, h2⟩]; exact ⟨hP, hD, hS⟩))
end W6IT
def x_act (V : Mm) (t : Int32) : Option (Option It × Mm) :=
  bi_ (x_takes V 33) fun r1 V1 => if r1 = 0 then
    (bi_ (x_takes V1 45) fun r2 V2 => if r2 = 0 then
      (bi_ (x_takes V2 42) fun r3 V3 => if r3 = 0 then
        (bi_ (x_player V3) fun p4 V4 => if 0 ≤ p4 then
            (bi_ (x_player V4) fun p5 V5 => if 0 ≤ p5 then some (some (3, t, p4, p5), V5) else some (none, V5))
          else some (none, V4))
      else (bi_ (x_player V3) fun p4 V4 => if 0 ≤ p4 then some (some (2, t, p4, 0), V4) else some (none, V4)))
    else some (some (2, t, -1, 0), V2))
  else some (some (1, t, 0, 0), V1)
theorem hdX1_act : w6_hd yX1_act 1 := by decide +kernel
abbrev rmX1_act : Room := { frames := 5, cells := 1, slots := 7, locals := 112 }
set_option maxHeartbeats 4000000 in
theorem ctx_act (l : Launch) (D : va_G) (g : Nat → ClassId) (ad : Nat → Nat) (V : Mm) (t : Int32) (res : Option It) (V' : Mm) (hf : x_act V t = some (res, V')) : CTq l D g yX1_act cX1_act 4 (.object "SixWhoTurn$Item") rmX1_act [.ref (ad 0), .int t] (xw g ad V) (xw g ad V') (res.map fun i => itc (ad 0) i 0 .null) := by
  intro sz
  refine w6_startq ⟨_, rfl⟩ RX1 (by decide) (Nat.le_of_ble_eq_true rfl) rfl ?_
  intro p e s m below meth c A ls Q hx hb hown hts F I hl hret
  have hl : lv_has ls 4 [(0, .ref (ad 0)), (1, .int t)] := hl
  have hnull : ∀ (V1 : Mm) (pc : Nat) (H : Heap) (locs : List Loc) (ls : Array Slot), decode cX1_act pc = .ok (.areturn, 1) → some ((none : Option It), V1) = some (res, V') → w6_I D (xw g ad V1 ++ []) A s H locs → W p l e rmX1_act s m ([.ref (ad 0), .int t] : List Value).toArray below meth c H locs 0 0 Q (F0 m pc ls [.null]) := by
    intro V1 pc H locs ls hdg hf I
    obtain ⟨e1, e2⟩ := so_e hf
    subst e1 e2
    refine W.widen (k := 1) (n := 7) (Nat.le_of_ble_eq_true rfl) (Nat.le_of_ble_eq_true rfl) ?_
    exact hret none _ _ _ _ hdg I rfl
  have hsome : ∀ (V1 : Mm) (i : It) (q : Nat) (pc : Nat) (H : Heap) (locs : List Loc) (ls : Array Slot), decode cX1_act pc = .ok (.areturn, 1) → some (some i, V1) = some (res, V') → w6_I D (xw g ad V1 ++ [(q, itc (ad 0) i 0 .null)]) A s H locs → W p l e rmX1_act s m ([.ref (ad 0), .int t] : List Value).toArray below meth c H locs 1 7 Q (F0 m pc ls [.ref q]) := by
    intro V1 i q pc H locs ls hdg hf I
    obtain ⟨e1, e2⟩ := so_e hf
    subst e1 e2
    exact hret (some q) _ _ _ _ hdg I.nil' rfl
  unfold x_act at hf
  obtain ⟨r1, V1, h1, hf⟩ := bi_e hf
  refine lv_aload_n hx hb dX1_act_0 rfl (lv_at hl 0 rfl) ?_
  refine lv_bipush (v := (33 : Int32)) hx hb dX1_act_1 (by decide) ?_
  refine xz_Vi F I (ctx_takes l D g ad V (33 : Int32) r1 V1 h1) (lw_V q408 q410 qs7 q47 q411) hdX1_takes rfl (Nat.le_of_ble_eq_true rfl) (Nat.le_of_ble_eq_true rfl) (w6_recv F I xo_ob rfl) rfl hl.1 [] rfl (Nat.le_of_ble_eq_true rfl) dX1_act_3 ⟨(Nat.le_of_ble_eq_true rfl), (Nat.le_of_ble_eq_true rfl)⟩ (fun H locs I => ?_)
  refine lv_if_eq (tgt := 19) hx hb dX1_act_6 (by decide) (fun c => ?_) (fun c => ?_)
  rotate_left
  · have hf := if_n c hf
    refine va_new (D := D) (ci := 4) (fs := [.int 0, .null, .null, .int 0, .null]) (C := RX6) (T := TX6) (N := 5) hx hb hts in_X6 tyX6 tyX6_ok hown (hts _ q441) (hts _ q442) (hts _ q55) F.2.1 I.1 I.2.1 I.2.2 F.2.2.2 rfl (fun j hj => by rcases (show j = 0 ∨ j = 1 ∨ j = 2 ∨ j = 3 ∨ j = 4 by omega) with rfl | rfl | rfl | rfl | rfl <;> rfl) (Nat.le_of_ble_eq_true rfl) (Nat.le_of_ble_eq_true rfl) dX1_act_9 (fun q H hP hD hS => ?_)
    have I : w6_I D ([(q, .inr (4, [.int 0, .null, .null, .int 0, .null]))] ++ xw g ad V1) A s H _ := w6_I.comm (by rw [List.append_nil] at hP hD; exact ⟨hP, hD, hS⟩)
    refine lv_dup hx hb dX1_act_12 rfl ?_
    refine lv_aload_n hx hb dX1_act_13 rfl (lv_at hl 0 rfl) ?_
    refine lv_iload_n hx hb dX1_act_14 rfl (lv_at hl 1 rfl) ?_
    refine xc_Iv F I (ctX6_init l D g q (ad 0) t) q445 q55 q443 q444 hdX6_init rfl (Nat.le_of_ble_eq_true rfl) (Nat.le_of_ble_eq_true rfl) rfl hl.1 [.ref q] rfl (Nat.le_of_ble_eq_true rfl) dX1_act_15 ⟨(Nat.le_of_ble_eq_true rfl), (Nat.le_of_ble_eq_true rfl)⟩ (fun H locs I => ?_)
    have I := I.comm
    refine W.widen (k := 1) (n := 7) (Nat.le_of_ble_eq_true rfl) (Nat.le_of_ble_eq_true rfl) ?_
    exact hsome _ _ _ _ _ _ _ dX1_act_18 hf I
  have hf := if_p c hf
  obtain ⟨r2, V2, h2, hf⟩ := bi_e hf
  refine lv_aload_n hx hb dX1_act_19 rfl (lv_at hl 0 rfl) ?_
  refine lv_bipush (v := (45 : Int32)) hx hb dX1_act_20 (by decide) ?_
  refine xz_Vi F I (ctx_takes l D g ad V1 (45 : Int32) r2 V2 h2) (lw_V q408 q410 qs7 q47 q411) hdX1_takes rfl (Nat.le_of_ble_eq_true rfl) (Nat.le_of_ble_eq_true rfl) (w6_recv F I xo_ob rfl) rfl hl.1 [] rfl (Nat.le_of_ble_eq_true rfl) dX1_act_22 ⟨(Nat.le_of_ble_eq_true rfl), (Nat.le_of_ble_eq_true rfl)⟩ (fun H locs I => ?_)
  refine lv_if_eq (tgt := 39) hx hb dX1_act_25 (by decide) (fun c => ?_) (fun c => ?_)
  rotate_left
  · have hf := if_n c hf
    refine va_new (D := D) (ci := 5) (fs := [.int 0, .null, .null, .int 0, .int 0, .null]) (C := RX7) (T := TX7) (N := 6) hx hb hts in_X7 tyX7 tyX7_ok hown (hts _ q457) (hts _ q458) (hts _ q56) F.2.1 I.1 I.2.1 I.2.2 F.2.2.2 rfl (fun j hj => by rcases (show j = 0 ∨ j = 1 ∨ j = 2 ∨ j = 3 ∨ j = 4 ∨ j = 5 by omega) with rfl | rfl | rfl | rfl | rfl | rfl <;> rfl) (Nat.le_of_ble_eq_true rfl) (Nat.le_of_ble_eq_true rfl) dX1_act_28 (fun q H hP hD hS => ?_)
    have I : w6_I D ([(q, .inr (5, [.int 0, .null, .null, .int 0, .int 0, .null]))] ++ xw g ad V2) A s H _ := w6_I.comm (by rw [List.append_nil] at hP hD; exact ⟨hP, hD, hS⟩)
    refine lv_dup hx hb dX1_act_31 rfl ?_
    refine lv_aload_n hx hb dX1_act_32 rfl (lv_at hl 0 rfl) ?_
    refine lv_iload_n hx hb dX1_act_33 rfl (lv_at hl 1 rfl) ?_
    refine lv_iconst (v := (-1 : Int32)) hx hb dX1_act_34 (by decide) ?_
    refine xc_Iv F I (ctX7_init l D g q (ad 0) t (-1 : Int32)) q461 q56 q459 q460 hdX7_init rfl (Nat.le_of_ble_eq_true rfl) (Nat.le_of_ble_eq_true rfl) rfl hl.1 [.ref q] rfl (Nat.le_of_ble_eq_true rfl) dX1_act_35 ⟨(Nat.le_of_ble_eq_true rfl), (Nat.le_of_ble_eq_true rfl)⟩ (fun H locs I => ?_)
    have I := I.comm
    refine W.widen (k := 1) (n := 7) (Nat.le_of_ble_eq_true rfl) (Nat.le_of_ble_eq_true rfl) ?_
    exact hsome _ _ _ _ _ _ _ dX1_act_38 hf I
  have hf := if_p c hf
  obtain ⟨r3, V3, h3, hf⟩ := bi_e hf
  refine lv_aload_n hx hb dX1_act_39 rfl (lv_at hl 0 rfl) ?_
  refine lv_bipush (v := (42 : Int32)) hx hb dX1_act_40 (by decide) ?_
  refine xz_Vi F I (ctx_takes l D g ad V2 (42 : Int32) r3 V3 h3) (lw_V q408 q410 qs7 q47 q411) hdX1_takes rfl (Nat.le_of_ble_eq_true rfl) (Nat.le_of_ble_eq_true rfl) (w6_recv F I xo_ob rfl) rfl hl.1 [] rfl (Nat.le_of_ble_eq_true rfl) dX1_act_42 ⟨(Nat.le_of_ble_eq_true rfl), (Nat.le_of_ble_eq_true rfl)⟩ (fun H locs I => ?_)
  refine lv_if_eq (tgt := 72) hx hb dX1_act_45 (by decide) (fun c => ?_) (fun c => ?_)
  rotate_left
  · have hf := if_n c hf
    obtain ⟨p4, V4, h4, hf⟩ := bi_e hf
    refine lv_aload_n hx hb dX1_act_48 rfl (lv_at hl 0 rfl) ?_
    refine xz_Vi F I (ctx_player l D g ad V3 p4 V4 h4) (lw_V q476 q478 qs9 q47 q479) hdX1_player rfl (Nat.le_of_ble_eq_true rfl) (Nat.le_of_ble_eq_true rfl) (w6_recv F I xo_ob rfl) rfl hl.1 [] rfl (Nat.le_of_ble_eq_true rfl) dX1_act_49 ⟨(Nat.le_of_ble_eq_true rfl), (Nat.le_of_ble_eq_true rfl)⟩ (fun H locs I => ?_)
    refine lv_istore_n (lv' := [(2, .int p4), (0, .ref (ad 0)), (1, .int t)]) hx hb dX1_act_52 rfl hl (by decide) rfl (fun ls hl => ?_)
    refine lv_iload_n hx hb dX1_act_53 rfl (lv_at hl 0 rfl) ?_
    refine lv_if_ge (tgt := 61) hx hb dX1_act_54 (by decide) (fun c => ?_) (fun c => ?_)
    · have hf := if_p c hf
      refine va_new (D := D) (ci := 5) (fs := [.int 0, .null, .null, .int 0, .int 0, .null]) (C := RX7) (T := TX7) (N := 6) hx hb hts in_X7 tyX7 tyX7_ok hown (hts _ q457) (hts _ q458) (hts _ q56) F.2.1 I.1 I.2.1 I.2.2 F.2.2.2 rfl (fun j hj => by rcases (show j = 0 ∨ j = 1 ∨ j = 2 ∨ j = 3 ∨ j = 4 ∨ j = 5 by omega) with rfl | rfl | rfl | rfl | rfl | rfl <;> rfl) (Nat.le_of_ble_eq_true rfl) (Nat.le_of_ble_eq_true rfl) dX1_act_61 (fun q H hP hD hS => ?_)
      have I : w6_I D ([(q, .inr (5, [.int 0, .null, .null, .int 0, .int 0, .null]))] ++ xw g ad V4) A s H _ := w6_I.comm (by rw [List.append_nil] at hP hD; exact ⟨hP, hD, hS⟩)
      refine lv_dup hx hb dX1_act_64 rfl ?_
      refine lv_aload_n hx hb dX1_act_65 rfl (lv_at hl 1 rfl) ?_
      refine lv_iload_n hx hb dX1_act_66 rfl (lv_at hl 2 rfl) ?_
      refine lv_iload_n hx hb dX1_act_67 rfl (lv_at hl 0 rfl) ?_
      refine xc_Iv F I (ctX7_init l D g q (ad 0) t p4) q461 q56 q459 q460 hdX7_init rfl (Nat.le_of_ble_eq_true rfl) (Nat.le_of_ble_eq_true rfl) rfl hl.1 [.ref q] rfl (Nat.le_of_ble_eq_true rfl) dX1_act_68 ⟨(Nat.le_of_ble_eq_true rfl), (Nat.le_of_ble_eq_true rfl)⟩ (fun H locs I => ?_)
      have I := I.comm
      refine W.widen (k := 1) (n := 7) (Nat.le_of_ble_eq_true rfl) (Nat.le_of_ble_eq_true rfl) ?_
      exact hsome _ _ _ _ _ _ _ dX1_act_71 hf I
    · have hf := if_n c hf
      refine lv_null hx hb dX1_act_57 ?_
      refine lv_goto (tgt := 71) hx hb dX1_act_58 (by decide) ?_
      exact hnull _ _ _ _ _ dX1_act_71 hf I
  have hf := if_p c hf
  obtain ⟨p4, V4, h4, hf⟩ := bi_e hf
  refine lv_aload_n hx hb dX1_act_72 rfl (lv_at hl 0 rfl) ?_
  refine xz_Vi F I (ctx_player l D g ad V3 p4 V4 h4) (lw_V q476 q478 qs9 q47 q479) hdX1_player rfl (Nat.le_of_ble_eq_true rfl) (Nat.le_of_ble_eq_true rfl) (w6_recv F I xo_ob rfl) rfl hl.1 [] rfl (Nat.le_of_ble_eq_true rfl) dX1_act_73 ⟨(Nat.le_of_ble_eq_true rfl), (Nat.le_of_ble_eq_true rfl)⟩ (fun H locs I => ?_)
  refine lv_istore_n (lv' := [(2, .int p4), (0, .ref (ad 0)), (1, .int t)]) hx hb dX1_act_76 rfl hl (by decide) rfl (fun ls hl => ?_)
  refine lv_iload_n hx hb dX1_act_77 rfl (lv_at hl 0 rfl) ?_
  refine lv_if_ge (tgt := 85) hx hb dX1_act_78 (by decide) (fun c => ?_) (fun c => ?_)
  rotate_left
  · have hf := if_n c hf
    refine lv_iconst (v := (-1 : Int32)) hx hb dX1_act_81 (by decide) ?_
    refine lv_goto (tgt := 89) hx hb dX1_act_82 (by decide) ?_
    refine lv_istore_n (lv' := [(3, .int (-1 : Int32)), (2, .int p4), (0, .ref (ad 0)), (1, .int t)]) hx hb dX1_act_89 rfl hl (by decide) rfl (fun ls hl => ?_)
    refine lv_iload_n hx hb dX1_act_90 rfl (lv_at hl 0 rfl) ?_
    refine lv_if_ge (tgt := 98) hx hb dX1_act_91 (by decide) (fun c => absurd c (by decide)) (fun _ => ?_)
    refine lv_null hx hb dX1_act_94 ?_
    refine lv_goto (tgt := 109) hx hb dX1_act_95 (by decide) ?_
    exact hnull _ _ _ _ _ dX1_act_109 hf I
  have hf := if_p c hf
  obtain ⟨p5, V5, h5, hf⟩ := bi_e hf
  refine lv_aload_n hx hb dX1_act_85 rfl (lv_at hl 1 rfl) ?_
  refine xz_Vi F I (ctx_player l D g ad V4 p5 V5 h5) (lw_V q476 q478 qs9 q47 q479) hdX1_player rfl (Nat.le_of_ble_eq_true rfl) (Nat.le_of_ble_eq_true rfl) (w6_recv F I xo_ob rfl) rfl hl.1 [] rfl (Nat.le_of_ble_eq_true rfl) dX1_act_86 ⟨(Nat.le_of_ble_eq_true rfl), (Nat.le_of_ble_eq_true rfl)⟩ (fun H locs I => ?_)
  refine lv_istore_n (lv' := [(3, .int p5), (2, .int p4), (0, .ref (ad 0)), (1, .int t)]) hx hb dX1_act_89 rfl hl (by decide) rfl (fun ls hl => ?_)
  refine lv_iload_n hx hb dX1_act_90 rfl (lv_at hl 0 rfl) ?_
  refine lv_if_ge (tgt := 98) hx hb dX1_act_91 (by decide) (fun c => ?_) (fun c => ?_)
  · have hf := if_p c hf
    refine va_new (D := D) (ci := 6) (fs := [.int 0, .null, .null, .int 0, .int 0, .int 0, .null]) (C := RX8) (T := TX8) (N := 7) hx hb hts in_X8 tyX8 tyX8_ok hown (hts _ q565) (hts _ q566) (hts _ q62) F.2.1 I.1 I.2.1 I.2.2 F.2.2.2 rfl (fun j hj => by rcases (show j = 0 ∨ j = 1 ∨ j = 2 ∨ j = 3 ∨ j = 4 ∨ j = 5 ∨ j = 6 by omega) with rfl | rfl | rfl | rfl | rfl | rfl | rfl <;> rfl) (Nat.le_of_ble_eq_true rfl) (Nat.le_of_ble_eq_true rfl) dX1_act_98 (fun q H hP hD hS => ?_)
    have I : w6_I D ([(q, .inr (6, [.int 0, .null, .null, .int 0, .int 0, .int 0, .null]))] ++ xw g ad V5) A s H _ := w6_I.comm (by rw [List.append_nil] at hP hD; exact ⟨hP, hD, hS⟩)
    refine lv_dup hx hb dX1_act_101 rfl ?_
    refine lv_aload_n hx hb dX1_act_102 rfl (lv_at hl 2 rfl) ?_
    refine lv_iload_n hx hb dX1_act_103 rfl (lv_at hl 3 rfl) ?_
    refine lv_iload_n hx hb dX1_act_104 rfl (lv_at hl 1 rfl) ?_
    refine lv_iload_n hx hb dX1_act_105 rfl (lv_at hl 0 rfl) ?_
    refine xc_Iv F I (ctX8_init l D g q (ad 0) t p4 p5) q569 q62 q567 q568 hdX8_init rfl (Nat.le_of_ble_eq_true rfl) (Nat.le_of_ble_eq_true rfl) rfl hl.1 [.ref q] rfl (Nat.le_of_ble_eq_true rfl) dX1_act_106 ⟨(Nat.le_of_ble_eq_true rfl), (Nat.le_of_ble_eq_true rfl)⟩ (fun H locs I => ?_)
    have I := I.comm
    refine W.widen (k := 1) (n := 7) (Nat.le_of_ble_eq_true rfl) (Nat.le_of_ble_eq_true rfl) ?_
    exact hsome _ _ _ _ _ _ _ dX1_act_109 hf I
  · have hf := if_n c hf
    refine lv_null hx hb dX1_act_94 ?_
    refine lv_goto (tgt := 109) hx hb dX1_act_95 (by decide) ?_
    exact hnull _ _ _ _ _ dX1_act_109 hf I
def x_item (V : Mm) : Option (Option (It × Int32) × Mm) :=
  lt_ (V.1 0 13) fun b =>
  bi_ (x_takes V 65) fun r1 V1 => if r1 = 0 then
   (bi_ (x_takes V1 66) fun r2 V2 => if r2 = 0 then
    (bi_ (x_takes V2 97) fun r3 V3 => if r3 = 0 then
      (bi_ (x_takes V3 98) fun r4 V4 => if r4 = 0 then some (none, V4)
        else (bi_ (x_act V4 1) fun i V5 => some (i.map (fun z => (z, b)), V5)))
     else (bi_ (x_act V3 0) fun i V4 => some (i.map (fun z => (z, b)), V4)))
   else some (some ((0, 1, 0, 0), b), V2))
  else some (some ((0, 0, 0, 0), b), V1)
theorem hdX1_item : w6_hd yX1_item 0 := by decide +kernel
abbrev rmX1_item : Room := { frames := 6, cells := 1, slots := 7, locals := 135 }
set_option maxHeartbeats 4000000 in
theorem ctx_item (l : Launch) (D : va_G) (g : Nat → ClassId) (ad : Nat → Nat) (V : Mm) (res : Option (It × Int32)) (V' : Mm) (hf : x_item V = some (res, V')) : CTq l D g yX1_item cX1_item 3 (.object "SixWhoTurn$Item") rmX1_item [.ref (ad 0)] (xw g ad V) (xw g ad V') (res.map fun z => itc (ad 0) z.1 z.2 .null) := by
  intro sz
  refine w6_startq ⟨_, rfl⟩ RX1 (by decide) (Nat.le_of_ble_eq_true rfl) rfl ?_
  intro p e s m below meth c A ls Q hx hb hown hts F I hl hret
  have hl : lv_has ls 3 [(0, .ref (ad 0))] := hl
  have hnull : ∀ (V1 : Mm) (b : Int32) (H : Heap) (locs : List Loc) (ls : Array Slot), lv_has ls 3 [(1, .int b), (0, .ref (ad 0))] → some ((none : Option (It × Int32)), V1) = some (res, V') → w6_I D (xw g ad V1 ++ []) A s H locs → W p l e rmX1_item s m ([.ref (ad 0)] : List Value).toArray below meth c H locs 0 0 Q (F0 m 82 ls [.null]) := by
    intro V1 b H locs ls hl hf I
    obtain ⟨e1, e2⟩ := so_e hf
    subst e1 e2
    refine lv_astore_nN (lv' := [(2, .null), (1, .int b), (0, .ref (ad 0))]) hx hb dX1_item_82 rfl hl (by decide) rfl (fun ls hl => ?_)
    refine lv_aload_nN hx hb dX1_item_83 rfl (lv_at hl 0 rfl) ?_
    refine lv_ifnullN (tgt := 92) hx hb dX1_item_84 (by decide) ?_
    refine lv_aload_nN hx hb dX1_item_92 rfl (lv_at hl 0 rfl) ?_
    refine W.widen (k := 1) (n := 7) (Nat.le_of_ble_eq_true rfl) (Nat.le_of_ble_eq_true rfl) ?_
    exact hret none _ _ _ _ dX1_item_93 I rfl
  have hsome : ∀ (V1 : Mm) (i : It) (q : Nat) (b : Int32) (H : Heap) (locs : List Loc) (ls : Array Slot), lv_has ls 3 [(1, .int b), (0, .ref (ad 0))] → some (some (i, b), V1) = some (res, V') → w6_I D (xw g ad V1 ++ [(q, itc (ad 0) i 0 .null)]) A s H locs → W p l e rmX1_item s m ([.ref (ad 0)] : List Value).toArray below meth c H locs 1 7 Q (F0 m 82 ls [.ref q]) := by
    intro V1 i q b H locs ls hl hf I
    obtain ⟨e1, e2⟩ := so_e hf
    subst e1 e2
    refine lv_astore_n (lv' := [(2, .ref q), (1, .int b), (0, .ref (ad 0))]) hx hb dX1_item_82 rfl hl (by decide) rfl (fun ls hl => ?_)
    refine lv_aload_n hx hb dX1_item_83 rfl (lv_at hl 0 rfl) ?_
    refine lv_ifnull hx hb dX1_item_84 ?_
    refine lv_aload_n hx hb dX1_item_87 rfl (lv_at hl 0 rfl) ?_
    refine lv_iload_n hx hb dX1_item_88 rfl (lv_at hl 1 rfl) ?_
    refine w6_itput_begin (k := 71 + 0) (v := b) F I (w6_fl_last.trans rfl) dX1_item_89 (fun H locs I => ?_)
    have I : w6_I D (xw g ad V1 ++ [(q, itc (ad 0) i b .null)]) A s H locs := w6_setr I
    refine lv_aload_n hx hb dX1_item_92 rfl (lv_at hl 0 rfl) ?_
    exact hret (some q) _ _ _ _ dX1_item_93 I.nil' rfl
  have hopt : ∀ (V1 : Mm) (i : Option It) (u : Option Nat) (b : Int32) (H : Heap) (locs : List Loc) (ls : Array Slot), u.isSome = (i.map fun i => itc (ad 0) i 0 .null).isSome → lv_has ls 3 [(1, .int b), (0, .ref (ad 0))] → some (i.map (fun z => (z, b)), V1) = some (res, V') → w6_I D (w6_add (xw g ad V1) u (i.map fun i => itc (ad 0) i 0 .null) ++ []) A s H locs → W p l e rmX1_item s m ([.ref (ad 0)] : List Value).toArray below meth c H locs (0 + rmX1_act.cells) (0 + rmX1_act.slots) Q (F0 m 82 ls [va_rf u]) := by
    intro V1 i u b H locs ls hu hl hf I
    cases i with
    | none =>
      cases u with
      | none =>
        obtain ⟨e1, e2⟩ := so_e hf
        subst e1 e2
        refine lv_astore_nN (lv' := [(2, .null), (1, .int b), (0, .ref (ad 0))]) hx hb dX1_item_82 rfl hl (by decide) rfl (fun ls hl => ?_)
        refine lv_aload_nN hx hb dX1_item_83 rfl (lv_at hl 0 rfl) ?_
        refine lv_ifnullN (tgt := 92) hx hb dX1_item_84 (by decide) ?_
        refine lv_aload_nN hx hb dX1_item_92 rfl (lv_at hl 0 rfl) ?_
        exact hret none _ _ _ _ dX1_item_93 I rfl
      | some q => cases hu
    | some i =>
      cases u with
      | none => cases hu
      | some q => exact hsome V1 i q b H locs ls hl hf I.nil
  unfold x_item at hf
  obtain ⟨b, eb, hf⟩ := lt_e hf
  refine lv_aload_n hx hb dX1_item_0 rfl (lv_at hl 0 rfl) ?_
  refine w6_get F I xo_ob rfl in_X1 13 (by decide) q170 rfl rfl dX1_item_1 ?_
  refine w6_nmi eb ?_
  refine lv_istore_n (lv' := [(1, .int b), (0, .ref (ad 0))]) hx hb dX1_item_4 rfl hl (by decide) rfl (fun ls hl => ?_)
  obtain ⟨r1, V1, h1, hf⟩ := bi_e hf
  refine lv_aload_n hx hb dX1_item_5 rfl (lv_at hl 1 rfl) ?_
  refine lv_bipush (v := (65 : Int32)) hx hb dX1_item_6 (by decide) ?_
  refine xz_Vi F I (ctx_takes l D g ad V (65 : Int32) r1 V1 h1) (lw_V q408 q410 qs7 q47 q411) hdX1_takes rfl (Nat.le_of_ble_eq_true rfl) (Nat.le_of_ble_eq_true rfl) (w6_recv F I xo_ob rfl) rfl hl.1 [] rfl (Nat.le_of_ble_eq_true rfl) dX1_item_8 ⟨(Nat.le_of_ble_eq_true rfl), (Nat.le_of_ble_eq_true rfl)⟩ (fun H locs I => ?_)
  refine lv_if_eq (tgt := 26) hx hb dX1_item_11 (by decide) (fun c => ?_) (fun c => ?_)
  rotate_left
  · have hf := if_n c hf
    refine va_new (D := D) (ci := 3) (fs := [.int 0, .null, .null, .int 0, .null]) (C := RX5) (T := TX5) (N := 5) hx hb hts in_X5 tyX5 tyX5_ok hown (hts _ q412) (hts _ q413) (hts _ q54) F.2.1 I.1 I.2.1 I.2.2 F.2.2.2 rfl (fun j hj => by rcases (show j = 0 ∨ j = 1 ∨ j = 2 ∨ j = 3 ∨ j = 4 by omega) with rfl | rfl | rfl | rfl | rfl <;> rfl) (Nat.le_of_ble_eq_true rfl) (Nat.le_of_ble_eq_true rfl) dX1_item_14 (fun q H hP hD hS => ?_)
    have I : w6_I D ([(q, .inr (3, [.int 0, .null, .null, .int 0, .null]))] ++ xw g ad V1) A s H _ := w6_I.comm (by rw [List.append_nil] at hP hD; exact ⟨hP, hD, hS⟩)
    refine lv_dup hx hb dX1_item_17 rfl ?_
    refine lv_aload_n hx hb dX1_item_18 rfl (lv_at hl 1 rfl) ?_
    refine lv_iconst (v := (0 : Int32)) hx hb dX1_item_19 (by decide) ?_
    refine xc_Iv F I (ctX5_init l D g q (ad 0) (0 : Int32)) q416 q54 q414 q415 hdX5_init rfl (Nat.le_of_ble_eq_true rfl) (Nat.le_of_ble_eq_true rfl) rfl hl.1 [.ref q] rfl (Nat.le_of_ble_eq_true rfl) dX1_item_20 ⟨(Nat.le_of_ble_eq_true rfl), (Nat.le_of_ble_eq_true rfl)⟩ (fun H locs I => ?_)
    have I := I.comm
    refine lv_goto (tgt := 82) hx hb dX1_item_23 (by decide) ?_
    refine W.widen (k := 1) (n := 7) (Nat.le_of_ble_eq_true rfl) (Nat.le_of_ble_eq_true rfl) ?_
    exact hsome _ _ _ _ _ _ _ hl hf I
  have hf := if_p c hf
  obtain ⟨r2, V2, h2, hf⟩ := bi_e hf
  refine lv_aload_n hx hb dX1_item_26 rfl (lv_at hl 1 rfl) ?_
  refine lv_bipush (v := (66 : Int32)) hx hb dX1_item_27 (by decide) ?_
  refine xz_Vi F I (ctx_takes l D g ad V1 (66 : Int32) r2 V2 h2) (lw_V q408 q410 qs7 q47 q411) hdX1_takes rfl (Nat.le_of_ble_eq_true rfl) (Nat.le_of_ble_eq_true rfl) (w6_recv F I xo_ob rfl) rfl hl.1 [] rfl (Nat.le_of_ble_eq_true rfl) dX1_item_29 ⟨(Nat.le_of_ble_eq_true rfl), (Nat.le_of_ble_eq_true rfl)⟩ (fun H locs I => ?_)
  refine lv_if_eq (tgt := 47) hx hb dX1_item_32 (by decide) (fun c => ?_) (fun c => ?_)
  rotate_left
  · have hf := if_n c hf
    refine va_new (D := D) (ci := 3) (fs := [.int 0, .null, .null, .int 0, .null]) (C := RX5) (T := TX5) (N := 5) hx hb hts in_X5 tyX5 tyX5_ok hown (hts _ q412) (hts _ q413) (hts _ q54) F.2.1 I.1 I.2.1 I.2.2 F.2.2.2 rfl (fun j hj => by rcases (show j = 0 ∨ j = 1 ∨ j = 2 ∨ j = 3 ∨ j = 4 by omega) with rfl | rfl | rfl | rfl | rfl <;> rfl) (Nat.le_of_ble_eq_true rfl) (Nat.le_of_ble_eq_true rfl) dX1_item_35 (fun q H hP hD hS => ?_)
    have I : w6_I D ([(q, .inr (3, [.int 0, .null, .null, .int 0, .null]))] ++ xw g ad V2) A s H _ := w6_I.comm (by rw [List.append_nil] at hP hD; exact ⟨hP, hD, hS⟩)
    refine lv_dup hx hb dX1_item_38 rfl ?_
    refine lv_aload_n hx hb dX1_item_39 rfl (lv_at hl 1 rfl) ?_
    refine lv_iconst (v := (1 : Int32)) hx hb dX1_item_40 (by decide) ?_
    refine xc_Iv F I (ctX5_init l D g q (ad 0) (1 : Int32)) q416 q54 q414 q415 hdX5_init rfl (Nat.le_of_ble_eq_true rfl) (Nat.le_of_ble_eq_true rfl) rfl hl.1 [.ref q] rfl (Nat.le_of_ble_eq_true rfl) dX1_item_41 ⟨(Nat.le_of_ble_eq_true rfl), (Nat.le_of_ble_eq_true rfl)⟩ (fun H locs I => ?_)
    have I := I.comm
    refine lv_goto (tgt := 82) hx hb dX1_item_44 (by decide) ?_
    refine W.widen (k := 1) (n := 7) (Nat.le_of_ble_eq_true rfl) (Nat.le_of_ble_eq_true rfl) ?_
    exact hsome _ _ _ _ _ _ _ hl hf I
  have hf := if_p c hf
  obtain ⟨r3, V3, h3, hf⟩ := bi_e hf
  refine lv_aload_n hx hb dX1_item_47 rfl (lv_at hl 1 rfl) ?_
  refine lv_bipush (v := (97 : Int32)) hx hb dX1_item_48 (by decide) ?_
  refine xz_Vi F I (ctx_takes l D g ad V2 (97 : Int32) r3 V3 h3) (lw_V q408 q410 qs7 q47 q411) hdX1_takes rfl (Nat.le_of_ble_eq_true rfl) (Nat.le_of_ble_eq_true rfl) (w6_recv F I xo_ob rfl) rfl hl.1 [] rfl (Nat.le_of_ble_eq_true rfl) dX1_item_50 ⟨(Nat.le_of_ble_eq_true rfl), (Nat.le_of_ble_eq_true rfl)⟩ (fun H locs I => ?_)
  refine lv_if_eq (tgt := 64) hx hb dX1_item_53 (by decide) (fun c => ?_) (fun c => ?_)
  rotate_left
  · have hf := if_n c hf
    obtain ⟨i5, V4, h5, hf⟩ := bi_e hf
    refine lv_aload_n hx hb dX1_item_56 rfl (lv_at hl 1 rfl) ?_
    refine lv_iconst (v := (0 : Int32)) hx hb dX1_item_57 (by decide) ?_
    refine xc_Vq F I (ctx_act l D g ad V3 (0 : Int32) i5 V4 h5) (lw_V q437 q439 qs8 q47 q440) hdX1_act rfl (Nat.le_of_ble_eq_true rfl) (Nat.le_of_ble_eq_true rfl) (w6_recv F I xo_ob rfl) rfl hl.1 [] rfl (Nat.le_of_ble_eq_true rfl) dX1_item_58 ⟨(Nat.le_of_ble_eq_true rfl), (Nat.le_of_ble_eq_true rfl)⟩ (fun u H locs hu I => ?_)
    refine lv_goto (tgt := 82) hx hb dX1_item_61 (by decide) ?_
    exact hopt _ _ _ _ _ _ _ hu hl hf I
  have hf := if_p c hf
  obtain ⟨r4, V4, h4, hf⟩ := bi_e hf
  refine lv_aload_n hx hb dX1_item_64 rfl (lv_at hl 1 rfl) ?_
  refine lv_bipush (v := (98 : Int32)) hx hb dX1_item_65 (by decide) ?_
  refine xz_Vi F I (ctx_takes l D g ad V3 (98 : Int32) r4 V4 h4) (lw_V q408 q410 qs7 q47 q411) hdX1_takes rfl (Nat.le_of_ble_eq_true rfl) (Nat.le_of_ble_eq_true rfl) (w6_recv F I xo_ob rfl) rfl hl.1 [] rfl (Nat.le_of_ble_eq_true rfl) dX1_item_67 ⟨(Nat.le_of_ble_eq_true rfl), (Nat.le_of_ble_eq_true rfl)⟩ (fun H locs I => ?_)
  refine lv_if_eq (tgt := 81) hx hb dX1_item_70 (by decide) (fun c => ?_) (fun c => ?_)
  rotate_left
  · have hf := if_n c hf
    obtain ⟨i5, V5, h5, hf⟩ := bi_e hf
    refine lv_aload_n hx hb dX1_item_73 rfl (lv_at hl 1 rfl) ?_
    refine lv_iconst (v := (1 : Int32)) hx hb dX1_item_74 (by decide) ?_
    refine xc_Vq F I (ctx_act l D g ad V4 (1 : Int32) i5 V5 h5) (lw_V q437 q439 qs8 q47 q440) hdX1_act rfl (Nat.le_of_ble_eq_true rfl) (Nat.le_of_ble_eq_true rfl) (w6_recv F I xo_ob rfl) rfl hl.1 [] rfl (Nat.le_of_ble_eq_true rfl) dX1_item_75 ⟨(Nat.le_of_ble_eq_true rfl), (Nat.le_of_ble_eq_true rfl)⟩ (fun u H locs hu I => ?_)
    refine lv_goto (tgt := 82) hx hb dX1_item_78 (by decide) ?_
    exact hopt _ _ _ _ _ _ _ hu hl hf I
  have hf := if_p c hf
  refine lv_null hx hb dX1_item_81 ?_
  exact hnull _ _ _ _ _ hl hf I
