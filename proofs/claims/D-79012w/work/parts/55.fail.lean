/-! FAILURES: their constructors, their codes -/
set_option maxRecDepth 100000
theorem th_X8 : gTh (RX8, TX8, 8) 3 6 8 := ⟨by decide, by decide, rfl, rfl, q455, q1259, q1261, q1257⟩
theorem th_X9 : gTh (RX9, TX9, 8) 3 6 8 := ⟨by decide, by decide, rfl, rfl, q454, q1271, q1273, q1269⟩
theorem th_X15 : gTh (RX15, TX15, 8) 3 6 8 := ⟨by decide, by decide, rfl, rfl, q456, q1405, q1407, q1403⟩
theorem th_X17 : gTh (RX17, TX17, 7) 1 4 7 := ⟨by decide, by decide, rfl, rfl, q457, q1670, q1672, q1668⟩
theorem nar_q (t : FieldType) (o : Option Nat) : narrow t (va_rf o) = va_rf o := by
  cases o <;> cases t <;> rfl
theorem fit_A (t : FieldType) (o : Option Nat) : fits (.array t) (va_rf o) = true := by cases o <;> rfl
theorem gE.uU {E : GE} (hE : gE E) : ∃ u : Option Nat, va_Z Bundle.tN "UNASSIGNED_STACK" Bundle.steD (va_rf u) (gA E) E.S0 E.S0.heap := by
  rcases hE.zU.1 with h | ⟨t, h⟩
  · exact ⟨none, h⟩
  · exact ⟨some t, h⟩
theorem gE.uS {E : GE} (hE : gE E) : ∃ u : Option Nat, va_Z Bundle.tN "SUPPRESSED_SENTINEL" Bundle.listD (va_rf u) (gA E) E.S0 E.S0.heap := by
  rcases hE.zS.1 with h | ⟨t, h⟩
  · exact ⟨none, h⟩
  · exact ⟨some t, h⟩
/-- a new Throwable of our own: its fields -/
abbrev thN : List Value := [.int 0, .int 0, .null, .null, .null, .null, .null, .int 0]
abbrev thF (c d : Value) (o u w : Option Nat) : List Value := [c, d, va_rf o, va_rf u, va_rf w, .null, .null, .int 0]
abbrev mJ7_init_3 : GM := (yJ7_init_3, 3, none, [], { frames := 4, cells := 0, slots := 0, locals := 80 }, 255)
theorem kJ7_init_3 : gCi cJ7_init_3 mJ7_init_3 2 := ⟨q1287, q76, q1288, ⟨by decide +kernel, by decide +kernel, by decide +kernel⟩, rfl, rfl, rfl⟩
set_option maxHeartbeats 400000 in
theorem ctJ7_init_3_P {E : GE} {h : AH} {q t : Nat} {c d : Value} (o : Option Nat) (ha : h q = some (t, gO 21 [c, d, .null, .null, .null, .null, .null, .int 0])) : CtK E cJ7_init_3 mJ7_init_3 [.ref q, .null, va_rf o] (gJ E (h) (frL [q])) (pKv E (fun h' _ => ∃ u w, h' = g_up h q (t, gO 21 (thF c d o u w)))) (noK) := by
  refine q_enter (own := "java/lang/Throwable") [some (.ref q), some (.null), some (va_rf o)] (by decide +kernel) rfl rfl (by cases o <;> exact Nat.le_of_ble_eq_true rfl) (by cases o <;> rfl) rfl (fun H hI => hI.1.1) (fun X hX => ?_)
  obtain ⟨hI0, hfr⟩ := hX
  refine VK.hE (fun hE => ?_)
  obtain ⟨u, hu⟩ := hE.uU
  obtain ⟨w, hw⟩ := hE.uS
  first | refine q_aload0 dJ7_init_3_0 ?_ | refine q_aloadQ0 dJ7_init_3_0 ?_ | refine q_aloadN0 dJ7_init_3_0 ?_
  refine q_objInit q446 q129 q130 dJ7_init_3_1 (Nat.le_of_ble_eq_true rfl) (Nat.le_of_ble_eq_true rfl) ?_
  first | refine q_aload0 dJ7_init_3_4 ?_ | refine q_aloadQ0 dJ7_init_3_4 ?_ | refine q_aloadN0 dJ7_init_3_4 ?_
  first | refine q_aload0 dJ7_init_3_5 ?_ | refine q_aloadQ0 dJ7_init_3_5 ?_ | refine q_aloadN0 dJ7_init_3_5 ?_
  refine VK.drop ?_
  refine q_put (k0 := 2) ha in_X8 q492 tyX8_ok nmX8 rfl (by decide) rfl rfl rfl (Nat.le_of_ble_eq_true rfl) dJ7_init_3_6 ?_
  first | refine q_aload0 dJ7_init_3_9 ?_ | refine q_aloadQ0 dJ7_init_3_9 ?_ | refine q_aloadN0 dJ7_init_3_9 ?_
  refine q_gets (ref := "java/lang/Throwable") hu q447 dJ7_init_3_10 ?_
  refine VK.drop ?_
  refine q_put (k0 := 3) (g_up_self _ _ _) in_X8 q493 tyX8_ok nmX8 rfl (by decide) rfl (nar_q _ _) (fit_A _ _) (Nat.le_of_ble_eq_true rfl) dJ7_init_3_13 ?_
  rw [g_upup]
  first | refine q_aload0 dJ7_init_3_16 ?_ | refine q_aloadQ0 dJ7_init_3_16 ?_ | refine q_aloadN0 dJ7_init_3_16 ?_
  refine q_gets (ref := "java/lang/Throwable") hw q449 dJ7_init_3_17 ?_
  refine VK.drop ?_
  refine q_put (k0 := 4) (g_up_self _ _ _) in_X8 q494 tyX8_ok nmX8 rfl (by decide) rfl (nar_q _ _) (fit_rf _ _) (Nat.le_of_ble_eq_true rfl) dJ7_init_3_20 ?_
  rw [g_upup]
  first | refine q_aload0 dJ7_init_3_23 ?_ | refine q_aloadQ0 dJ7_init_3_23 ?_ | refine q_aloadN0 dJ7_init_3_23 ?_
  refine VK.old (RS.fr [q]) hfr ?_
  refine q_fill (fun H hH => hH q List.mem_cons_self) (g_up_self _ _ _) rfl th_X8 hu rfl rfl q451 (Nat.le_of_ble_eq_true rfl) (Nat.le_of_ble_eq_true rfl) dJ7_init_3_24 ?_
  refine q_pop dJ7_init_3_27 (by first | rfl | exact cat_rf _) ?_
  first | refine q_aload0 dJ7_init_3_28 ?_ | refine q_aloadQ0 dJ7_init_3_28 ?_ | refine q_aloadN0 dJ7_init_3_28 ?_
  first | refine q_aload1 dJ7_init_3_29 ?_ | refine q_aloadQ1 dJ7_init_3_29 ?_ | refine q_aloadN1 dJ7_init_3_29 ?_
  refine VK.drop ?_
  refine q_put (k0 := 5) (g_up_self _ _ _) in_X8 q491 tyX8_ok nmX8 rfl (by decide) rfl rfl rfl (Nat.le_of_ble_eq_true rfl) dJ7_init_3_30 ?_
  rw [g_upup]
  first | refine q_aload0 dJ7_init_3_33 ?_ | refine q_aloadQ0 dJ7_init_3_33 ?_ | refine q_aloadN0 dJ7_init_3_33 ?_
  first | refine q_aload2 dJ7_init_3_34 ?_ | refine q_aloadQ2 dJ7_init_3_34 ?_ | refine q_aloadN2 dJ7_init_3_34 ?_
  refine VK.drop ?_
  refine q_put (k0 := 2) (g_up_self _ _ _) in_X8 q492 tyX8_ok nmX8 rfl (by decide) rfl (nar_q _ _) (fit_rf _ _) (Nat.le_of_ble_eq_true rfl) dJ7_init_3_35 ?_
  rw [g_upup]
  exact q_vret dJ7_init_3_38 rfl (fun H hH => ⟨rfl, _, ⟨u, w, rfl⟩, hH.1⟩)
set_option maxHeartbeats 400000 in
theorem ctJ7_init_3_C {E : GE} {h : AH} {q t : Nat} {c d : Value} (o : Option Nat) (ha : h q = some (t, gO 22 [c, d, .null, .null, .null, .null, .null, .int 0])) : CtK E cJ7_init_3 mJ7_init_3 [.ref q, .null, va_rf o] (gJ E (h) (frL [q])) (pKv E (fun h' _ => ∃ u w, h' = g_up h q (t, gO 22 (thF c d o u w)))) (noK) := by
  refine q_enter (own := "java/lang/Throwable") [some (.ref q), some (.null), some (va_rf o)] (by decide +kernel) rfl rfl (by cases o <;> exact Nat.le_of_ble_eq_true rfl) (by cases o <;> rfl) rfl (fun H hI => hI.1.1) (fun X hX => ?_)
  obtain ⟨hI0, hfr⟩ := hX
  refine VK.hE (fun hE => ?_)
  obtain ⟨u, hu⟩ := hE.uU
  obtain ⟨w, hw⟩ := hE.uS
  first | refine q_aload0 dJ7_init_3_0 ?_ | refine q_aloadQ0 dJ7_init_3_0 ?_ | refine q_aloadN0 dJ7_init_3_0 ?_
  refine q_objInit q446 q129 q130 dJ7_init_3_1 (Nat.le_of_ble_eq_true rfl) (Nat.le_of_ble_eq_true rfl) ?_
  first | refine q_aload0 dJ7_init_3_4 ?_ | refine q_aloadQ0 dJ7_init_3_4 ?_ | refine q_aloadN0 dJ7_init_3_4 ?_
  first | refine q_aload0 dJ7_init_3_5 ?_ | refine q_aloadQ0 dJ7_init_3_5 ?_ | refine q_aloadN0 dJ7_init_3_5 ?_
  refine VK.drop ?_
  refine q_put (k0 := 2) ha in_X9 q492 tyX9_ok nmX9 rfl (by decide) rfl rfl rfl (Nat.le_of_ble_eq_true rfl) dJ7_init_3_6 ?_
  first | refine q_aload0 dJ7_init_3_9 ?_ | refine q_aloadQ0 dJ7_init_3_9 ?_ | refine q_aloadN0 dJ7_init_3_9 ?_
  refine q_gets (ref := "java/lang/Throwable") hu q447 dJ7_init_3_10 ?_
  refine VK.drop ?_
  refine q_put (k0 := 3) (g_up_self _ _ _) in_X9 q493 tyX9_ok nmX9 rfl (by decide) rfl (nar_q _ _) (fit_A _ _) (Nat.le_of_ble_eq_true rfl) dJ7_init_3_13 ?_
  rw [g_upup]
  first | refine q_aload0 dJ7_init_3_16 ?_ | refine q_aloadQ0 dJ7_init_3_16 ?_ | refine q_aloadN0 dJ7_init_3_16 ?_
  refine q_gets (ref := "java/lang/Throwable") hw q449 dJ7_init_3_17 ?_
  refine VK.drop ?_
  refine q_put (k0 := 4) (g_up_self _ _ _) in_X9 q494 tyX9_ok nmX9 rfl (by decide) rfl (nar_q _ _) (fit_rf _ _) (Nat.le_of_ble_eq_true rfl) dJ7_init_3_20 ?_
  rw [g_upup]
  first | refine q_aload0 dJ7_init_3_23 ?_ | refine q_aloadQ0 dJ7_init_3_23 ?_ | refine q_aloadN0 dJ7_init_3_23 ?_
  refine VK.old (RS.fr [q]) hfr ?_
  refine q_fill (fun H hH => hH q List.mem_cons_self) (g_up_self _ _ _) rfl th_X9 hu rfl rfl q451 (Nat.le_of_ble_eq_true rfl) (Nat.le_of_ble_eq_true rfl) dJ7_init_3_24 ?_
  refine q_pop dJ7_init_3_27 (by first | rfl | exact cat_rf _) ?_
  first | refine q_aload0 dJ7_init_3_28 ?_ | refine q_aloadQ0 dJ7_init_3_28 ?_ | refine q_aloadN0 dJ7_init_3_28 ?_
  first | refine q_aload1 dJ7_init_3_29 ?_ | refine q_aloadQ1 dJ7_init_3_29 ?_ | refine q_aloadN1 dJ7_init_3_29 ?_
  refine VK.drop ?_
  refine q_put (k0 := 5) (g_up_self _ _ _) in_X9 q491 tyX9_ok nmX9 rfl (by decide) rfl rfl rfl (Nat.le_of_ble_eq_true rfl) dJ7_init_3_30 ?_
  rw [g_upup]
  first | refine q_aload0 dJ7_init_3_33 ?_ | refine q_aloadQ0 dJ7_init_3_33 ?_ | refine q_aloadN0 dJ7_init_3_33 ?_
  first | refine q_aload2 dJ7_init_3_34 ?_ | refine q_aloadQ2 dJ7_init_3_34 ?_ | refine q_aloadN2 dJ7_init_3_34 ?_
  refine VK.drop ?_
  refine q_put (k0 := 2) (g_up_self _ _ _) in_X9 q492 tyX9_ok nmX9 rfl (by decide) rfl (nar_q _ _) (fit_rf _ _) (Nat.le_of_ble_eq_true rfl) dJ7_init_3_35 ?_
  rw [g_upup]
  exact q_vret dJ7_init_3_38 rfl (fun H hH => ⟨rfl, _, ⟨u, w, rfl⟩, hH.1⟩)
set_option maxHeartbeats 400000 in
theorem ctJ7_init_3_S {E : GE} {h : AH} {q t : Nat} {c d : Value} (o : Option Nat) (ha : h q = some (t, gO 23 [c, d, .null, .null, .null, .null, .null, .int 0])) : CtK E cJ7_init_3 mJ7_init_3 [.ref q, .null, va_rf o] (gJ E (h) (frL [q])) (pKv E (fun h' _ => ∃ u w, h' = g_up h q (t, gO 23 (thF c d o u w)))) (noK) := by
  refine q_enter (own := "java/lang/Throwable") [some (.ref q), some (.null), some (va_rf o)] (by decide +kernel) rfl rfl (by cases o <;> exact Nat.le_of_ble_eq_true rfl) (by cases o <;> rfl) rfl (fun H hI => hI.1.1) (fun X hX => ?_)
  obtain ⟨hI0, hfr⟩ := hX
  refine VK.hE (fun hE => ?_)
  obtain ⟨u, hu⟩ := hE.uU
  obtain ⟨w, hw⟩ := hE.uS
  first | refine q_aload0 dJ7_init_3_0 ?_ | refine q_aloadQ0 dJ7_init_3_0 ?_ | refine q_aloadN0 dJ7_init_3_0 ?_
  refine q_objInit q446 q129 q130 dJ7_init_3_1 (Nat.le_of_ble_eq_true rfl) (Nat.le_of_ble_eq_true rfl) ?_
  first | refine q_aload0 dJ7_init_3_4 ?_ | refine q_aloadQ0 dJ7_init_3_4 ?_ | refine q_aloadN0 dJ7_init_3_4 ?_
  first | refine q_aload0 dJ7_init_3_5 ?_ | refine q_aloadQ0 dJ7_init_3_5 ?_ | refine q_aloadN0 dJ7_init_3_5 ?_
  refine VK.drop ?_
  refine q_put (k0 := 2) ha in_X15 q492 tyX15_ok nmX15 rfl (by decide) rfl rfl rfl (Nat.le_of_ble_eq_true rfl) dJ7_init_3_6 ?_
  first | refine q_aload0 dJ7_init_3_9 ?_ | refine q_aloadQ0 dJ7_init_3_9 ?_ | refine q_aloadN0 dJ7_init_3_9 ?_
  refine q_gets (ref := "java/lang/Throwable") hu q447 dJ7_init_3_10 ?_
  refine VK.drop ?_
  refine q_put (k0 := 3) (g_up_self _ _ _) in_X15 q493 tyX15_ok nmX15 rfl (by decide) rfl (nar_q _ _) (fit_A _ _) (Nat.le_of_ble_eq_true rfl) dJ7_init_3_13 ?_
  rw [g_upup]
  first | refine q_aload0 dJ7_init_3_16 ?_ | refine q_aloadQ0 dJ7_init_3_16 ?_ | refine q_aloadN0 dJ7_init_3_16 ?_
  refine q_gets (ref := "java/lang/Throwable") hw q449 dJ7_init_3_17 ?_
  refine VK.drop ?_
  refine q_put (k0 := 4) (g_up_self _ _ _) in_X15 q494 tyX15_ok nmX15 rfl (by decide) rfl (nar_q _ _) (fit_rf _ _) (Nat.le_of_ble_eq_true rfl) dJ7_init_3_20 ?_
  rw [g_upup]
  first | refine q_aload0 dJ7_init_3_23 ?_ | refine q_aloadQ0 dJ7_init_3_23 ?_ | refine q_aloadN0 dJ7_init_3_23 ?_
  refine VK.old (RS.fr [q]) hfr ?_
  refine q_fill (fun H hH => hH q List.mem_cons_self) (g_up_self _ _ _) rfl th_X15 hu rfl rfl q451 (Nat.le_of_ble_eq_true rfl) (Nat.le_of_ble_eq_true rfl) dJ7_init_3_24 ?_
  refine q_pop dJ7_init_3_27 (by first | rfl | exact cat_rf _) ?_
  first | refine q_aload0 dJ7_init_3_28 ?_ | refine q_aloadQ0 dJ7_init_3_28 ?_ | refine q_aloadN0 dJ7_init_3_28 ?_
  first | refine q_aload1 dJ7_init_3_29 ?_ | refine q_aloadQ1 dJ7_init_3_29 ?_ | refine q_aloadN1 dJ7_init_3_29 ?_
  refine VK.drop ?_
  refine q_put (k0 := 5) (g_up_self _ _ _) in_X15 q491 tyX15_ok nmX15 rfl (by decide) rfl rfl rfl (Nat.le_of_ble_eq_true rfl) dJ7_init_3_30 ?_
  rw [g_upup]
  first | refine q_aload0 dJ7_init_3_33 ?_ | refine q_aloadQ0 dJ7_init_3_33 ?_ | refine q_aloadN0 dJ7_init_3_33 ?_
  first | refine q_aload2 dJ7_init_3_34 ?_ | refine q_aloadQ2 dJ7_init_3_34 ?_ | refine q_aloadN2 dJ7_init_3_34 ?_
  refine VK.drop ?_
  refine q_put (k0 := 2) (g_up_self _ _ _) in_X15 q492 tyX15_ok nmX15 rfl (by decide) rfl (nar_q _ _) (fit_rf _ _) (Nat.le_of_ble_eq_true rfl) dJ7_init_3_35 ?_
  rw [g_upup]
  exact q_vret dJ7_init_3_38 rfl (fun H hH => ⟨rfl, _, ⟨u, w, rfl⟩, hH.1⟩)
abbrev mJ8_init_3 : GM := (yJ8_init_3, 3, none, [], { frames := 5, cells := 0, slots := 0, locals := 102 }, 255)
theorem kJ8_init_3 : gCi cJ8_init_3 mJ8_init_3 2 := ⟨q1284, q77, q1285, ⟨by decide +kernel, by decide +kernel, by decide +kernel⟩, rfl, rfl, rfl⟩
set_option maxHeartbeats 400000 in
theorem ctJ8_init_3_P {E : GE} {h : AH} {q t : Nat} {c d : Value} (o : Option Nat) (ha : h q = some (t, gO 21 [c, d, .null, .null, .null, .null, .null, .int 0])) : CtK E cJ8_init_3 mJ8_init_3 [.ref q, .null, va_rf o] (gJ E (h) (frL [q])) (pKv E (fun h' _ => ∃ u w, h' = g_up h q (t, gO 21 (thF c d o u w)))) (noK) := by
  refine q_enter (own := "java/lang/Exception") [some (.ref q), some (.null), some (va_rf o)] (by decide +kernel) rfl rfl (by cases o <;> exact Nat.le_of_ble_eq_true rfl) (by cases o <;> rfl) rfl (fun H hI => hI.1.1) (fun X hX => ?_)
  first | refine q_aload0 dJ8_init_3_0 ?_ | refine q_aloadQ0 dJ8_init_3_0 ?_ | refine q_aloadN0 dJ8_init_3_0 ?_
  first | refine q_aload1 dJ8_init_3_1 ?_ | refine q_aloadQ1 dJ8_init_3_1 ?_ | refine q_aloadN1 dJ8_init_3_1 ?_
  first | refine q_aload2 dJ8_init_3_2 ?_ | refine q_aloadQ2 dJ8_init_3_2 ?_ | refine q_aloadN2 dJ8_init_3_2 ?_
  refine q_callIK (ctJ7_init_3_P o ha) (fun H hH => hH) kJ7_init_3 q1286 (by decide) ⟨Nat.le_of_ble_eq_true rfl, Nat.le_of_ble_eq_true rfl⟩ rfl (Nat.le_of_ble_eq_true rfl) dJ8_init_3_3 qk_noK (qk_vK (fun h_3 => ?_)) (RS.fr [q])
  exact q_vret dJ8_init_3_6 rfl (fun H hH => ⟨rfl, _, hH.2.1, hH.1⟩)
set_option maxHeartbeats 400000 in
theorem ctJ8_init_3_C {E : GE} {h : AH} {q t : Nat} {c d : Value} (o : Option Nat) (ha : h q = some (t, gO 22 [c, d, .null, .null, .null, .null, .null, .int 0])) : CtK E cJ8_init_3 mJ8_init_3 [.ref q, .null, va_rf o] (gJ E (h) (frL [q])) (pKv E (fun h' _ => ∃ u w, h' = g_up h q (t, gO 22 (thF c d o u w)))) (noK) := by
  refine q_enter (own := "java/lang/Exception") [some (.ref q), some (.null), some (va_rf o)] (by decide +kernel) rfl rfl (by cases o <;> exact Nat.le_of_ble_eq_true rfl) (by cases o <;> rfl) rfl (fun H hI => hI.1.1) (fun X hX => ?_)
  first | refine q_aload0 dJ8_init_3_0 ?_ | refine q_aloadQ0 dJ8_init_3_0 ?_ | refine q_aloadN0 dJ8_init_3_0 ?_
  first | refine q_aload1 dJ8_init_3_1 ?_ | refine q_aloadQ1 dJ8_init_3_1 ?_ | refine q_aloadN1 dJ8_init_3_1 ?_
  first | refine q_aload2 dJ8_init_3_2 ?_ | refine q_aloadQ2 dJ8_init_3_2 ?_ | refine q_aloadN2 dJ8_init_3_2 ?_
  refine q_callIK (ctJ7_init_3_C o ha) (fun H hH => hH) kJ7_init_3 q1286 (by decide) ⟨Nat.le_of_ble_eq_true rfl, Nat.le_of_ble_eq_true rfl⟩ rfl (Nat.le_of_ble_eq_true rfl) dJ8_init_3_3 qk_noK (qk_vK (fun h_3 => ?_)) (RS.fr [q])
  exact q_vret dJ8_init_3_6 rfl (fun H hH => ⟨rfl, _, hH.2.1, hH.1⟩)
set_option maxHeartbeats 400000 in
theorem ctJ8_init_3_S {E : GE} {h : AH} {q t : Nat} {c d : Value} (o : Option Nat) (ha : h q = some (t, gO 23 [c, d, .null, .null, .null, .null, .null, .int 0])) : CtK E cJ8_init_3 mJ8_init_3 [.ref q, .null, va_rf o] (gJ E (h) (frL [q])) (pKv E (fun h' _ => ∃ u w, h' = g_up h q (t, gO 23 (thF c d o u w)))) (noK) := by
  refine q_enter (own := "java/lang/Exception") [some (.ref q), some (.null), some (va_rf o)] (by decide +kernel) rfl rfl (by cases o <;> exact Nat.le_of_ble_eq_true rfl) (by cases o <;> rfl) rfl (fun H hI => hI.1.1) (fun X hX => ?_)
  first | refine q_aload0 dJ8_init_3_0 ?_ | refine q_aloadQ0 dJ8_init_3_0 ?_ | refine q_aloadN0 dJ8_init_3_0 ?_
  first | refine q_aload1 dJ8_init_3_1 ?_ | refine q_aloadQ1 dJ8_init_3_1 ?_ | refine q_aloadN1 dJ8_init_3_1 ?_
  first | refine q_aload2 dJ8_init_3_2 ?_ | refine q_aloadQ2 dJ8_init_3_2 ?_ | refine q_aloadN2 dJ8_init_3_2 ?_
  refine q_callIK (ctJ7_init_3_S o ha) (fun H hH => hH) kJ7_init_3 q1286 (by decide) ⟨Nat.le_of_ble_eq_true rfl, Nat.le_of_ble_eq_true rfl⟩ rfl (Nat.le_of_ble_eq_true rfl) dJ8_init_3_3 qk_noK (qk_vK (fun h_3 => ?_)) (RS.fr [q])
  exact q_vret dJ8_init_3_6 rfl (fun H hH => ⟨rfl, _, hH.2.1, hH.1⟩)
abbrev mX7_init : GM := (yX7_init, 4, none, [], { frames := 6, cells := 0, slots := 0, locals := 124 }, 255)
theorem kX7_init : gCi cX7_init mX7_init 3 := ⟨q1281, q102, q1282, ⟨by decide +kernel, by decide +kernel, by decide +kernel⟩, rfl, rfl, rfl⟩
set_option maxHeartbeats 400000 in
theorem ctX7_init_P {E : GE} {h : AH} {q t : Nat} (c d : Nat) (o : Option Nat) (ha : h q = some (t, gO 21 thN)) : CtK E cX7_init mX7_init [.ref q, .int (nI c), .int (nI d), va_rf o] (gJ E (h) (frL [q])) (pKv E (fun h' _ => ∃ u w, h' = g_up h q (t, gO 21 (thF (.int (nI c)) (.int (nI d)) o u w)))) (noK) := by
  refine q_enter (own := "SecretVault$Failure") [some (.ref q), some (.int (nI c)), some (.int (nI d)), some (va_rf o)] (by decide +kernel) rfl rfl (by cases o <;> exact Nat.le_of_ble_eq_true rfl) (by cases o <;> rfl) rfl (fun H hI => hI.1.1) (fun X hX => ?_)
  first | refine q_aload0 dX7_init_0 ?_ | refine q_aloadQ0 dX7_init_0 ?_ | refine q_aloadN0 dX7_init_0 ?_
  refine q_null dX7_init_1 ?_
  first | refine q_aload3 dX7_init_2 ?_ | refine q_aloadQ3 dX7_init_2 ?_ | refine q_aloadN3 dX7_init_2 ?_
  refine q_callIK (ctJ8_init_3_P o ha) (fun H hH => hH) kJ8_init_3 q1283 (by decide) ⟨Nat.le_of_ble_eq_true rfl, Nat.le_of_ble_eq_true rfl⟩ rfl (Nat.le_of_ble_eq_true rfl) dX7_init_3 qk_noK (qk_vK (fun h_3 => ?_)) (RS.fr [q])
  refine VK.factR (fun H hH => hH.1) (fun hp => ?_)
  obtain ⟨u, w, rfl⟩ := hp
  refine VK.drop ?_
  first | refine q_aload0 dX7_init_6 ?_ | refine q_aloadQ0 dX7_init_6 ?_ | refine q_aloadN0 dX7_init_6 ?_
  refine q_iload1 dX7_init_7 ?_
  refine q_putF (k0 := 0) (g_up_self _ _ _) in_X8 q1289 tyX8_ok nmX8 rfl (by decide) rfl rfl rfl (by rfl) (by rfl) (Nat.le_of_ble_eq_true rfl) dX7_init_8 ?_
  rw [g_upup]
  first | refine q_aload0 dX7_init_11 ?_ | refine q_aloadQ0 dX7_init_11 ?_ | refine q_aloadN0 dX7_init_11 ?_
  refine q_iload2 dX7_init_12 ?_
  refine q_putF (k0 := 1) (g_up_self _ _ _) in_X8 q1291 tyX8_ok nmX8 rfl (by decide) rfl rfl rfl (by rfl) (by rfl) (Nat.le_of_ble_eq_true rfl) dX7_init_13 ?_
  rw [g_upup]
  exact q_vret dX7_init_16 rfl (fun H hH => ⟨rfl, _, ⟨u, w, rfl⟩, hH.1⟩)
set_option maxHeartbeats 400000 in
theorem ctX7_init_C {E : GE} {h : AH} {q t : Nat} (c d : Nat) (o : Option Nat) (ha : h q = some (t, gO 22 thN)) : CtK E cX7_init mX7_init [.ref q, .int (nI c), .int (nI d), va_rf o] (gJ E (h) (frL [q])) (pKv E (fun h' _ => ∃ u w, h' = g_up h q (t, gO 22 (thF (.int (nI c)) (.int (nI d)) o u w)))) (noK) := by
  refine q_enter (own := "SecretVault$Failure") [some (.ref q), some (.int (nI c)), some (.int (nI d)), some (va_rf o)] (by decide +kernel) rfl rfl (by cases o <;> exact Nat.le_of_ble_eq_true rfl) (by cases o <;> rfl) rfl (fun H hI => hI.1.1) (fun X hX => ?_)
  first | refine q_aload0 dX7_init_0 ?_ | refine q_aloadQ0 dX7_init_0 ?_ | refine q_aloadN0 dX7_init_0 ?_
  refine q_null dX7_init_1 ?_
  first | refine q_aload3 dX7_init_2 ?_ | refine q_aloadQ3 dX7_init_2 ?_ | refine q_aloadN3 dX7_init_2 ?_
  refine q_callIK (ctJ8_init_3_C o ha) (fun H hH => hH) kJ8_init_3 q1283 (by decide) ⟨Nat.le_of_ble_eq_true rfl, Nat.le_of_ble_eq_true rfl⟩ rfl (Nat.le_of_ble_eq_true rfl) dX7_init_3 qk_noK (qk_vK (fun h_3 => ?_)) (RS.fr [q])
  refine VK.factR (fun H hH => hH.1) (fun hp => ?_)
  obtain ⟨u, w, rfl⟩ := hp
  refine VK.drop ?_
  first | refine q_aload0 dX7_init_6 ?_ | refine q_aloadQ0 dX7_init_6 ?_ | refine q_aloadN0 dX7_init_6 ?_
  refine q_iload1 dX7_init_7 ?_
  refine q_putF (k0 := 0) (g_up_self _ _ _) in_X9 q1289 tyX9_ok nmX9 rfl (by decide) rfl rfl rfl (by rfl) (by rfl) (Nat.le_of_ble_eq_true rfl) dX7_init_8 ?_
  rw [g_upup]
  first | refine q_aload0 dX7_init_11 ?_ | refine q_aloadQ0 dX7_init_11 ?_ | refine q_aloadN0 dX7_init_11 ?_
  refine q_iload2 dX7_init_12 ?_
  refine q_putF (k0 := 1) (g_up_self _ _ _) in_X9 q1291 tyX9_ok nmX9 rfl (by decide) rfl rfl rfl (by rfl) (by rfl) (Nat.le_of_ble_eq_true rfl) dX7_init_13 ?_
  rw [g_upup]
  exact q_vret dX7_init_16 rfl (fun H hH => ⟨rfl, _, ⟨u, w, rfl⟩, hH.1⟩)
set_option maxHeartbeats 400000 in
theorem ctX7_init_S {E : GE} {h : AH} {q t : Nat} (c d : Nat) (o : Option Nat) (ha : h q = some (t, gO 23 thN)) : CtK E cX7_init mX7_init [.ref q, .int (nI c), .int (nI d), va_rf o] (gJ E (h) (frL [q])) (pKv E (fun h' _ => ∃ u w, h' = g_up h q (t, gO 23 (thF (.int (nI c)) (.int (nI d)) o u w)))) (noK) := by
  refine q_enter (own := "SecretVault$Failure") [some (.ref q), some (.int (nI c)), some (.int (nI d)), some (va_rf o)] (by decide +kernel) rfl rfl (by cases o <;> exact Nat.le_of_ble_eq_true rfl) (by cases o <;> rfl) rfl (fun H hI => hI.1.1) (fun X hX => ?_)
  first | refine q_aload0 dX7_init_0 ?_ | refine q_aloadQ0 dX7_init_0 ?_ | refine q_aloadN0 dX7_init_0 ?_
  refine q_null dX7_init_1 ?_
  first | refine q_aload3 dX7_init_2 ?_ | refine q_aloadQ3 dX7_init_2 ?_ | refine q_aloadN3 dX7_init_2 ?_
  refine q_callIK (ctJ8_init_3_S o ha) (fun H hH => hH) kJ8_init_3 q1283 (by decide) ⟨Nat.le_of_ble_eq_true rfl, Nat.le_of_ble_eq_true rfl⟩ rfl (Nat.le_of_ble_eq_true rfl) dX7_init_3 qk_noK (qk_vK (fun h_3 => ?_)) (RS.fr [q])
  refine VK.factR (fun H hH => hH.1) (fun hp => ?_)
  obtain ⟨u, w, rfl⟩ := hp
  refine VK.drop ?_
  first | refine q_aload0 dX7_init_6 ?_ | refine q_aloadQ0 dX7_init_6 ?_ | refine q_aloadN0 dX7_init_6 ?_
  refine q_iload1 dX7_init_7 ?_
  refine q_putF (k0 := 0) (g_up_self _ _ _) in_X15 q1289 tyX15_ok nmX15 rfl (by decide) rfl rfl rfl (by rfl) (by rfl) (Nat.le_of_ble_eq_true rfl) dX7_init_8 ?_
  rw [g_upup]
  first | refine q_aload0 dX7_init_11 ?_ | refine q_aloadQ0 dX7_init_11 ?_ | refine q_aloadN0 dX7_init_11 ?_
  refine q_iload2 dX7_init_12 ?_
  refine q_putF (k0 := 1) (g_up_self _ _ _) in_X15 q1291 tyX15_ok nmX15 rfl (by decide) rfl rfl rfl (by rfl) (by rfl) (Nat.le_of_ble_eq_true rfl) dX7_init_13 ?_
  rw [g_upup]
  exact q_vret dX7_init_16 rfl (fun H hH => ⟨rfl, _, ⟨u, w, rfl⟩, hH.1⟩)
/-- a failure at q (tag 9): class ci, code, detail, cause -/
def FO (h : AH) (q ci c d : Nat) (o : Option Nat) : Prop := ∃ u w, h q = some (9, gO ci (thF (.int (nI c)) (.int (nI d)) o u w))
theorem FO.fr {P : Nat → Prop} {h h' : AH} {q ci c d : Nat} {o : Option Nat} (hf : FO h q ci c d o) (f : Fr P h h') (hp : ¬ P 9) : FO h' q ci c d o := by
  obtain ⟨u, w, h1⟩ := hf
  exact ⟨u, w, f _ _ _ h1 hp⟩
abbrev mX9_init : GM := (yX9_init, 4, none, [], { frames := 7, cells := 0, slots := 0, locals := 147 }, 255)
theorem kX9_init : gCi cX9_init mX9_init 3 := ⟨q1278, q104, q1279, ⟨by decide +kernel, by decide +kernel, by decide +kernel⟩, rfl, rfl, rfl⟩
set_option maxHeartbeats 400000 in
theorem ctX9_init {E : GE} {h : AH} {q : Nat} (c d : Nat) (o : Option Nat) (ha : h q = some (9, gO 22 thN)) : CtK E cX9_init mX9_init [.ref q, .int (nI c), .int (nI d), va_rf o] (gJ E (h) (frL [q])) (pKv E (fun h' _ => FO h' q 22 c d o ∧ ∃ z, h' = g_up h q (9, z))) (noK) := by
  refine q_enter (own := "SecretVault$Cause") [some (.ref q), some (.int (nI c)), some (.int (nI d)), some (va_rf o)] (by decide +kernel) rfl rfl (by cases o <;> exact Nat.le_of_ble_eq_true rfl) (by cases o <;> rfl) rfl (fun H hI => hI.1.1) (fun X hX => ?_)
  first | refine q_aload0 dX9_init_0 ?_ | refine q_aloadQ0 dX9_init_0 ?_ | refine q_aloadN0 dX9_init_0 ?_
  refine q_iload1 dX9_init_1 ?_
  refine q_iload2 dX9_init_2 ?_
  first | refine q_aload3 dX9_init_3 ?_ | refine q_aloadQ3 dX9_init_3 ?_ | refine q_aloadN3 dX9_init_3 ?_
  refine q_callIK (ctX7_init_C _ _ _ ha) (fun H hH => hH) kX7_init q1280 (by decide) ⟨Nat.le_of_ble_eq_true rfl, Nat.le_of_ble_eq_true rfl⟩ rfl (Nat.le_of_ble_eq_true rfl) dX9_init_4 qk_noK (qk_vK (fun h_4 => ?_)) (RS.fr [q])
  refine VK.factR (fun H hH => hH.1) (fun hp => ?_)
  obtain ⟨u, w, rfl⟩ := hp
  exact q_vret dX9_init_7 rfl (fun H hH => ⟨rfl, _, ⟨⟨u, w, g_up_self _ _ _⟩, _, rfl⟩, hH.1⟩)
theorem frL_c {a : Nat} {L : List Nat} {H : Heap} (h : frA H a) (t : frL L H) : frL (a :: L) H := fun x hx => by
  rcases List.mem_cons.mp hx with rfl | z
  · exact h
  · exact t x z
theorem g_upc {h : AH} {a b : Nat} {x y : Nat × va_E} (hn : a ≠ b) : g_up (g_up h a x) b y = g_up (g_up h b y) a x := by
  funext z
  unfold g_up
  split
  · split
    · rename_i e1 e2
      exact absurd (e2.symm.trans e1) hn
    · rfl
  · rfl
/-- what was there is there still, but for q -/
theorem Fa.fr {q t : Nat} {x : va_E} {h h' : AH} (hF : Fa q h h') (hq : h q = some (t, x)) : Fr (fun u => u = t) h h' := fun b t' e hb hn => hF b _ hb (fun z => by
  rw [z, hq] at hb
  cases hb
  exact hn rfl)
abbrev mX8_init : GM := (yX8_init, 3, none, [], { frames := 8, cells := 1, slots := 8, locals := 170 }, 255)
theorem kX8_init : gCi cX8_init mX8_init 2 := ⟨q1266, q103, q1267, ⟨by decide +kernel, by decide +kernel, by decide +kernel⟩, rfl, rfl, rfl⟩
set_option maxHeartbeats 400000 in
theorem ctX8_init {E : GE} {h : AH} {q : Nat} (s m : Nat) (ha : h q = some (9, gO 21 thN)) : CtK E cX8_init mX8_init [.ref q, .int (nI s), .int (nI m)] (gJ E (h) (frL [q])) (pKv E (fun h' H => ∃ a, FO h' q 21 1 s (some a) ∧ FO h' a 22 2 m none ∧ Fa q h h' ∧ a ≠ q ∧ h a = none ∧ frA H a)) (noK) := by
  refine q_enter (own := "SecretVault$PolicyFailure") [some (.ref q), some (.int (nI s)), some (.int (nI m))] (by decide +kernel) rfl rfl (Nat.le_of_ble_eq_true rfl) rfl rfl (fun H hI => hI.1.1) (fun X hX => ?_)
  refine VK.old (RS.fr [q]) hX.2 ?_
  first | refine q_aload0 dX8_init_0 ?_ | refine q_aloadQ0 dX8_init_0 ?_ | refine q_aloadN0 dX8_init_0 ?_
  refine q_iconst (nI 1) dX8_init_1 (by decide) ?_
  refine q_iload1 dX8_init_2 ?_
  refine q_newM 22 9 thN in_X9 tyX9_ok q1268 q1269 q104 rfl nwX9 (Nat.le_of_ble_eq_true rfl) (Nat.le_of_ble_eq_true rfl) dX8_init_3 (fun q_3 f_3 => ?_)
  refine q_dup dX8_init_6 rfl ?_
  refine q_iconst (nI 2) dX8_init_7 (by decide) ?_
  refine q_iload2 dX8_init_8 ?_
  refine q_null dX8_init_9 ?_
  refine q_callIK (ctX9_init 2 m none (g_up_self _ _ _)) (fun H hH => ⟨hH.1, frL_c hH.2.2 (fun _ z => nomatch z)⟩) kX9_init q1277 (by decide) ⟨Nat.le_of_ble_eq_true rfl, Nat.le_of_ble_eq_true rfl⟩ rfl (Nat.le_of_ble_eq_true rfl) dX8_init_10 qk_noK (qk_vK (fun h_10 => ?_)) (RS.and (RS.fr [q]) (RS.fa q_3))
  refine VK.factR (fun H hH => hH.1) (fun hp => ?_)
  obtain ⟨o_10, z_10, e_10⟩ := hp
  have hn_10 : q_3 ≠ q := fun e => by rw [e, ha] at f_3; cases f_3
  have ha_10 : h_10 q = some (9, gO 21 thN) := by
    rw [e_10, g_up_ne _ hn_10.symm]
    exact g_upf ha f_3
  refine q_callIK (ctX7_init_P 1 s (some q_3) ha_10) (fun H hH => ⟨hH.1, hH.2.2.1⟩) kX7_init q1299 (by decide) ⟨Nat.le_of_ble_eq_true rfl, Nat.le_of_ble_eq_true rfl⟩ rfl (Nat.le_of_ble_eq_true rfl) dX8_init_13 qk_noK (qk_vK (fun h_13 => ?_)) (RS.and (fun _ _ _ z => z) (RS.and (RS.fr [q]) (RS.fa q_3)))
  refine VK.factR (fun H hH => hH.1) (fun hp => ?_)
  obtain ⟨u, w, e9⟩ := hp
  exact q_vret dX8_init_16 rfl (fun H hH => ⟨rfl, _, ⟨q_3, ⟨u, w, by rw [e9]; exact g_up_self _ _ _⟩, by obtain ⟨u2, w2, z2⟩ := o_10; exact ⟨u2, w2, by rw [e9]; exact g_up_of z2 hn_10⟩, by rw [e9, e_10, g_upup]; exact (Fa.rf.new f_3).put, hn_10, f_3, hH.2.2.2.2⟩, hH.1⟩)
abbrev mX15_init : GM := (yX15_init, 4, none, [], { frames := 8, cells := 1, slots := 8, locals := 170 }, 255)
theorem kX15_init : gCi cX15_init mX15_init 3 := ⟨q1412, q110, q1413, ⟨by decide +kernel, by decide +kernel, by decide +kernel⟩, rfl, rfl, rfl⟩
set_option maxHeartbeats 400000 in
theorem ctX15_init {E : GE} {h : AH} {q : Nat} (s l : Nat) (o : Option Nat) (ha : h q = some (9, gO 23 thN)) : CtK E cX15_init mX15_init [.ref q, .int (nI s), .int (nI l), va_rf o] (gJ E (h) (frL [q])) (pKv E (fun h' H => ∃ a, FO h' q 23 1 s (some a) ∧ FO h' a 22 3 l o ∧ Fa q h h' ∧ a ≠ q ∧ h a = none ∧ frA H a)) (noK) := by
  refine q_enter (own := "SecretVault$ShareFailure") [some (.ref q), some (.int (nI s)), some (.int (nI l)), some (va_rf o)] (by decide +kernel) rfl rfl (by cases o <;> exact Nat.le_of_ble_eq_true rfl) (by cases o <;> rfl) rfl (fun H hI => hI.1.1) (fun X hX => ?_)
  refine VK.old (RS.fr [q]) hX.2 ?_
  first | refine q_aload0 dX15_init_0 ?_ | refine q_aloadQ0 dX15_init_0 ?_ | refine q_aloadN0 dX15_init_0 ?_
  refine q_iconst (nI 1) dX15_init_1 (by decide) ?_
  refine q_iload1 dX15_init_2 ?_
  refine q_newM 22 9 thN in_X9 tyX9_ok q1414 q1269 q104 rfl nwX9 (Nat.le_of_ble_eq_true rfl) (Nat.le_of_ble_eq_true rfl) dX15_init_3 (fun q_3 f_3 => ?_)
  refine q_dup dX15_init_6 rfl ?_
  refine q_iconst (nI 3) dX15_init_7 (by decide) ?_
  refine q_iload2 dX15_init_8 ?_
  first | refine q_aload3 dX15_init_9 ?_ | refine q_aloadQ3 dX15_init_9 ?_ | refine q_aloadN3 dX15_init_9 ?_
  refine q_callIK (ctX9_init 3 l o (g_up_self _ _ _)) (fun H hH => ⟨hH.1, frL_c hH.2.2 (fun _ z => nomatch z)⟩) kX9_init q1415 (by decide) ⟨Nat.le_of_ble_eq_true rfl, Nat.le_of_ble_eq_true rfl⟩ rfl (Nat.le_of_ble_eq_true rfl) dX15_init_10 qk_noK (qk_vK (fun h_10 => ?_)) (RS.and (RS.fr [q]) (RS.fa q_3))
  refine VK.factR (fun H hH => hH.1) (fun hp => ?_)
  obtain ⟨o_10, z_10, e_10⟩ := hp
  have hn_10 : q_3 ≠ q := fun e => by rw [e, ha] at f_3; cases f_3
  have ha_10 : h_10 q = some (9, gO 23 thN) := by
    rw [e_10, g_up_ne _ hn_10.symm]
    exact g_upf ha f_3
  refine q_callIK (ctX7_init_S 1 s (some q_3) ha_10) (fun H hH => ⟨hH.1, hH.2.2.1⟩) kX7_init q1416 (by decide) ⟨Nat.le_of_ble_eq_true rfl, Nat.le_of_ble_eq_true rfl⟩ rfl (Nat.le_of_ble_eq_true rfl) dX15_init_13 qk_noK (qk_vK (fun h_13 => ?_)) (RS.and (fun _ _ _ z => z) (RS.and (RS.fr [q]) (RS.fa q_3)))
  refine VK.factR (fun H hH => hH.1) (fun hp => ?_)
  obtain ⟨u, w, e9⟩ := hp
  exact q_vret dX15_init_16 rfl (fun H hH => ⟨rfl, _, ⟨q_3, ⟨u, w, by rw [e9]; exact g_up_self _ _ _⟩, by obtain ⟨u2, w2, z2⟩ := o_10; exact ⟨u2, w2, by rw [e9]; exact g_up_of z2 hn_10⟩, by rw [e9, e_10, g_upup]; exact (Fa.rf.new f_3).put, hn_10, f_3, hH.2.2.2.2⟩, hH.1⟩)
abbrev mJ7_init : GM := (yJ7_init, 1, none, [], { frames := 4, cells := 0, slots := 0, locals := 80 }, 255)
theorem kJ7_init : gCi cJ7_init mJ7_init 0 := ⟨q444, q76, q445, ⟨by decide +kernel, by decide +kernel, by decide +kernel⟩, rfl, rfl, rfl⟩
set_option maxHeartbeats 400000 in
theorem ctJ7_init {E : GE} {h : AH} {q t : Nat} (ha : h q = some (t, gO 15 [.null, .null, .null, .null, .null, .int 0, .int 0])) : CtK E cJ7_init mJ7_init [.ref q] (gJ E (h) (frL [q])) (pKv E (fun h' _ => ∃ u w, h' = g_up h q (t, gO 15 [.ref q, va_rf u, va_rf w, .null, .null, .int 0, .int 0]))) (noK) := by
  refine q_enter (own := "java/lang/Throwable") [some (.ref q)] (by decide +kernel) rfl rfl (Nat.le_of_ble_eq_true rfl) rfl rfl (fun H hI => hI.1.1) (fun X hX => ?_)
  obtain ⟨hI0, hfr⟩ := hX
  refine VK.hE (fun hE => ?_)
  obtain ⟨u, hu⟩ := hE.uU
  obtain ⟨w, hw⟩ := hE.uS
  first | refine q_aload0 dJ7_init_0 ?_ | refine q_aloadQ0 dJ7_init_0 ?_ | refine q_aloadN0 dJ7_init_0 ?_
  refine q_objInit q446 q129 q130 dJ7_init_1 (Nat.le_of_ble_eq_true rfl) (Nat.le_of_ble_eq_true rfl) ?_
  first | refine q_aload0 dJ7_init_4 ?_ | refine q_aloadQ0 dJ7_init_4 ?_ | refine q_aloadN0 dJ7_init_4 ?_
  first | refine q_aload0 dJ7_init_5 ?_ | refine q_aloadQ0 dJ7_init_5 ?_ | refine q_aloadN0 dJ7_init_5 ?_
  refine VK.drop ?_
  refine q_put (k0 := 0) ha in_X17 q492 tyX17_ok nmX17 rfl (by decide) rfl rfl rfl (Nat.le_of_ble_eq_true rfl) dJ7_init_6 ?_
  first | refine q_aload0 dJ7_init_9 ?_ | refine q_aloadQ0 dJ7_init_9 ?_ | refine q_aloadN0 dJ7_init_9 ?_
  refine q_gets (ref := "java/lang/Throwable") hu q447 dJ7_init_10 ?_
  refine VK.drop ?_
  refine q_put (k0 := 1) (g_up_self _ _ _) in_X17 q493 tyX17_ok nmX17 rfl (by decide) rfl (nar_q _ _) (fit_A _ _) (Nat.le_of_ble_eq_true rfl) dJ7_init_13 ?_
  rw [g_upup]
  first | refine q_aload0 dJ7_init_16 ?_ | refine q_aloadQ0 dJ7_init_16 ?_ | refine q_aloadN0 dJ7_init_16 ?_
  refine q_gets (ref := "java/lang/Throwable") hw q449 dJ7_init_17 ?_
  refine VK.drop ?_
  refine q_put (k0 := 2) (g_up_self _ _ _) in_X17 q494 tyX17_ok nmX17 rfl (by decide) rfl (nar_q _ _) (fit_rf _ _) (Nat.le_of_ble_eq_true rfl) dJ7_init_20 ?_
  rw [g_upup]
  first | refine q_aload0 dJ7_init_23 ?_ | refine q_aloadQ0 dJ7_init_23 ?_ | refine q_aloadN0 dJ7_init_23 ?_
  refine VK.old (RS.fr [q]) hfr ?_
  refine q_fill (fun H hH => hH q List.mem_cons_self) (g_up_self _ _ _) rfl th_X17 hu rfl rfl q451 (Nat.le_of_ble_eq_true rfl) (Nat.le_of_ble_eq_true rfl) dJ7_init_24 ?_
  refine q_pop dJ7_init_27 (by first | rfl | exact cat_rf _) ?_
  exact q_vret dJ7_init_28 rfl (fun H hH => ⟨rfl, _, ⟨u, w, rfl⟩, hH.1⟩)
abbrev mJ8_init_2 : GM := (yJ8_init_2, 1, none, [], { frames := 5, cells := 0, slots := 0, locals := 100 }, 255)
theorem kJ8_init_2 : gCi cJ8_init_2 mJ8_init_2 0 := ⟨q784, q77, q785, ⟨by decide +kernel, by decide +kernel, by decide +kernel⟩, rfl, rfl, rfl⟩
set_option maxHeartbeats 400000 in
theorem ctJ8_init_2 {E : GE} {h : AH} {q t : Nat} (ha : h q = some (t, gO 15 [.null, .null, .null, .null, .null, .int 0, .int 0])) : CtK E cJ8_init_2 mJ8_init_2 [.ref q] (gJ E (h) (frL [q])) (pKv E (fun h' _ => ∃ u w, h' = g_up h q (t, gO 15 [.ref q, va_rf u, va_rf w, .null, .null, .int 0, .int 0]))) (noK) := by
  refine q_enter (own := "java/lang/Exception") [some (.ref q)] (by decide +kernel) rfl rfl (Nat.le_of_ble_eq_true rfl) rfl rfl (fun H hI => hI.1.1) (fun X hX => ?_)
  first | refine q_aload0 dJ8_init_2_0 ?_ | refine q_aloadQ0 dJ8_init_2_0 ?_ | refine q_aloadN0 dJ8_init_2_0 ?_
  refine q_callIK (ctJ7_init ha) (fun H hH => hH) kJ7_init q786 (by decide) ⟨Nat.le_of_ble_eq_true rfl, Nat.le_of_ble_eq_true rfl⟩ rfl (Nat.le_of_ble_eq_true rfl) dJ8_init_2_1 qk_noK (qk_vK (fun h_1 => ?_)) (RS.fr [q])
  exact q_vret dJ8_init_2_4 rfl (fun H hH => ⟨rfl, _, hH.2.1, hH.1⟩)
abbrev mX17_init : GM := (yX17_init, 2, none, [], { frames := 6, cells := 0, slots := 0, locals := 120 }, 255)
theorem kX17_init : gCi cX17_init mX17_init 1 := ⟨q1677, q113, q1678, ⟨by decide +kernel, by decide +kernel, by decide +kernel⟩, rfl, rfl, rfl⟩
set_option maxHeartbeats 400000 in
theorem ctX17_init {E : GE} {h : AH} {q t : Nat} (p : Nat) (ha : h q = some (t, gO 15 [.null, .null, .null, .null, .null, .int 0, .int 0])) : CtK E cX17_init mX17_init [.ref q, .int (nI p)] (gJ E (h) (frL [q])) (pKv E (fun h' _ => ∃ u w, h' = g_up h q (t, gO 15 [.ref q, va_rf u, va_rf w, .null, .null, .int 0, .int (nI p)]))) (noK) := by
  refine q_enter (own := "SecretVault$TextError") [some (.ref q), some (.int (nI p))] (by decide +kernel) rfl rfl (Nat.le_of_ble_eq_true rfl) rfl rfl (fun H hI => hI.1.1) (fun X hX => ?_)
  first | refine q_aload0 dX17_init_0 ?_ | refine q_aloadQ0 dX17_init_0 ?_ | refine q_aloadN0 dX17_init_0 ?_
  refine q_callIK (ctJ8_init_2 ha) (fun H hH => hH) kJ8_init_2 q1679 (by decide) ⟨Nat.le_of_ble_eq_true rfl, Nat.le_of_ble_eq_true rfl⟩ rfl (Nat.le_of_ble_eq_true rfl) dX17_init_1 qk_noK (qk_vK (fun h_1 => ?_)) (RS.fr [q])
  refine VK.factR (fun H hH => hH.1) (fun hp => ?_)
  obtain ⟨u, w, rfl⟩ := hp
  refine VK.drop ?_
  first | refine q_aload0 dX17_init_4 ?_ | refine q_aloadQ0 dX17_init_4 ?_ | refine q_aloadN0 dX17_init_4 ?_
  refine q_iload1 dX17_init_5 ?_
  refine q_putF (k0 := 6) (g_up_self _ _ _) in_X17 q1680 tyX17_ok nmX17 rfl (by decide) rfl rfl rfl (by rfl) (by rfl) (Nat.le_of_ble_eq_true rfl) dX17_init_6 ?_
  rw [g_upup]
  exact q_vret dX17_init_9 rfl (fun H hH => ⟨rfl, _, ⟨u, w, rfl⟩, hH.1⟩)
abbrev mX10_code : GM := (yX10_code, 1, (some .int), [], { frames := 0, cells := 0, slots := 0, locals := 0 }, 255)
theorem uX10_code : gCu cX10_code mX10_code 0 := ⟨q1378, q105, q1387, ⟨by decide +kernel, by decide +kernel, by decide +kernel⟩, rfl⟩
set_option maxHeartbeats 400000 in
theorem ctX10_code {E : GE} {h : AH} (a : Nat)  : Ct E cX10_code mX10_code [.ref a] (h) (pN fun r h' => r = 0 ∧ h' = h) (noX) := by
  refine g_enter (own := "SecretVault$Judged") [some (.ref a)] (by decide +kernel) rfl rfl (Nat.le_of_ble_eq_true rfl) rfl rfl (fun X => ?_)
  refine g_iconst (nI 0) dX10_code_0 (by decide) ?_
  exact g_iret dX10_code_1 rfl ⟨_, rfl, rfl, rfl⟩
abbrev mX13_reason : GM := (yX13_reason, 1, (some .int), [], { frames := 0, cells := 0, slots := 0, locals := 0 }, 255)
theorem kX13_reason : gCv cX13_reason mX13_reason 0 := ⟨q1389, q1390, q108, q1391, ⟨by decide +kernel, by decide +kernel, by decide +kernel⟩, rfl⟩
theorem uX13_reason : gCu cX13_reason mX13_reason 0 := ⟨q1389, q108, q1391, ⟨by decide +kernel, by decide +kernel, by decide +kernel⟩, rfl⟩
set_option maxHeartbeats 400000 in
theorem ctX13_reason {E : GE} {h : AH} (a : Nat)  : Ct E cX13_reason mX13_reason [.ref a] (h) (pN fun r h' => r = 4 ∧ h' = h) (noX) := by
  refine g_enter (own := "SecretVault$Stale") [some (.ref a)] (by decide +kernel) rfl rfl (Nat.le_of_ble_eq_true rfl) rfl rfl (fun X => ?_)
  refine g_iconst (nI 4) dX13_reason_0 (by decide) ?_
  exact g_iret dX13_reason_1 rfl ⟨_, rfl, rfl, rfl⟩
abbrev mX14_reason : GM := (yX14_reason, 1, (some .int), [], { frames := 0, cells := 0, slots := 0, locals := 0 }, 255)
theorem kX14_reason : gCv cX14_reason mX14_reason 0 := ⟨q1398, q1399, q109, q1400, ⟨by decide +kernel, by decide +kernel, by decide +kernel⟩, rfl⟩
theorem uX14_reason : gCu cX14_reason mX14_reason 0 := ⟨q1398, q109, q1400, ⟨by decide +kernel, by decide +kernel, by decide +kernel⟩, rfl⟩
set_option maxHeartbeats 400000 in
theorem ctX14_reason {E : GE} {h : AH} (a : Nat)  : Ct E cX14_reason mX14_reason [.ref a] (h) (pN fun r h' => r = 5 ∧ h' = h) (noX) := by
  refine g_enter (own := "SecretVault$Wrong") [some (.ref a)] (by decide +kernel) rfl rfl (Nat.le_of_ble_eq_true rfl) rfl rfl (fun X => ?_)
  refine g_iconst (nI 5) dX14_reason_0 (by decide) ?_
  exact g_iret dX14_reason_1 rfl ⟨_, rfl, rfl, rfl⟩
