/-! TEXTS OF SHARES AND POLICIES -/
set_option maxRecDepth 100000
theorem gE.k94 {E : GE} (hE : gE E) : STo E (stA E (.string "SecretVault" 94)) [111, 102, 40] (stA E (.field (.string "SecretVault" 94) "java/lang/String" "value" "[B")) (fun i => ([111, 102, 40] : List Nat).getD i 0) := by
  have h1 := hE.ex (t := (.string "SecretVault" 94)) (C := "java/lang/String") (show _ ∈ flatC _ by decide +kernel)
  have h2 := hE.ex (t := (.field (.string "SecretVault" 94) "java/lang/String" "value" "[B")) (C := "[B") (show _ ∈ flatC _ by decide +kernel)
  refine ⟨h1.2, vk_OFof h1.1 h2.1 gE.out, hE.fl h1.1 (show Cond.eq (.field (.string "SecretVault" 94) "java/lang/String" "coder" "B") (.int 0) ∈ flatC _ by decide +kernel), ?_⟩
  refine (hE.tb (tm := (.field (.string "SecretVault" 94) "java/lang/String" "value" "[B")) (by decide) (show _ ∈ flatC _ by decide +kernel) (show _ ∈ flatC _ by decide +kernel) (fun j hj => ?_)).2
  have hj : j < 3 := hj
  match j, hj with
    | 0, _ => exact va_eqt (hE.nr (show Cond.eq (.elem (.field (.string "SecretVault" 94) "java/lang/String" "value" "[B") (.int 0)) (.int 111) ∈ flatC _ by decide +kernel))
    | 1, _ => exact va_eqt (hE.nr (show Cond.eq (.elem (.field (.string "SecretVault" 94) "java/lang/String" "value" "[B") (.int 1)) (.int 102) ∈ flatC _ by decide +kernel))
    | 2, _ => exact va_eqt (hE.nr (show Cond.eq (.elem (.field (.string "SecretVault" 94) "java/lang/String" "value" "[B") (.int 2)) (.int 40) ∈ flatC _ by decide +kernel))
    | j + 3, hj => exact absurd hj (by omega)
theorem gE.c94 {E : GE} (hE : gE E) (t : Nat) (h : AH) : ST E t h (stA E (.string "SecretVault" 94)) [111, 102, 40] := ⟨_, _, Or.inr hE.k94, by decide, fun i => by
  by_cases z : i < 3
  · revert i
    decide
  · show (([111, 102, 40] : List Nat).getD i 0) < 128
    rw [List.getD_eq_getElem?_getD, List.getElem?_eq_none (Nat.le_of_not_lt z)]
    decide, fun i c z => by
    show ([111, 102, 40] : List Nat).getD i 0 = c
    rw [List.getD_eq_getElem?_getD, z]
    rfl⟩
theorem gE.l94 {E : GE} (hE : gE E) : gSt E "SecretVault" 94 "of(" (stA E (.string "SecretVault" 94)) := hE.str q1913 (show _ ∈ flatC _ by decide +kernel)
theorem gE.k99 {E : GE} (hE : gE E) : STo E (stA E (.string "SecretVault" 99)) [] (stA E (.field (.string "SecretVault" 99) "java/lang/String" "value" "[B")) (fun i => ([] : List Nat).getD i 0) := by
  have h1 := hE.ex (t := (.string "SecretVault" 99)) (C := "java/lang/String") (show _ ∈ flatC _ by decide +kernel)
  have h2 := hE.ex (t := (.field (.string "SecretVault" 99) "java/lang/String" "value" "[B")) (C := "[B") (show _ ∈ flatC _ by decide +kernel)
  refine ⟨h1.2, vk_OFof h1.1 h2.1 gE.out, hE.fl h1.1 (show Cond.eq (.field (.string "SecretVault" 99) "java/lang/String" "coder" "B") (.int 0) ∈ flatC _ by decide +kernel), ?_⟩
  refine (hE.tb (tm := (.field (.string "SecretVault" 99) "java/lang/String" "value" "[B")) (by decide) (show _ ∈ flatC _ by decide +kernel) (show _ ∈ flatC _ by decide +kernel) (fun j hj => ?_)).2
  have hj : j < 0 := hj
  match j, hj with
    | j + 0, hj => exact absurd hj (by omega)
theorem gE.c99 {E : GE} (hE : gE E) (t : Nat) (h : AH) : ST E t h (stA E (.string "SecretVault" 99)) [] := ⟨_, _, Or.inr hE.k99, by decide, fun i => by
  by_cases z : i < 0
  · revert i
    decide
  · show (([] : List Nat).getD i 0) < 128
    rw [List.getD_eq_getElem?_getD, List.getElem?_eq_none (Nat.le_of_not_lt z)]
    decide, fun i c z => by
    show ([] : List Nat).getD i 0 = c
    rw [List.getD_eq_getElem?_getD, z]
    rfl⟩
theorem gE.l99 {E : GE} (hE : gE E) : gSt E "SecretVault" 99 "" (stA E (.string "SecretVault" 99)) := hE.str q1922 (show _ ∈ flatC _ by decide +kernel)
theorem gE.k109 {E : GE} (hE : gE E) : STo E (stA E (.string "SecretVault" 109)) [40] (stA E (.field (.string "SecretVault" 109) "java/lang/String" "value" "[B")) (fun i => ([40] : List Nat).getD i 0) := by
  have h1 := hE.ex (t := (.string "SecretVault" 109)) (C := "java/lang/String") (show _ ∈ flatC _ by decide +kernel)
  have h2 := hE.ex (t := (.field (.string "SecretVault" 109) "java/lang/String" "value" "[B")) (C := "[B") (show _ ∈ flatC _ by decide +kernel)
  refine ⟨h1.2, vk_OFof h1.1 h2.1 gE.out, hE.fl h1.1 (show Cond.eq (.field (.string "SecretVault" 109) "java/lang/String" "coder" "B") (.int 0) ∈ flatC _ by decide +kernel), ?_⟩
  refine (hE.tb (tm := (.field (.string "SecretVault" 109) "java/lang/String" "value" "[B")) (by decide) (show _ ∈ flatC _ by decide +kernel) (show _ ∈ flatC _ by decide +kernel) (fun j hj => ?_)).2
  have hj : j < 1 := hj
  match j, hj with
    | 0, _ => exact va_eqt (hE.nr (show Cond.eq (.elem (.field (.string "SecretVault" 109) "java/lang/String" "value" "[B") (.int 0)) (.int 40) ∈ flatC _ by decide +kernel))
    | j + 1, hj => exact absurd hj (by omega)
theorem gE.c109 {E : GE} (hE : gE E) (t : Nat) (h : AH) : ST E t h (stA E (.string "SecretVault" 109)) [40] := ⟨_, _, Or.inr hE.k109, by decide, fun i => by
  by_cases z : i < 1
  · revert i
    decide
  · show (([40] : List Nat).getD i 0) < 128
    rw [List.getD_eq_getElem?_getD, List.getElem?_eq_none (Nat.le_of_not_lt z)]
    decide, fun i c z => by
    show ([40] : List Nat).getD i 0 = c
    rw [List.getD_eq_getElem?_getD, z]
    rfl⟩
theorem gE.l109 {E : GE} (hE : gE E) : gSt E "SecretVault" 109 "(" (stA E (.string "SecretVault" 109)) := hE.str q1923 (show _ ∈ flatC _ by decide +kernel)
theorem gE.k115 {E : GE} (hE : gE E) : STo E (stA E (.string "SecretVault" 115)) [41] (stA E (.field (.string "SecretVault" 115) "java/lang/String" "value" "[B")) (fun i => ([41] : List Nat).getD i 0) := by
  have h1 := hE.ex (t := (.string "SecretVault" 115)) (C := "java/lang/String") (show _ ∈ flatC _ by decide +kernel)
  have h2 := hE.ex (t := (.field (.string "SecretVault" 115) "java/lang/String" "value" "[B")) (C := "[B") (show _ ∈ flatC _ by decide +kernel)
  refine ⟨h1.2, vk_OFof h1.1 h2.1 gE.out, hE.fl h1.1 (show Cond.eq (.field (.string "SecretVault" 115) "java/lang/String" "coder" "B") (.int 0) ∈ flatC _ by decide +kernel), ?_⟩
  refine (hE.tb (tm := (.field (.string "SecretVault" 115) "java/lang/String" "value" "[B")) (by decide) (show _ ∈ flatC _ by decide +kernel) (show _ ∈ flatC _ by decide +kernel) (fun j hj => ?_)).2
  have hj : j < 1 := hj
  match j, hj with
    | 0, _ => exact va_eqt (hE.nr (show Cond.eq (.elem (.field (.string "SecretVault" 115) "java/lang/String" "value" "[B") (.int 0)) (.int 41) ∈ flatC _ by decide +kernel))
    | j + 1, hj => exact absurd hj (by omega)
theorem gE.c115 {E : GE} (hE : gE E) (t : Nat) (h : AH) : ST E t h (stA E (.string "SecretVault" 115)) [41] := ⟨_, _, Or.inr hE.k115, by decide, fun i => by
  by_cases z : i < 1
  · revert i
    decide
  · show (([41] : List Nat).getD i 0) < 128
    rw [List.getD_eq_getElem?_getD, List.getElem?_eq_none (Nat.le_of_not_lt z)]
    decide, fun i c z => by
    show ([41] : List Nat).getD i 0 = c
    rw [List.getD_eq_getElem?_getD, z]
    rfl⟩
theorem gE.l115 {E : GE} (hE : gE E) : gSt E "SecretVault" 115 ")" (stA E (.string "SecretVault" 115)) := hE.str q1924 (show _ ∈ flatC _ by decide +kernel)
theorem dgL_1 {x : Nat} (h : x < 10) : dgL x = [48 + x] := by
  have e : sb_dg x = 1 := dg_at (by omega)
  unfold dgL
  rw [e]
  show [sb_dec x 0] = _
  have z := dec_last x
  rw [e] at z
  rw [show (0 : Nat) = 1 - 1 from rfl, z]
  congr 2
  omega
theorem dgL_le {x : Nat} (h : x < 1000000) : (dgL x).length ≤ 6 := by
  rw [dgL_len]
  exact sb_dg6 h
theorem dgL_3 {x : Nat} (h : x < 10000) : (dgL x).length ≤ 4 := by
  rw [dgL_len]
  by_cases h1 : x < 10
  · rw [dg_at (p := 1) (by omega)]; decide
  by_cases h2 : x < 100
  · rw [dg_at (p := 2) (by omega)]; decide
  by_cases h3 : x < 1000
  · rw [dg_at (p := 3) (by omega)]; decide
  · rw [dg_at (p := 4) (by omega)]; decide
abbrev mX6_write : GM := (yX6_write, 2, none, [], { frames := 6, cells := 8, slots := 1136, locals := 148 }, 255)
theorem kX6_write : gCv cX6_write mX6_write 1 := ⟨q1566, q1567, q97, q1568, ⟨by decide +kernel, by decide +kernel, by decide +kernel⟩, rfl⟩
theorem uX6_write : gCu cX6_write mX6_write 1 := ⟨q1566, q97, q1568, ⟨by decide +kernel, by decide +kernel, by decide +kernel⟩, rfl⟩
set_option maxHeartbeats 400000 in
theorem ctX6_write {E : GE} {h : AH} {t b a T pl v e : Nat} {L : List Nat} (hx : SB E t h b L) (ha : h a = some (T, gO 4 [.int (nI pl), .int (nI v), .int (nI e)])) (hT : T ≠ t ∧ T ≠ t + 1) (hp : pl < 1000000) (hv : v < 1000000) (he : e < 1000000) (hl : L.length + 34 ≤ 142) : Ct E cX6_write mX6_write [.ref a, .ref b] (h) (pV fun h' => SB E t h' b (L ++ shT pl v e) ∧ Fr (fun u => u = t ∨ u = t + 1) h h') (noX) := by
  refine g_enter (own := "SecretVault$Share") [some (.ref a), some (.ref b)] (by decide +kernel) rfl rfl (Nat.le_of_ble_eq_true rfl) rfl rfl (fun X => ?_)
  have l1 := dgL_le (show pl < 1000000 by omega)
  have l2 := dgL_le (show v < 1000000 by omega)
  have l3 := dgL_le (show e < 1000000 by omega)
  first | refine g_aload1 dX6_write_0 ?_ | refine g_aloadQ1 dX6_write_0 ?_ | refine g_aloadN1 dX6_write_0 ?_
  first | refine g_aload0 dX6_write_1 ?_ | refine g_aloadQ0 dX6_write_1 ?_ | refine g_aloadN0 dX6_write_1 ?_
  refine g_get (k0 := 0) (by first | assumption | exact g_up_self _ _ _ | (refine g_upf ?_ ?_ <;> assumption) | (refine g_upt ?_ ?_ (by decide) <;> assumption)) in_X6 q698 rfl (by decide) rfl dX6_write_2 ?_
  refine g_callVR (ctJ4_append_2 _ hx (by omega) (by omega)) kJ4_append_2 q1569 hx.rv (by decide) ⟨Nat.le_of_ble_eq_true rfl, Nat.le_of_ble_eq_true rfl⟩ rfl (Nat.le_of_ble_eq_true rfl) dX6_write_5 k_x (k_r (fun r_5 h_5 p_5 => ?_))
  obtain ⟨rfl, x_5, f_5⟩ := p_5
  have n_5 : (L ++ dgL pl).length ≤ L.length + 6 := by rw [List.length_append]; omega
  have a_5 := f_5 _ _ _ ha (by omega)
  refine g_bipush (nI 58) dX6_write_8 (by decide) ?_
  refine g_callVR (ctJ4_append_3 _ x_5 (by decide) (by omega)) kJ4_append_3 q1570 x_5.rv (by decide) ⟨Nat.le_of_ble_eq_true rfl, Nat.le_of_ble_eq_true rfl⟩ rfl (Nat.le_of_ble_eq_true rfl) dX6_write_10 k_x (k_r (fun r_10 h_10 p_10 => ?_))
  obtain ⟨rfl, x_10, f_10⟩ := p_10
  have n_10 : (L ++ dgL pl ++ [58]).length ≤ L.length + 7 := by rw [List.length_append, List.length_singleton]; omega
  have a_10 := f_10 _ _ _ a_5 (by omega)
  first | refine g_aload0 dX6_write_13 ?_ | refine g_aloadQ0 dX6_write_13 ?_ | refine g_aloadN0 dX6_write_13 ?_
  refine g_get (k0 := 1) (by first | assumption | exact g_up_self _ _ _ | (refine g_upf ?_ ?_ <;> assumption) | (refine g_upt ?_ ?_ (by decide) <;> assumption)) in_X6 q702 rfl (by decide) rfl dX6_write_14 ?_
  refine g_callVR (ctJ4_append_2 _ x_10 (by omega) (by omega)) kJ4_append_2 q1569 x_10.rv (by decide) ⟨Nat.le_of_ble_eq_true rfl, Nat.le_of_ble_eq_true rfl⟩ rfl (Nat.le_of_ble_eq_true rfl) dX6_write_17 k_x (k_r (fun r_17 h_17 p_17 => ?_))
  obtain ⟨rfl, x_17, f_17⟩ := p_17
  have n_17 : (L ++ dgL pl ++ [58] ++ dgL v).length ≤ L.length + 13 := by rw [List.length_append]; omega
  have a_17 := f_17 _ _ _ a_10 (by omega)
  refine g_bipush (nI 64) dX6_write_20 (by decide) ?_
  refine g_callVR (ctJ4_append_3 _ x_17 (by decide) (by omega)) kJ4_append_3 q1570 x_17.rv (by decide) ⟨Nat.le_of_ble_eq_true rfl, Nat.le_of_ble_eq_true rfl⟩ rfl (Nat.le_of_ble_eq_true rfl) dX6_write_22 k_x (k_r (fun r_22 h_22 p_22 => ?_))
  obtain ⟨rfl, x_22, f_22⟩ := p_22
  have n_22 : (L ++ dgL pl ++ [58] ++ dgL v ++ [64]).length ≤ L.length + 14 := by rw [List.length_append, List.length_singleton]; omega
  have a_22 := f_22 _ _ _ a_17 (by omega)
  first | refine g_aload0 dX6_write_25 ?_ | refine g_aloadQ0 dX6_write_25 ?_ | refine g_aloadN0 dX6_write_25 ?_
  refine g_get (k0 := 2) (by first | assumption | exact g_up_self _ _ _ | (refine g_upf ?_ ?_ <;> assumption) | (refine g_upt ?_ ?_ (by decide) <;> assumption)) in_X6 q706 rfl (by decide) rfl dX6_write_26 ?_
  refine g_callVR (ctJ4_append_2 _ x_22 (by omega) (by omega)) kJ4_append_2 q1569 x_22.rv (by decide) ⟨Nat.le_of_ble_eq_true rfl, Nat.le_of_ble_eq_true rfl⟩ rfl (Nat.le_of_ble_eq_true rfl) dX6_write_29 k_x (k_r (fun r_29 h_29 p_29 => ?_))
  obtain ⟨rfl, x_29, f_29⟩ := p_29
  have n_29 : (L ++ dgL pl ++ [58] ++ dgL v ++ [64] ++ dgL e).length ≤ L.length + 20 := by rw [List.length_append]; omega
  have a_29 := f_29 _ _ _ a_22 (by omega)
  refine g_bipush (nI 35) dX6_write_32 (by decide) ?_
  refine g_callVR (ctJ4_append_3 _ x_29 (by decide) (by omega)) kJ4_append_3 q1570 x_29.rv (by decide) ⟨Nat.le_of_ble_eq_true rfl, Nat.le_of_ble_eq_true rfl⟩ rfl (Nat.le_of_ble_eq_true rfl) dX6_write_34 k_x (k_r (fun r_34 h_34 p_34 => ?_))
  obtain ⟨rfl, x_34, f_34⟩ := p_34
  have n_34 : (L ++ dgL pl ++ [58] ++ dgL v ++ [64] ++ dgL e ++ [35]).length ≤ L.length + 21 := by rw [List.length_append, List.length_singleton]; omega
  have a_34 := f_34 _ _ _ a_29 (by omega)
  refine g_bipush (nI 7) dX6_write_37 (by decide) ?_
  first | refine g_aload0 dX6_write_39 ?_ | refine g_aloadQ0 dX6_write_39 ?_ | refine g_aloadN0 dX6_write_39 ?_
  refine g_get (k0 := 0) (by first | assumption | exact g_up_self _ _ _ | (refine g_upf ?_ ?_ <;> assumption) | (refine g_upt ?_ ?_ (by decide) <;> assumption)) in_X6 q698 rfl (by decide) rfl dX6_write_40 ?_
  first | refine g_imulN dX6_write_43 ?_ | refine g_imul dX6_write_43 ?_
  refine g_iconst (nI 3) dX6_write_44 (by decide) ?_
  first | refine g_aload0 dX6_write_45 ?_ | refine g_aloadQ0 dX6_write_45 ?_ | refine g_aloadN0 dX6_write_45 ?_
  refine g_get (k0 := 1) (by first | assumption | exact g_up_self _ _ _ | (refine g_upf ?_ ?_ <;> assumption) | (refine g_upt ?_ ?_ (by decide) <;> assumption)) in_X6 q702 rfl (by decide) rfl dX6_write_46 ?_
  first | refine g_imulN dX6_write_49 ?_ | refine g_imul dX6_write_49 ?_
  first | refine g_iaddN dX6_write_50 ?_ | refine g_iadd dX6_write_50 ?_
  first | refine g_aload0 dX6_write_51 ?_ | refine g_aloadQ0 dX6_write_51 ?_ | refine g_aloadN0 dX6_write_51 ?_
  refine g_get (k0 := 2) (by first | assumption | exact g_up_self _ _ _ | (refine g_upf ?_ ?_ <;> assumption) | (refine g_upt ?_ ?_ (by decide) <;> assumption)) in_X6 q706 rfl (by decide) rfl dX6_write_52 ?_
  first | refine g_iaddN dX6_write_55 ?_ | refine g_iadd dX6_write_55 ?_
  refine g_bipush (nI 10) dX6_write_56 (by decide) ?_
  refine g_iremN dX6_write_58 (by omega) (by omega) (by omega) ?_
  refine g_callVR (ctJ4_append_2 _ x_34 (by omega) (by omega)) kJ4_append_2 q1569 x_34.rv (by decide) ⟨Nat.le_of_ble_eq_true rfl, Nat.le_of_ble_eq_true rfl⟩ rfl (Nat.le_of_ble_eq_true rfl) dX6_write_59 k_x (k_r (fun r_59 h_59 p_59 => ?_))
  obtain ⟨rfl, x_59, f_59⟩ := p_59
  refine g_pop dX6_write_62 (by first | rfl | exact cat_rf _) ?_
  exact g_vret dX6_write_63 rfl ⟨rfl, by rw [dgL_1 (show (7 * pl + 3 * v + e) % 10 < 10 by omega)] at x_59; simpa [shT, List.append_assoc] using x_59, f_5.tr (f_10.tr (f_17.tr (f_22.tr (f_29.tr (f_34.tr f_59)))))⟩
