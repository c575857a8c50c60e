/-! SECRETS: contracts -/
set_option maxRecDepth 100000
abbrev mX6_init : GM := (yX6_init, 4, none, [], { frames := 1, cells := 0, slots := 0, locals := 30 }, 255)
theorem kX6_init : gCi cX6_init mX6_init 3 := ⟨q695, q97, q696, ⟨by decide +kernel, by decide +kernel, by decide +kernel⟩, rfl, rfl, rfl⟩
set_option maxHeartbeats 400000 in
theorem ctX6_init {E : GE} {h : AH} {q t : Nat} (x v e : Nat) (ha : h q = some (t, gO 4 [.int 0, .int 0, .int 0])) : Ct E cX6_init mX6_init [.ref q, .int (nI x), .int (nI v), .int (nI e)] (h) (pV fun h' => h' = g_up h q (t, gO 4 [.int (nI x), .int (nI v), .int (nI e)])) (noX) := by
  refine g_enter (own := "SecretVault$Share") [some (.ref q), some (.int (nI x)), some (.int (nI v)), some (.int (nI e))] (by decide +kernel) rfl rfl (Nat.le_of_ble_eq_true rfl) rfl rfl (fun X => ?_)
  first | refine g_aload0 dX6_init_0 ?_ | refine g_aloadQ0 dX6_init_0 ?_ | refine g_aloadN0 dX6_init_0 ?_
  refine g_objInit q697 q129 q130 dX6_init_1 (Nat.le_of_ble_eq_true rfl) (Nat.le_of_ble_eq_true rfl) ?_
  first | refine g_aload0 dX6_init_4 ?_ | refine g_aloadQ0 dX6_init_4 ?_ | refine g_aloadN0 dX6_init_4 ?_
  refine g_iload1 dX6_init_5 ?_
  refine g_putF (k0 := 0) (by first | assumption | exact g_up_self _ _ _ | (refine g_upf ?_ ?_ <;> assumption) | (refine g_upt ?_ ?_ (by decide) <;> assumption)) in_X6 q698 tyX6_ok nmX6 rfl (by decide) rfl rfl rfl (by rfl) (by rfl) (Nat.le_of_ble_eq_true rfl) dX6_init_6 ?_
  try rw [g_upup]
  first | refine g_aload0 dX6_init_9 ?_ | refine g_aloadQ0 dX6_init_9 ?_ | refine g_aloadN0 dX6_init_9 ?_
  refine g_iload2 dX6_init_10 ?_
  refine g_put (k0 := 1) (by first | assumption | exact g_up_self _ _ _ | (refine g_upf ?_ ?_ <;> assumption) | (refine g_upt ?_ ?_ (by decide) <;> assumption)) in_X6 q702 tyX6_ok nmX6 rfl (by decide) rfl (by rfl) (by rfl) (Nat.le_of_ble_eq_true rfl) dX6_init_11 ?_
  try rw [g_upup]
  first | refine g_aload0 dX6_init_14 ?_ | refine g_aloadQ0 dX6_init_14 ?_ | refine g_aloadN0 dX6_init_14 ?_
  refine g_iload3 dX6_init_15 ?_
  refine g_put (k0 := 2) (by first | assumption | exact g_up_self _ _ _ | (refine g_upf ?_ ?_ <;> assumption) | (refine g_upt ?_ ?_ (by decide) <;> assumption)) in_X6 q706 tyX6_ok nmX6 rfl (by decide) rfl (by rfl) (by rfl) (Nat.le_of_ble_eq_true rfl) dX6_init_16 ?_
  try rw [g_upup]
  exact g_vret dX6_init_19 rfl ⟨rfl, rfl⟩
abbrev mX6_copy : GM := (yX6_copy, 1, (some (.object "SecretVault$Share")), [], { frames := 2, cells := 1, slots := 3, locals := 53 }, 255)
theorem kX6_copy : gCv cX6_copy mX6_copy 0 := ⟨q689, q690, q97, q691, ⟨by decide +kernel, by decide +kernel, by decide +kernel⟩, rfl⟩
theorem uX6_copy : gCu cX6_copy mX6_copy 0 := ⟨q689, q97, q691, ⟨by decide +kernel, by decide +kernel, by decide +kernel⟩, rfl⟩
set_option maxHeartbeats 400000 in
theorem ctX6_copy {E : GE} {h : AH} {b t : Nat} (t' : Nat) {x v e : Nat} (hb : h b = some (t, gO 4 [.int (nI x), .int (nI v), .int (nI e)])) : Ct E cX6_copy mX6_copy [.ref b] (h) (pR fun r h' => h r = none ∧ h' = g_up h r (t', gO 4 [.int (nI x), .int (nI v), .int (nI e)])) (noX) := by
  refine g_enter (own := "SecretVault$Share") [some (.ref b)] (by decide +kernel) rfl rfl (Nat.le_of_ble_eq_true rfl) rfl rfl (fun X => ?_)
  refine g_new 4 (t') [.int 0, .int 0, .int 0] in_X6 tyX6_ok q692 q693 q97 rfl nwX6 (Nat.le_of_ble_eq_true rfl) (Nat.le_of_ble_eq_true rfl) dX6_copy_0 (fun q_0 f_0 => ?_)
  have hb2 := g_upf (z := (t', gO 4 [.int 0, .int 0, .int 0])) hb f_0
  refine g_dup dX6_copy_3 rfl ?_
  first | refine g_aload0 dX6_copy_4 ?_ | refine g_aloadQ0 dX6_copy_4 ?_ | refine g_aloadN0 dX6_copy_4 ?_
  refine g_get (k0 := 0) (by first | assumption | exact g_up_self _ _ _ | (refine g_upf ?_ ?_ <;> assumption) | (refine g_upt ?_ ?_ (by decide) <;> assumption)) in_X6 q698 rfl (by decide) rfl dX6_copy_5 ?_
  first | refine g_aload0 dX6_copy_8 ?_ | refine g_aloadQ0 dX6_copy_8 ?_ | refine g_aloadN0 dX6_copy_8 ?_
  refine g_get (k0 := 1) (by first | assumption | exact g_up_self _ _ _ | (refine g_upf ?_ ?_ <;> assumption) | (refine g_upt ?_ ?_ (by decide) <;> assumption)) in_X6 q702 rfl (by decide) rfl dX6_copy_9 ?_
  first | refine g_aload0 dX6_copy_12 ?_ | refine g_aloadQ0 dX6_copy_12 ?_ | refine g_aloadN0 dX6_copy_12 ?_
  refine g_get (k0 := 2) (by first | assumption | exact g_up_self _ _ _ | (refine g_upf ?_ ?_ <;> assumption) | (refine g_upt ?_ ?_ (by decide) <;> assumption)) in_X6 q706 rfl (by decide) rfl dX6_copy_13 ?_
  refine g_callI (ctX6_init _ _ _ (g_up_self _ _ _)) kX6_init q694 (by decide) ⟨Nat.le_of_ble_eq_true rfl, Nat.le_of_ble_eq_true rfl⟩ rfl (Nat.le_of_ble_eq_true rfl) dX6_copy_16 k_x (k_v (fun h_16 p_16 => ?_))
  subst p_16
  rw [g_upup]
  exact g_aret dX6_copy_19 rfl (Or.inl ⟨_, rfl⟩) ⟨_, rfl, f_0, rfl⟩
abbrev mX10_init : GM := (yX10_init, 2, none, [], { frames := 1, cells := 0, slots := 0, locals := 30 }, 255)
theorem kX10_init : gCi cX10_init mX10_init 1 := ⟨q1340, q105, q1341, ⟨by decide +kernel, by decide +kernel, by decide +kernel⟩, rfl, rfl, rfl⟩
set_option maxHeartbeats 400000 in
theorem ctX10_init_U {E : GE} {h : AH} {q t b : Nat} (ha : h q = some (t, gO 11 [.null])) : Ct E cX10_init mX10_init [.ref q, .ref b] (h) (pV fun h' => h' = g_up h q (t, gO 11 [.ref b])) (noX) := by
  refine g_enter (own := "SecretVault$Judged") [some (.ref q), some (.ref b)] (by decide +kernel) rfl rfl (Nat.le_of_ble_eq_true rfl) rfl rfl (fun X => ?_)
  first | refine g_aload0 dX10_init_0 ?_ | refine g_aloadQ0 dX10_init_0 ?_ | refine g_aloadN0 dX10_init_0 ?_
  refine g_objInit q1342 q129 q130 dX10_init_1 (Nat.le_of_ble_eq_true rfl) (Nat.le_of_ble_eq_true rfl) ?_
  first | refine g_aload0 dX10_init_4 ?_ | refine g_aloadQ0 dX10_init_4 ?_ | refine g_aloadN0 dX10_init_4 ?_
  first | refine g_aload1 dX10_init_5 ?_ | refine g_aloadQ1 dX10_init_5 ?_ | refine g_aloadN1 dX10_init_5 ?_
  refine g_putF (k0 := 0) (by first | assumption | exact g_up_self _ _ _ | (refine g_upf ?_ ?_ <;> assumption) | (refine g_upt ?_ ?_ (by decide) <;> assumption)) in_X11 q1343 tyX11_ok nmX11 rfl (by decide) rfl rfl rfl (by rfl) (by rfl) (Nat.le_of_ble_eq_true rfl) dX10_init_6 ?_
  try rw [g_upup]
  exact g_vret dX10_init_9 rfl ⟨rfl, rfl⟩
set_option maxHeartbeats 400000 in
theorem ctX10_init_S {E : GE} {h : AH} {q t b : Nat} (ha : h q = some (t, gO 12 [.null])) : Ct E cX10_init mX10_init [.ref q, .ref b] (h) (pV fun h' => h' = g_up h q (t, gO 12 [.ref b])) (noX) := by
  refine g_enter (own := "SecretVault$Judged") [some (.ref q), some (.ref b)] (by decide +kernel) rfl rfl (Nat.le_of_ble_eq_true rfl) rfl rfl (fun X => ?_)
  first | refine g_aload0 dX10_init_0 ?_ | refine g_aloadQ0 dX10_init_0 ?_ | refine g_aloadN0 dX10_init_0 ?_
  refine g_objInit q1342 q129 q130 dX10_init_1 (Nat.le_of_ble_eq_true rfl) (Nat.le_of_ble_eq_true rfl) ?_
  first | refine g_aload0 dX10_init_4 ?_ | refine g_aloadQ0 dX10_init_4 ?_ | refine g_aloadN0 dX10_init_4 ?_
  first | refine g_aload1 dX10_init_5 ?_ | refine g_aloadQ1 dX10_init_5 ?_ | refine g_aloadN1 dX10_init_5 ?_
  refine g_putF (k0 := 0) (by first | assumption | exact g_up_self _ _ _ | (refine g_upf ?_ ?_ <;> assumption) | (refine g_upt ?_ ?_ (by decide) <;> assumption)) in_X13 q1343 tyX13_ok nmX13 rfl (by decide) rfl rfl rfl (by rfl) (by rfl) (Nat.le_of_ble_eq_true rfl) dX10_init_6 ?_
  try rw [g_upup]
  exact g_vret dX10_init_9 rfl ⟨rfl, rfl⟩
set_option maxHeartbeats 400000 in
theorem ctX10_init_W {E : GE} {h : AH} {q t b : Nat} (ha : h q = some (t, gO 13 [.null])) : Ct E cX10_init mX10_init [.ref q, .ref b] (h) (pV fun h' => h' = g_up h q (t, gO 13 [.ref b])) (noX) := by
  refine g_enter (own := "SecretVault$Judged") [some (.ref q), some (.ref b)] (by decide +kernel) rfl rfl (Nat.le_of_ble_eq_true rfl) rfl rfl (fun X => ?_)
  first | refine g_aload0 dX10_init_0 ?_ | refine g_aloadQ0 dX10_init_0 ?_ | refine g_aloadN0 dX10_init_0 ?_
  refine g_objInit q1342 q129 q130 dX10_init_1 (Nat.le_of_ble_eq_true rfl) (Nat.le_of_ble_eq_true rfl) ?_
  first | refine g_aload0 dX10_init_4 ?_ | refine g_aloadQ0 dX10_init_4 ?_ | refine g_aloadN0 dX10_init_4 ?_
  first | refine g_aload1 dX10_init_5 ?_ | refine g_aloadQ1 dX10_init_5 ?_ | refine g_aloadN1 dX10_init_5 ?_
  refine g_putF (k0 := 0) (by first | assumption | exact g_up_self _ _ _ | (refine g_upf ?_ ?_ <;> assumption) | (refine g_upt ?_ ?_ (by decide) <;> assumption)) in_X14 q1343 tyX14_ok nmX14 rfl (by decide) rfl rfl rfl (by rfl) (by rfl) (Nat.le_of_ble_eq_true rfl) dX10_init_6 ?_
  try rw [g_upup]
  exact g_vret dX10_init_9 rfl ⟨rfl, rfl⟩
abbrev mX11_init : GM := (yX11_init, 2, none, [], { frames := 2, cells := 0, slots := 0, locals := 51 }, 255)
theorem kX11_init : gCi cX11_init mX11_init 1 := ⟨q1337, q106, q1338, ⟨by decide +kernel, by decide +kernel, by decide +kernel⟩, rfl, rfl, rfl⟩
set_option maxHeartbeats 400000 in
theorem ctX11_init {E : GE} {h : AH} {q t b : Nat} (ha : h q = some (t, gO 11 [.null])) : Ct E cX11_init mX11_init [.ref q, .ref b] (h) (pV fun h' => h' = g_up h q (t, gO 11 [.ref b])) (noX) := by
  refine g_enter (own := "SecretVault$Usable") [some (.ref q), some (.ref b)] (by decide +kernel) rfl rfl (Nat.le_of_ble_eq_true rfl) rfl rfl (fun X => ?_)
  first | refine g_aload0 dX11_init_0 ?_ | refine g_aloadQ0 dX11_init_0 ?_ | refine g_aloadN0 dX11_init_0 ?_
  first | refine g_aload1 dX11_init_1 ?_ | refine g_aloadQ1 dX11_init_1 ?_ | refine g_aloadN1 dX11_init_1 ?_
  refine g_callI (ctX10_init_U (by first | assumption | exact g_up_self _ _ _ | (refine g_upf ?_ ?_ <;> assumption) | (refine g_upt ?_ ?_ (by decide) <;> assumption))) kX10_init q1339 (by decide) ⟨Nat.le_of_ble_eq_true rfl, Nat.le_of_ble_eq_true rfl⟩ rfl (Nat.le_of_ble_eq_true rfl) dX11_init_2 k_x (k_v (fun h_2 p_2 => ?_))
  subst p_2
  exact g_vret dX11_init_5 rfl ⟨rfl, rfl⟩
abbrev mX12_init : GM := (yX12_init, 2, none, [], { frames := 2, cells := 0, slots := 0, locals := 51 }, 255)
theorem kX12_init : gCi cX12_init mX12_init 1 := ⟨q1357, q107, q1358, ⟨by decide +kernel, by decide +kernel, by decide +kernel⟩, rfl, rfl, rfl⟩
set_option maxHeartbeats 400000 in
theorem ctX12_init_S {E : GE} {h : AH} {q t b : Nat} (ha : h q = some (t, gO 12 [.null])) : Ct E cX12_init mX12_init [.ref q, .ref b] (h) (pV fun h' => h' = g_up h q (t, gO 12 [.ref b])) (noX) := by
  refine g_enter (own := "SecretVault$Unusable") [some (.ref q), some (.ref b)] (by decide +kernel) rfl rfl (Nat.le_of_ble_eq_true rfl) rfl rfl (fun X => ?_)
  first | refine g_aload0 dX12_init_0 ?_ | refine g_aloadQ0 dX12_init_0 ?_ | refine g_aloadN0 dX12_init_0 ?_
  first | refine g_aload1 dX12_init_1 ?_ | refine g_aloadQ1 dX12_init_1 ?_ | refine g_aloadN1 dX12_init_1 ?_
  refine g_callI (ctX10_init_S (by first | assumption | exact g_up_self _ _ _ | (refine g_upf ?_ ?_ <;> assumption) | (refine g_upt ?_ ?_ (by decide) <;> assumption))) kX10_init q1359 (by decide) ⟨Nat.le_of_ble_eq_true rfl, Nat.le_of_ble_eq_true rfl⟩ rfl (Nat.le_of_ble_eq_true rfl) dX12_init_2 k_x (k_v (fun h_2 p_2 => ?_))
  subst p_2
  exact g_vret dX12_init_5 rfl ⟨rfl, rfl⟩
set_option maxHeartbeats 400000 in
theorem ctX12_init_W {E : GE} {h : AH} {q t b : Nat} (ha : h q = some (t, gO 13 [.null])) : Ct E cX12_init mX12_init [.ref q, .ref b] (h) (pV fun h' => h' = g_up h q (t, gO 13 [.ref b])) (noX) := by
  refine g_enter (own := "SecretVault$Unusable") [some (.ref q), some (.ref b)] (by decide +kernel) rfl rfl (Nat.le_of_ble_eq_true rfl) rfl rfl (fun X => ?_)
  first | refine g_aload0 dX12_init_0 ?_ | refine g_aloadQ0 dX12_init_0 ?_ | refine g_aloadN0 dX12_init_0 ?_
  first | refine g_aload1 dX12_init_1 ?_ | refine g_aloadQ1 dX12_init_1 ?_ | refine g_aloadN1 dX12_init_1 ?_
  refine g_callI (ctX10_init_W (by first | assumption | exact g_up_self _ _ _ | (refine g_upf ?_ ?_ <;> assumption) | (refine g_upt ?_ ?_ (by decide) <;> assumption))) kX10_init q1359 (by decide) ⟨Nat.le_of_ble_eq_true rfl, Nat.le_of_ble_eq_true rfl⟩ rfl (Nat.le_of_ble_eq_true rfl) dX12_init_2 k_x (k_v (fun h_2 p_2 => ?_))
  subst p_2
  exact g_vret dX12_init_5 rfl ⟨rfl, rfl⟩
abbrev mX13_init : GM := (yX13_init, 2, none, [], { frames := 3, cells := 0, slots := 0, locals := 72 }, 255)
theorem kX13_init : gCi cX13_init mX13_init 1 := ⟨q1354, q108, q1355, ⟨by decide +kernel, by decide +kernel, by decide +kernel⟩, rfl, rfl, rfl⟩
set_option maxHeartbeats 400000 in
theorem ctX13_init {E : GE} {h : AH} {q t b : Nat} (ha : h q = some (t, gO 12 [.null])) : Ct E cX13_init mX13_init [.ref q, .ref b] (h) (pV fun h' => h' = g_up h q (t, gO 12 [.ref b])) (noX) := by
  refine g_enter (own := "SecretVault$Stale") [some (.ref q), some (.ref b)] (by decide +kernel) rfl rfl (Nat.le_of_ble_eq_true rfl) rfl rfl (fun X => ?_)
  first | refine g_aload0 dX13_init_0 ?_ | refine g_aloadQ0 dX13_init_0 ?_ | refine g_aloadN0 dX13_init_0 ?_
  first | refine g_aload1 dX13_init_1 ?_ | refine g_aloadQ1 dX13_init_1 ?_ | refine g_aloadN1 dX13_init_1 ?_
  refine g_callI (ctX12_init_S (by first | assumption | exact g_up_self _ _ _ | (refine g_upf ?_ ?_ <;> assumption) | (refine g_upt ?_ ?_ (by decide) <;> assumption))) kX12_init q1356 (by decide) ⟨Nat.le_of_ble_eq_true rfl, Nat.le_of_ble_eq_true rfl⟩ rfl (Nat.le_of_ble_eq_true rfl) dX13_init_2 k_x (k_v (fun h_2 p_2 => ?_))
  subst p_2
  exact g_vret dX13_init_5 rfl ⟨rfl, rfl⟩
abbrev mX14_init : GM := (yX14_init, 2, none, [], { frames := 3, cells := 0, slots := 0, locals := 72 }, 255)
theorem kX14_init : gCi cX14_init mX14_init 1 := ⟨q1368, q109, q1369, ⟨by decide +kernel, by decide +kernel, by decide +kernel⟩, rfl, rfl, rfl⟩
set_option maxHeartbeats 400000 in
theorem ctX14_init {E : GE} {h : AH} {q t b : Nat} (ha : h q = some (t, gO 13 [.null])) : Ct E cX14_init mX14_init [.ref q, .ref b] (h) (pV fun h' => h' = g_up h q (t, gO 13 [.ref b])) (noX) := by
  refine g_enter (own := "SecretVault$Wrong") [some (.ref q), some (.ref b)] (by decide +kernel) rfl rfl (Nat.le_of_ble_eq_true rfl) rfl rfl (fun X => ?_)
  first | refine g_aload0 dX14_init_0 ?_ | refine g_aloadQ0 dX14_init_0 ?_ | refine g_aloadN0 dX14_init_0 ?_
  first | refine g_aload1 dX14_init_1 ?_ | refine g_aloadQ1 dX14_init_1 ?_ | refine g_aloadN1 dX14_init_1 ?_
  refine g_callI (ctX12_init_W (by first | assumption | exact g_up_self _ _ _ | (refine g_upf ?_ ?_ <;> assumption) | (refine g_upt ?_ ?_ (by decide) <;> assumption))) kX12_init q1370 (by decide) ⟨Nat.le_of_ble_eq_true rfl, Nat.le_of_ble_eq_true rfl⟩ rfl (Nat.le_of_ble_eq_true rfl) dX14_init_2 k_x (k_v (fun h_2 p_2 => ?_))
  subst p_2
  exact g_vret dX14_init_5 rfl ⟨rfl, rfl⟩
abbrev mX23_judge : GM := (yX23_judge, 2, (some (.object "SecretVault$Judged")), [], { frames := 3, cells := 1, slots := 1, locals := 72 }, 255)
theorem uX23_judge : gCr cX23_judge mX23_judge 1 := ⟨q1332, q1333, ⟨by decide +kernel, by decide +kernel, by decide +kernel⟩, rfl⟩
set_option maxHeartbeats 400000 in
theorem ctX23_judge {E : GE} {h : AH} (z b T : Nat)  : CtR E cX23_judge mX23_judge [.ref z, .ref b] (h) (pR fun r h' => h r = none ∧ h' = g_up h r (T, gO 11 [.ref b])) (noX) := by
  refine g_enterR (own := "SecretVault$State$1") [some (.ref z), some (.ref b)] (by decide +kernel) rfl rfl (Nat.le_of_ble_eq_true rfl) rfl rfl (fun X => ?_)
  refine g_new 11 (T) [.null] in_X11 tyX11_ok q1334 q1335 q106 rfl nwX11 (Nat.le_of_ble_eq_true rfl) (Nat.le_of_ble_eq_true rfl) dX23_judge_0 (fun q_0 f_0 => ?_)
  refine g_dup dX23_judge_3 rfl ?_
  first | refine g_aload1 dX23_judge_4 ?_ | refine g_aloadQ1 dX23_judge_4 ?_ | refine g_aloadN1 dX23_judge_4 ?_
  refine g_callI (ctX11_init (g_up_self _ _ _)) kX11_init q1336 (by decide) ⟨Nat.le_of_ble_eq_true rfl, Nat.le_of_ble_eq_true rfl⟩ rfl (Nat.le_of_ble_eq_true rfl) dX23_judge_5 k_x (k_v (fun h_5 p_5 => ?_))
  subst p_5
  rw [g_upup]
  exact g_aret dX23_judge_8 rfl (Or.inl ⟨_, rfl⟩) ⟨_, rfl, f_0, rfl⟩
abbrev mX24_judge : GM := (yX24_judge, 2, (some (.object "SecretVault$Judged")), [], { frames := 4, cells := 1, slots := 1, locals := 93 }, 255)
theorem uX24_judge : gCr cX24_judge mX24_judge 1 := ⟨q1349, q1350, ⟨by decide +kernel, by decide +kernel, by decide +kernel⟩, rfl⟩
set_option maxHeartbeats 400000 in
theorem ctX24_judge {E : GE} {h : AH} (z b T : Nat)  : CtR E cX24_judge mX24_judge [.ref z, .ref b] (h) (pR fun r h' => h r = none ∧ h' = g_up h r (T, gO 12 [.ref b])) (noX) := by
  refine g_enterR (own := "SecretVault$State$2") [some (.ref z), some (.ref b)] (by decide +kernel) rfl rfl (Nat.le_of_ble_eq_true rfl) rfl rfl (fun X => ?_)
  refine g_new 12 (T) [.null] in_X13 tyX13_ok q1351 q1352 q108 rfl nwX13 (Nat.le_of_ble_eq_true rfl) (Nat.le_of_ble_eq_true rfl) dX24_judge_0 (fun q_0 f_0 => ?_)
  refine g_dup dX24_judge_3 rfl ?_
  first | refine g_aload1 dX24_judge_4 ?_ | refine g_aloadQ1 dX24_judge_4 ?_ | refine g_aloadN1 dX24_judge_4 ?_
  refine g_callI (ctX13_init (g_up_self _ _ _)) kX13_init q1353 (by decide) ⟨Nat.le_of_ble_eq_true rfl, Nat.le_of_ble_eq_true rfl⟩ rfl (Nat.le_of_ble_eq_true rfl) dX24_judge_5 k_x (k_v (fun h_5 p_5 => ?_))
  subst p_5
  rw [g_upup]
  exact g_aret dX24_judge_8 rfl (Or.inl ⟨_, rfl⟩) ⟨_, rfl, f_0, rfl⟩
abbrev mX25_judge : GM := (yX25_judge, 2, (some (.object "SecretVault$Judged")), [], { frames := 4, cells := 1, slots := 1, locals := 93 }, 255)
theorem uX25_judge : gCr cX25_judge mX25_judge 1 := ⟨q1363, q1364, ⟨by decide +kernel, by decide +kernel, by decide +kernel⟩, rfl⟩
set_option maxHeartbeats 400000 in
theorem ctX25_judge {E : GE} {h : AH} (z b T : Nat)  : CtR E cX25_judge mX25_judge [.ref z, .ref b] (h) (pR fun r h' => h r = none ∧ h' = g_up h r (T, gO 13 [.ref b])) (noX) := by
  refine g_enterR (own := "SecretVault$State$3") [some (.ref z), some (.ref b)] (by decide +kernel) rfl rfl (Nat.le_of_ble_eq_true rfl) rfl rfl (fun X => ?_)
  refine g_new 13 (T) [.null] in_X14 tyX14_ok q1365 q1366 q109 rfl nwX14 (Nat.le_of_ble_eq_true rfl) (Nat.le_of_ble_eq_true rfl) dX25_judge_0 (fun q_0 f_0 => ?_)
  refine g_dup dX25_judge_3 rfl ?_
  first | refine g_aload1 dX25_judge_4 ?_ | refine g_aloadQ1 dX25_judge_4 ?_ | refine g_aloadN1 dX25_judge_4 ?_
  refine g_callI (ctX14_init (g_up_self _ _ _)) kX14_init q1367 (by decide) ⟨Nat.le_of_ble_eq_true rfl, Nat.le_of_ble_eq_true rfl⟩ rfl (Nat.le_of_ble_eq_true rfl) dX25_judge_5 k_x (k_v (fun h_5 p_5 => ?_))
  subst p_5
  rw [g_upup]
  exact g_aret dX25_judge_8 rfl (Or.inl ⟨_, rfl⟩) ⟨_, rfl, f_0, rfl⟩
theorem slW.k {g : Nat → Nat} {s : Nat} (hw : slW g s) (h1 : gOf g s 0 = 1) : 1 ≤ gOf g s 1 ∧ gOf g s 1 ≤ 8 := ⟨hw.2.1 h1, hw.2.2.1⟩
/-- a share is as the slot's commitments say -/
def cmF (g : Nat → Nat) (s x : Nat) : Nat := if 4 ^ gSh g s x 1 % 2039 = prF g s x (gOf g s 1) then 1 else 0
theorem cmF_lt (g : Nat → Nat) (s x : Nat) : cmF g s x < 2 := by
  unfold cmF
  split <;> decide
abbrev mX5_isCommitted : GM := (yX5_isCommitted, 8, (some .boolean), [], { frames := 2, cells := 0, slots := 0, locals := 47 }, 255)
theorem kX5_isCommitted : gCv cX5_isCommitted mX5_isCommitted 1 := ⟨q1045, q1046, q96, q1047, ⟨by decide +kernel, by decide +kernel, by decide +kernel⟩, rfl⟩
theorem uX5_isCommitted : gCu cX5_isCommitted mX5_isCommitted 1 := ⟨q1045, q96, q1047, ⟨by decide +kernel, by decide +kernel, by decide +kernel⟩, rfl⟩
set_option maxHeartbeats 400000 in
theorem ctX5_isCommitted {E : GE} {h : AH} {S s a b x : Nat} {g : Nat → Nat} (hs : seO E S g s a h) (hw : slW g s) (h1 : gOf g s 0 = 1) (hx : 1 ≤ x ∧ x ≤ 24) (hb : h b = some (S + 3 + x, shC g s x)) : Ct E cX5_isCommitted mX5_isCommitted [.ref a, .ref b] (h) (pN fun r h' => r = (cmF g s x) ∧ h' = h) (noX) := by
  refine g_enter (own := "SecretVault$Secret") [some (.ref a), some (.ref b), none, none, none, none, none, none] (by decide +kernel) rfl rfl (Nat.le_of_ble_eq_true rfl) rfl rfl (fun X => ?_)
  obtain ⟨c, b0, p, fc, fs, ha, hc, hfc, hb0, hsh, hp⟩ := hs
  obtain ⟨hk1, hk8⟩ := hw.k h1
  have hv := (hw.2.2.2.2.2.2 x hx.1 hx.2).2.1
  have K : ∀ n i o, n + i = gOf g s 1 → V E cX5_isCommitted "SecretVault$Secret" mX5_isCommitted (pN fun r h' => r = (cmF g s x) ∧ h' = h) noX X (h) 0 0 18 [some (.ref a), some (.ref b), some (.int (nI (prF g s x i))), some (.int (nI (exF x i))), some (.ref c), some (.int (nI (gOf g s 1))), some (.int (nI i)), o] [] := by
    intro n
    induction n with
    | zero =>
      intro i o hn
      have hi : i = gOf g s 1 := by omega
      have hp1 := prF_lt g s x i
      have hp2 := exF_lt x i
      subst hi
      refine g_iload6 dX5_isCommitted_18 ?_
      refine g_iload5 dX5_isCommitted_20 ?_
      first | refine g_icmpN_ge (tgt := 67) dX5_isCommitted_22 (by decide) (by first | omega | exact prF_lt _ _ _ _ | exact Nat.lt_trans (Nat.mod_lt _ (by decide)) (by decide) | exact Nat.lt_trans (prF_lt _ _ _ _) (by decide)) (by first | omega | exact prF_lt _ _ _ _ | exact Nat.lt_trans (Nat.mod_lt _ (by decide)) (by decide) | exact Nat.lt_trans (prF_lt _ _ _ _) (by decide)) (fun c_22 => ?_) (fun c_22 => ?_) | refine g_icmp_ge (tgt := 67) dX5_isCommitted_22 (by decide) (fun c_22 => ?_) (fun c_22 => ?_)
      · refine g_iconst (nI 4) dX5_isCommitted_67 (by decide) ?_
        first | refine g_aload1 dX5_isCommitted_68 ?_ | refine g_aloadQ1 dX5_isCommitted_68 ?_ | refine g_aloadN1 dX5_isCommitted_68 ?_
        refine g_getN (k0 := 1) (by first | assumption | exact g_up_self _ _ _ | (refine g_upf ?_ ?_ <;> assumption) | (refine g_upt ?_ ?_ (by decide) <;> assumption)) in_X6 q703 rfl (by decide) rfl dX5_isCommitted_69 ?_
        refine g_sipush (nI 2039) dX5_isCommitted_72 (by decide) ?_
        refine g_callSN (ctX1_power _ _ _ (by omega) (by omega) (by omega)) kX1_power q1048 (by decide) ⟨Nat.le_of_ble_eq_true rfl, Nat.le_of_ble_eq_true rfl⟩ rfl (Nat.le_of_ble_eq_true rfl) dX5_isCommitted_75 k_x (k_n (fun r_75 h_75 p_75 => ?_))
        obtain ⟨rfl, rfl⟩ := p_75
        refine g_iload2 dX5_isCommitted_78 ?_
        first | refine g_icmpN_ne (tgt := 86) dX5_isCommitted_79 (by decide) (by first | omega | exact prF_lt _ _ _ _ | exact Nat.lt_trans (Nat.mod_lt _ (by decide)) (by decide) | exact Nat.lt_trans (prF_lt _ _ _ _) (by decide)) (by first | omega | exact prF_lt _ _ _ _ | exact Nat.lt_trans (Nat.mod_lt _ (by decide)) (by decide) | exact Nat.lt_trans (prF_lt _ _ _ _) (by decide)) (fun c_79 => ?_) (fun c_79 => ?_) | refine g_icmpU_ne (tgt := 86) dX5_isCommitted_79 (by decide) (by first | omega | exact prF_lt _ _ _ _ | exact Nat.lt_trans (Nat.mod_lt _ (by decide)) (by decide) | exact Nat.lt_trans (prF_lt _ _ _ _) (by decide)) (by first | omega | exact prF_lt _ _ _ _ | exact Nat.lt_trans (Nat.mod_lt _ (by decide)) (by decide) | exact Nat.lt_trans (prF_lt _ _ _ _) (by decide)) (fun c_79 => ?_) (fun c_79 => ?_) | refine g_icmp_ne (tgt := 86) dX5_isCommitted_79 (by decide) (fun c_79 => ?_) (fun c_79 => ?_)
        · refine g_iconst (nI 0) dX5_isCommitted_86 (by decide) ?_
          exact g_zret dX5_isCommitted_87 rfl (nar_zb (by first | omega | exact prF_lt _ _ _ _ | exact Nat.lt_trans (Nat.mod_lt _ (by decide)) (by decide) | exact Nat.lt_trans (prF_lt _ _ _ _) (by decide))) ⟨_, rfl, by unfold cmF; first | rw [if_pos c_79] | rw [if_neg c_79], rfl⟩
        · refine g_iconst (nI 1) dX5_isCommitted_82 (by decide) ?_
          refine g_goto (tgt := 87) dX5_isCommitted_83 (by decide) ?_
          exact g_zret dX5_isCommitted_87 rfl (nar_zb (by first | omega | exact prF_lt _ _ _ _ | exact Nat.lt_trans (Nat.mod_lt _ (by decide)) (by decide) | exact Nat.lt_trans (prF_lt _ _ _ _) (by decide))) ⟨_, rfl, by unfold cmF; first | rw [if_pos c_79] | rw [if_neg c_79], rfl⟩
      · omega
    | succ n ih =>
      intro i o hn
      have hp1 := prF_lt g s x i
      have hp2 := exF_lt x i
      have hfi := hfc i (by omega)
      have hcb := hw.2.2.2.2.1 i (by omega)
      refine g_iload6 dX5_isCommitted_18 ?_
      refine g_iload5 dX5_isCommitted_20 ?_
      first | refine g_icmpN_ge (tgt := 67) dX5_isCommitted_22 (by decide) (by omega) (by omega) (fun c_22 => ?_) (fun c_22 => ?_) | refine g_icmp_ge (tgt := 67) dX5_isCommitted_22 (by decide) (fun c_22 => ?_) (fun c_22 => ?_)
      · omega
      · first | refine g_aload4 dX5_isCommitted_25 ?_ | refine g_aloadQ4 dX5_isCommitted_25 ?_ | refine g_aloadN4 dX5_isCommitted_25 ?_
        refine g_iload6 dX5_isCommitted_27 ?_
        refine g_ialdN (by first | assumption | exact g_up_self _ _ _ | (refine g_upf ?_ ?_ <;> assumption) | (refine g_upt ?_ ?_ (by decide) <;> assumption)) (by omega) (by omega) dX5_isCommitted_29 ?_
        rw [hfi]
        refine g_istore7 dX5_isCommitted_30 (by decide) ?_
        refine g_iload2 dX5_isCommitted_32 ?_
        refine g_iload7 dX5_isCommitted_33 ?_
        refine g_iload3 dX5_isCommitted_35 ?_
        refine g_sipush (nI 2039) dX5_isCommitted_36 (by decide) ?_
        refine g_callSN (ctX1_power _ _ _ (by omega) (by omega) (by omega)) kX1_power q1048 (by decide) ⟨Nat.le_of_ble_eq_true rfl, Nat.le_of_ble_eq_true rfl⟩ rfl (Nat.le_of_ble_eq_true rfl) dX5_isCommitted_39 k_x (k_n (fun r_39 h_39 p_39 => ?_))
        obtain ⟨rfl, rfl⟩ := p_39
        refine g_sipush (nI 2039) dX5_isCommitted_42 (by decide) ?_
        refine g_callSN (ctX1_times _ _ _ (by omega) (by omega) (by omega)) kX1_times q1054 (by decide) ⟨Nat.le_of_ble_eq_true rfl, Nat.le_of_ble_eq_true rfl⟩ rfl (Nat.le_of_ble_eq_true rfl) dX5_isCommitted_45 k_x (k_n (fun r_45 h_45 p_45 => ?_))
        obtain ⟨rfl, rfl⟩ := p_45
        refine g_istore2 dX5_isCommitted_48 (by decide) ?_
        refine g_iload3 dX5_isCommitted_49 ?_
        first | refine g_aload1 dX5_isCommitted_50 ?_ | refine g_aloadQ1 dX5_isCommitted_50 ?_ | refine g_aloadN1 dX5_isCommitted_50 ?_
        refine g_get (k0 := 0) (by first | assumption | exact g_up_self _ _ _ | (refine g_upf ?_ ?_ <;> assumption) | (refine g_upt ?_ ?_ (by decide) <;> assumption)) in_X6 q699 rfl (by decide) rfl dX5_isCommitted_51 ?_
        refine g_sipush (nI 1019) dX5_isCommitted_54 (by decide) ?_
        refine g_callSN (ctX1_times _ _ _ (by omega) (by omega) (by omega)) kX1_times q1054 (by decide) ⟨Nat.le_of_ble_eq_true rfl, Nat.le_of_ble_eq_true rfl⟩ rfl (Nat.le_of_ble_eq_true rfl) dX5_isCommitted_57 k_x (k_n (fun r_57 h_57 p_57 => ?_))
        obtain ⟨rfl, rfl⟩ := p_57
        refine g_istore3 dX5_isCommitted_60 (by decide) ?_
        first | refine g_iincN6 1 dX5_isCommitted_61 (by decide) (by decide) ?_ | refine g_iinc6 _ dX5_isCommitted_61 rfl (by decide) ?_
        refine g_goto (tgt := 18) dX5_isCommitted_64 (by decide) ?_
        exact ih (i + 1) _ (by omega)
  refine g_iconst (nI 1) dX5_isCommitted_0 (by decide) ?_
  refine g_istore2 dX5_isCommitted_1 (by decide) ?_
  refine g_iconst (nI 1) dX5_isCommitted_2 (by decide) ?_
  refine g_istore3 dX5_isCommitted_3 (by decide) ?_
  first | refine g_aload0 dX5_isCommitted_4 ?_ | refine g_aloadQ0 dX5_isCommitted_4 ?_ | refine g_aloadN0 dX5_isCommitted_4 ?_
  refine g_get (k0 := 2) (by first | assumption | exact g_up_self _ _ _ | (refine g_upf ?_ ?_ <;> assumption) | (refine g_upt ?_ ?_ (by decide) <;> assumption)) in_X5 q664 rfl (by decide) rfl dX5_isCommitted_5 ?_
  first | refine g_astore4 dX5_isCommitted_8 (by decide) ?_ | refine g_astoreQ4 dX5_isCommitted_8 (by decide) ?_ | refine g_astoreN4 dX5_isCommitted_8 (by decide) ?_
  first | refine g_aload4 dX5_isCommitted_10 ?_ | refine g_aloadQ4 dX5_isCommitted_10 ?_ | refine g_aloadN4 dX5_isCommitted_10 ?_
  refine g_alen (by first | assumption | exact g_up_self _ _ _ | (refine g_upf ?_ ?_ <;> assumption) | (refine g_upt ?_ ?_ (by decide) <;> assumption)) (by first | exact Or.inl ⟨_, rfl⟩ | exact Or.inr (Or.inr (Or.inl ⟨_, rfl⟩)) | exact Or.inr (Or.inr (Or.inr (Or.inl ⟨_, rfl⟩))) | exact Or.inr (Or.inr (Or.inr (Or.inr (Or.inr ⟨_, _, by decide, by decide, rfl⟩))))) rfl dX5_isCommitted_12 ?_
  refine g_istore5 dX5_isCommitted_13 (by decide) ?_
  refine g_iconst (nI 0) dX5_isCommitted_15 (by decide) ?_
  refine g_istore6 dX5_isCommitted_16 (by decide) ?_
  exact K (gOf g s 1) 0 none (by omega)
theorem stF_0 {g : Nat → Nat} {s x : Nat} (h1 : gSh g s x 2 = gOf g s 2) (h2 : cmF g s x = 1) : stF g s x = 0 := by
  unfold cmF at h2
  unfold stF
  rw [if_neg (fun z => z h1)]
  split at h2
  · rename_i h3
    rw [if_pos h3]
  · cases h2
theorem stF_2 {g : Nat → Nat} {s x : Nat} (h1 : gSh g s x 2 = gOf g s 2) (h2 : cmF g s x = 0) : stF g s x = 2 := by
  unfold cmF at h2
  unfold stF
  rw [if_neg (fun z => z h1)]
  split at h2
  · cases h2
  · rename_i h3
    rw [if_neg h3]
theorem stF_1 {g : Nat → Nat} {s x : Nat} (h1 : ¬ gSh g s x 2 = gOf g s 2) : stF g s x = 1 := by
  unfold stF
  rw [if_pos h1]
/-- a share's state is i -/
def isS (g : Nat → Nat) (s x i : Nat) : Nat := if stF g s x = i then 1 else 0
theorem isS_y {g : Nat → Nat} {s x i : Nat} (h : stF g s x = i) : isS g s x i = 1 := if_pos h
theorem isS_n {g : Nat → Nat} {s x i j : Nat} (h : stF g s x = j) (hn : ¬ j = i) : isS g s x i = 0 := if_neg (by rw [h]; exact hn)
theorem isS_lt (g : Nat → Nat) (s x i : Nat) : isS g s x i < 2 := by
  unfold isS
  split <;> decide
abbrev mX23_fits : GM := (yX23_fits, 3, (some .boolean), [], { frames := 3, cells := 0, slots := 0, locals := 74 }, 255)
theorem uX23_fits : gCr cX23_fits mX23_fits 2 := ⟨q1042, q1043, ⟨by decide +kernel, by decide +kernel, by decide +kernel⟩, rfl⟩
set_option maxHeartbeats 400000 in
theorem ctX23_fits {E : GE} {h : AH} {S s a b x : Nat} {g : Nat → Nat} (z : Nat) (hs : seO E S g s a h) (hw : slW g s) (h1 : gOf g s 0 = 1) (hx : 1 ≤ x ∧ x ≤ 24) (hb : h b = some (S + 3 + x, shC g s x)) : CtR E cX23_fits mX23_fits [.ref z, .ref b, .ref a] (h) (pN fun r h' => r = (isS g s x 0) ∧ h' = h) (noX) := by
  refine g_enterR (own := "SecretVault$State$1") [some (.ref z), some (.ref b), some (.ref a)] (by decide +kernel) rfl rfl (Nat.le_of_ble_eq_true rfl) rfl rfl (fun X => ?_)
  have hs0 := hs
  obtain ⟨c, b0, p, fc, fs, ha, hc, hfc, hb0, hsh, hp⟩ := hs0
  have he1 := hw.2.2.2.1
  have he2 := (hw.2.2.2.2.2.2 x hx.1 hx.2).2.2
  have hcm := cmF_lt g s x
  first | refine g_aload1 dX23_fits_0 ?_ | refine g_aloadQ1 dX23_fits_0 ?_ | refine g_aloadN1 dX23_fits_0 ?_
  refine g_getN (k0 := 2) (by first | assumption | exact g_up_self _ _ _ | (refine g_upf ?_ ?_ <;> assumption) | (refine g_upt ?_ ?_ (by decide) <;> assumption)) in_X6 q707 rfl (by decide) rfl dX23_fits_1 ?_
  first | refine g_aload2 dX23_fits_4 ?_ | refine g_aloadQ2 dX23_fits_4 ?_ | refine g_aloadN2 dX23_fits_4 ?_
  refine g_getN (k0 := 1) (by first | assumption | exact g_up_self _ _ _ | (refine g_upf ?_ ?_ <;> assumption) | (refine g_upt ?_ ?_ (by decide) <;> assumption)) in_X5 q658 rfl (by decide) rfl dX23_fits_5 ?_
  first | refine g_icmpN_ne (tgt := 23) dX23_fits_8 (by decide) (by omega) (by omega) (fun c_8 => ?_) (fun c_8 => ?_) | refine g_icmpU_ne (tgt := 23) dX23_fits_8 (by decide) (by omega) (by omega) (fun c_8 => ?_) (fun c_8 => ?_) | refine g_icmp_ne (tgt := 23) dX23_fits_8 (by decide) (fun c_8 => ?_) (fun c_8 => ?_)
  · refine g_iconst (nI 0) dX23_fits_23 (by decide) ?_
    exact g_zret dX23_fits_24 rfl (nar_zb (by omega)) ⟨_, rfl, by first | exact (isS_y (stF_0 c_8 (by omega))).symm | exact (isS_n (stF_2 c_8 c_16) (by decide)).symm | exact (isS_n (stF_1 c_8) (by decide)).symm, rfl⟩
  · first | refine g_aload2 dX23_fits_11 ?_ | refine g_aloadQ2 dX23_fits_11 ?_ | refine g_aloadN2 dX23_fits_11 ?_
    first | refine g_aload1 dX23_fits_12 ?_ | refine g_aloadQ1 dX23_fits_12 ?_ | refine g_aloadN1 dX23_fits_12 ?_
    refine g_callVR (ctX5_isCommitted hs hw h1 hx hb) kX5_isCommitted q1044 hs.rv (by decide) ⟨Nat.le_of_ble_eq_true rfl, Nat.le_of_ble_eq_true rfl⟩ rfl (Nat.le_of_ble_eq_true rfl) dX23_fits_13 k_x (k_n (fun r_13 h_13 p_13 => ?_))
    obtain ⟨rfl, z_13⟩ := p_13
    rw [z_13]
    first | refine g_ifN_eq (tgt := 23) dX23_fits_16 (by decide) (by omega) (fun c_16 => ?_) (fun c_16 => ?_) | refine g_if_eq (tgt := 23) dX23_fits_16 (by decide) (fun c_16 => ?_) (fun c_16 => ?_)
    · refine g_iconst (nI 0) dX23_fits_23 (by decide) ?_
      exact g_zret dX23_fits_24 rfl (nar_zb (by omega)) ⟨_, rfl, by first | exact (isS_y (stF_0 c_8 (by omega))).symm | exact (isS_n (stF_2 c_8 c_16) (by decide)).symm | exact (isS_n (stF_1 c_8) (by decide)).symm, rfl⟩
    · refine g_iconst (nI 1) dX23_fits_19 (by decide) ?_
      refine g_goto (tgt := 24) dX23_fits_20 (by decide) ?_
      exact g_zret dX23_fits_24 rfl (nar_zb (by omega)) ⟨_, rfl, by first | exact (isS_y (stF_0 c_8 (by omega))).symm | exact (isS_n (stF_2 c_8 c_16) (by decide)).symm | exact (isS_n (stF_1 c_8) (by decide)).symm, rfl⟩
abbrev mX24_fits : GM := (yX24_fits, 3, (some .boolean), [], { frames := 0, cells := 0, slots := 0, locals := 0 }, 255)
theorem uX24_fits : gCr cX24_fits mX24_fits 2 := ⟨q1056, q1057, ⟨by decide +kernel, by decide +kernel, by decide +kernel⟩, rfl⟩
set_option maxHeartbeats 400000 in
theorem ctX24_fits {E : GE} {h : AH} {S s a b x : Nat} {g : Nat → Nat} (z : Nat) (hs : seO E S g s a h) (hw : slW g s) (h1 : gOf g s 0 = 1) (hx : 1 ≤ x ∧ x ≤ 24) (hb : h b = some (S + 3 + x, shC g s x)) : CtR E cX24_fits mX24_fits [.ref z, .ref b, .ref a] (h) (pN fun r h' => r = (isS g s x 1) ∧ h' = h) (noX) := by
  refine g_enterR (own := "SecretVault$State$2") [some (.ref z), some (.ref b), some (.ref a)] (by decide +kernel) rfl rfl (Nat.le_of_ble_eq_true rfl) rfl rfl (fun X => ?_)
  have hs0 := hs
  obtain ⟨c, b0, p, fc, fs, ha, hc, hfc, hb0, hsh, hp⟩ := hs0
  have he1 := hw.2.2.2.1
  have he2 := (hw.2.2.2.2.2.2 x hx.1 hx.2).2.2
  have hcm := cmF_lt g s x
  first | refine g_aload1 dX24_fits_0 ?_ | refine g_aloadQ1 dX24_fits_0 ?_ | refine g_aloadN1 dX24_fits_0 ?_
  refine g_getN (k0 := 2) (by first | assumption | exact g_up_self _ _ _ | (refine g_upf ?_ ?_ <;> assumption) | (refine g_upt ?_ ?_ (by decide) <;> assumption)) in_X6 q708 rfl (by decide) rfl dX24_fits_1 ?_
  first | refine g_aload2 dX24_fits_4 ?_ | refine g_aloadQ2 dX24_fits_4 ?_ | refine g_aloadN2 dX24_fits_4 ?_
  refine g_getN (k0 := 1) (by first | assumption | exact g_up_self _ _ _ | (refine g_upf ?_ ?_ <;> assumption) | (refine g_upt ?_ ?_ (by decide) <;> assumption)) in_X5 q659 rfl (by decide) rfl dX24_fits_5 ?_
  first | refine g_icmpN_eq (tgt := 15) dX24_fits_8 (by decide) (by omega) (by omega) (fun c_8 => ?_) (fun c_8 => ?_) | refine g_icmpU_eq (tgt := 15) dX24_fits_8 (by decide) (by omega) (by omega) (fun c_8 => ?_) (fun c_8 => ?_) | refine g_icmp_eq (tgt := 15) dX24_fits_8 (by decide) (fun c_8 => ?_) (fun c_8 => ?_)
  · refine g_iconst (nI 0) dX24_fits_15 (by decide) ?_
    exact g_zret dX24_fits_16 rfl (nar_zb (by omega)) ⟨_, rfl, by first | exact (isS_y (stF_1 c_8)).symm | (rcases (show cmF g s x = 1 ∨ cmF g s x = 0 by omega) with z | z; exact (isS_n (stF_0 c_8 z) (by decide)).symm; exact (isS_n (stF_2 c_8 z) (by decide)).symm), rfl⟩
  · refine g_iconst (nI 1) dX24_fits_11 (by decide) ?_
    refine g_goto (tgt := 16) dX24_fits_12 (by decide) ?_
    exact g_zret dX24_fits_16 rfl (nar_zb (by omega)) ⟨_, rfl, by first | exact (isS_y (stF_1 c_8)).symm | (rcases (show cmF g s x = 1 ∨ cmF g s x = 0 by omega) with z | z; exact (isS_n (stF_0 c_8 z) (by decide)).symm; exact (isS_n (stF_2 c_8 z) (by decide)).symm), rfl⟩
abbrev mX25_fits : GM := (yX25_fits, 3, (some .boolean), [], { frames := 3, cells := 0, slots := 0, locals := 74 }, 255)
theorem uX25_fits : gCr cX25_fits mX25_fits 2 := ⟨q1059, q1060, ⟨by decide +kernel, by decide +kernel, by decide +kernel⟩, rfl⟩
set_option maxHeartbeats 400000 in
theorem ctX25_fits {E : GE} {h : AH} {S s a b x : Nat} {g : Nat → Nat} (z : Nat) (hs : seO E S g s a h) (hw : slW g s) (h1 : gOf g s 0 = 1) (hx : 1 ≤ x ∧ x ≤ 24) (hb : h b = some (S + 3 + x, shC g s x)) : CtR E cX25_fits mX25_fits [.ref z, .ref b, .ref a] (h) (pN fun r h' => r = (isS g s x 2) ∧ h' = h) (noX) := by
  refine g_enterR (own := "SecretVault$State$3") [some (.ref z), some (.ref b), some (.ref a)] (by decide +kernel) rfl rfl (Nat.le_of_ble_eq_true rfl) rfl rfl (fun X => ?_)
  have hs0 := hs
  obtain ⟨c, b0, p, fc, fs, ha, hc, hfc, hb0, hsh, hp⟩ := hs0
  have he1 := hw.2.2.2.1
  have he2 := (hw.2.2.2.2.2.2 x hx.1 hx.2).2.2
  have hcm := cmF_lt g s x
  first | refine g_aload1 dX25_fits_0 ?_ | refine g_aloadQ1 dX25_fits_0 ?_ | refine g_aloadN1 dX25_fits_0 ?_
  refine g_getN (k0 := 2) (by first | assumption | exact g_up_self _ _ _ | (refine g_upf ?_ ?_ <;> assumption) | (refine g_upt ?_ ?_ (by decide) <;> assumption)) in_X6 q709 rfl (by decide) rfl dX25_fits_1 ?_
  first | refine g_aload2 dX25_fits_4 ?_ | refine g_aloadQ2 dX25_fits_4 ?_ | refine g_aloadN2 dX25_fits_4 ?_
  refine g_getN (k0 := 1) (by first | assumption | exact g_up_self _ _ _ | (refine g_upf ?_ ?_ <;> assumption) | (refine g_upt ?_ ?_ (by decide) <;> assumption)) in_X5 q660 rfl (by decide) rfl dX25_fits_5 ?_
  first | refine g_icmpN_ne (tgt := 23) dX25_fits_8 (by decide) (by omega) (by omega) (fun c_8 => ?_) (fun c_8 => ?_) | refine g_icmpU_ne (tgt := 23) dX25_fits_8 (by decide) (by omega) (by omega) (fun c_8 => ?_) (fun c_8 => ?_) | refine g_icmp_ne (tgt := 23) dX25_fits_8 (by decide) (fun c_8 => ?_) (fun c_8 => ?_)
  · refine g_iconst (nI 0) dX25_fits_23 (by decide) ?_
    exact g_zret dX25_fits_24 rfl (nar_zb (by omega)) ⟨_, rfl, by first | exact (isS_y (stF_2 c_8 (by omega))).symm | exact (isS_n (stF_0 c_8 (by omega)) (by decide)).symm | exact (isS_n (stF_1 c_8) (by decide)).symm, rfl⟩
  · first | refine g_aload2 dX25_fits_11 ?_ | refine g_aloadQ2 dX25_fits_11 ?_ | refine g_aloadN2 dX25_fits_11 ?_
    first | refine g_aload1 dX25_fits_12 ?_ | refine g_aloadQ1 dX25_fits_12 ?_ | refine g_aloadN1 dX25_fits_12 ?_
    refine g_callVR (ctX5_isCommitted hs hw h1 hx hb) kX5_isCommitted q1061 hs.rv (by decide) ⟨Nat.le_of_ble_eq_true rfl, Nat.le_of_ble_eq_true rfl⟩ rfl (Nat.le_of_ble_eq_true rfl) dX25_fits_13 k_x (k_n (fun r_13 h_13 p_13 => ?_))
    obtain ⟨rfl, z_13⟩ := p_13
    rw [z_13]
    first | refine g_ifN_ne (tgt := 23) dX25_fits_16 (by decide) (by omega) (fun c_16 => ?_) (fun c_16 => ?_) | refine g_if_ne (tgt := 23) dX25_fits_16 (by decide) (fun c_16 => ?_) (fun c_16 => ?_)
    · refine g_iconst (nI 0) dX25_fits_23 (by decide) ?_
      exact g_zret dX25_fits_24 rfl (nar_zb (by omega)) ⟨_, rfl, by first | exact (isS_y (stF_2 c_8 (by omega))).symm | exact (isS_n (stF_0 c_8 (by omega)) (by decide)).symm | exact (isS_n (stF_1 c_8) (by decide)).symm, rfl⟩
    · refine g_iconst (nI 1) dX25_fits_19 (by decide) ?_
      refine g_goto (tgt := 24) dX25_fits_20 (by decide) ?_
      exact g_zret dX25_fits_24 rfl (nar_zb (by omega)) ⟨_, rfl, by first | exact (isS_y (stF_2 c_8 (by omega))).symm | exact (isS_n (stF_0 c_8 (by omega)) (by decide)).symm | exact (isS_n (stF_1 c_8) (by decide)).symm, rfl⟩
abbrev mX5_isGood : GM := (yX5_isGood, 2, (some .boolean), [], { frames := 4, cells := 0, slots := 0, locals := 96 }, 255)
theorem kX5_isGood : gCv cX5_isGood mX5_isGood 1 := ⟨q1033, q1034, q96, q1035, ⟨by decide +kernel, by decide +kernel, by decide +kernel⟩, rfl⟩
theorem uX5_isGood : gCu cX5_isGood mX5_isGood 1 := ⟨q1033, q96, q1035, ⟨by decide +kernel, by decide +kernel, by decide +kernel⟩, rfl⟩
set_option maxHeartbeats 400000 in
theorem ctX5_isGood {E : GE} {h : AH} {S s a : Nat} {g : Nat → Nat} (x : Nat) (hs : seO E S g s a h) (hw : slW g s) (h1 : gOf g s 0 = 1) (hx : 1 ≤ x ∧ x ≤ 24) : Ct E cX5_isGood mX5_isGood [.ref a, .int (nI x)] (h) (pN fun r h' => r = (if gSh g s x 0 = 1 ∧ stF g s x = 0 then 1 else 0) ∧ h' = h) (noX) := by
  refine g_enter (own := "SecretVault$Secret") [some (.ref a), some (.int (nI x))] (by decide +kernel) rfl rfl (Nat.le_of_ble_eq_true rfl) rfl rfl (fun X => ?_)
  have hs0 := hs
  obtain ⟨c, b0, p, fc, fs, ha, hc, hfc, hb0, hsh, hp⟩ := hs0
  have hi := isS_lt g s x 0
  first | refine g_aload0 dX5_isGood_0 ?_ | refine g_aloadQ0 dX5_isGood_0 ?_ | refine g_aloadN0 dX5_isGood_0 ?_
  refine g_get (k0 := 4) (by first | assumption | exact g_up_self _ _ _ | (refine g_upf ?_ ?_ <;> assumption) | (refine g_upt ?_ ?_ (by decide) <;> assumption)) in_X5 q669 rfl (by decide) rfl dX5_isGood_1 ?_
  refine g_iload1 dX5_isGood_4 ?_
  refine g_aald (by first | assumption | exact g_up_self _ _ _ | (refine g_upf ?_ ?_ <;> assumption) | (refine g_upt ?_ ?_ (by decide) <;> assumption)) rfl (by omega) (by omega) dX5_isGood_5 ?_
  refine g_ifnull (tgt := 29) dX5_isGood_6 (by decide) (fun c_6 => ?_) (fun a_6 c_6 => ?_)
  · have hn := (hsh x hx.1 hx.2).n c_6
    refine g_iconst (nI 0) dX5_isGood_29 (by decide) ?_
    exact g_zret dX5_isGood_30 rfl (nar_zb (by omega)) ⟨_, rfl, by first | (rw [if_neg (fun z => hn z.1)]) | (rw [if_neg (fun z => by have e := isS_y z.2; omega)]) | (rw [if_pos ⟨hg1, by unfold isS at c_22; split at c_22 <;> first | assumption | omega⟩]), rfl⟩
  · obtain ⟨hg1, hga⟩ := (hsh x hx.1 hx.2).s c_6
    refine V.hE (fun hE => ?_)
    refine g_gets (ref := "SecretVault$State") hE.sz0 q1036 dX5_isGood_9 ?_
    first | refine g_aload0 dX5_isGood_12 ?_ | refine g_aloadQ0 dX5_isGood_12 ?_ | refine g_aloadN0 dX5_isGood_12 ?_
    refine g_get (k0 := 4) (by first | assumption | exact g_up_self _ _ _ | (refine g_upf ?_ ?_ <;> assumption) | (refine g_upt ?_ ?_ (by decide) <;> assumption)) in_X5 q669 rfl (by decide) rfl dX5_isGood_13 ?_
    refine g_iload1 dX5_isGood_16 ?_
    refine g_aald hb0 rfl (by omega) (by omega) dX5_isGood_17 ?_
    rw [c_6]
    first | refine g_aload0 dX5_isGood_18 ?_ | refine g_aloadQ0 dX5_isGood_18 ?_ | refine g_aloadN0 dX5_isGood_18 ?_
    refine g_callAR (ctX23_fits _ hs hw h1 hx hga) uX23_fits q1038 q1040 q1041 q1039 ⟨by decide, by decide, rfl⟩ (Or.inr hE.s0.2) (by decide) ⟨Nat.le_of_ble_eq_true rfl, Nat.le_of_ble_eq_true rfl⟩ rfl (Nat.le_of_ble_eq_true rfl) dX5_isGood_19 k_x (k_n (fun r_19 h_19 p_19 => ?_))
    obtain ⟨rfl, z_19⟩ := p_19
    rw [z_19]
    first | refine g_ifN_eq (tgt := 29) dX5_isGood_22 (by decide) (by omega) (fun c_22 => ?_) (fun c_22 => ?_) | refine g_if_eq (tgt := 29) dX5_isGood_22 (by decide) (fun c_22 => ?_) (fun c_22 => ?_)
    · refine g_iconst (nI 0) dX5_isGood_29 (by decide) ?_
      exact g_zret dX5_isGood_30 rfl (nar_zb (by omega)) ⟨_, rfl, by first | (rw [if_neg (fun z => hn z.1)]) | (rw [if_neg (fun z => by have e := isS_y z.2; omega)]) | (rw [if_pos ⟨hg1, by unfold isS at c_22; split at c_22 <;> first | assumption | omega⟩]), rfl⟩
    · refine g_iconst (nI 1) dX5_isGood_25 (by decide) ?_
      refine g_goto (tgt := 30) dX5_isGood_26 (by decide) ?_
      exact g_zret dX5_isGood_30 rfl (nar_zb (by omega)) ⟨_, rfl, by first | (rw [if_neg (fun z => hn z.1)]) | (rw [if_neg (fun z => by have e := isS_y z.2; omega)]) | (rw [if_pos ⟨hg1, by unfold isS at c_22; split at c_22 <;> first | assumption | omega⟩]), rfl⟩
theorem cnF_1 {g : Nat → Nat} {s st y : Nat} (h1 : gSh g s (y + 1) 0 = 1) (h2 : st = 4294967295 ∨ isS g s (y + 1) st = 1) : cnF g s st y + 1 = cnF g s st (y + 1) := by
  show _ = cnF g s st y + _
  rw [if_pos ⟨h1, h2.imp id (fun z => by unfold isS at z; split at z <;> first | assumption | omega)⟩]
theorem cnF_0 {g : Nat → Nat} {s st y : Nat} (h2 : ¬ gSh g s (y + 1) 0 = 1 ∨ (¬ st = 4294967295 ∧ isS g s (y + 1) st = 0)) : cnF g s st y + 0 = cnF g s st (y + 1) := by
  show _ = cnF g s st y + _
  rw [if_neg (fun z => ?_)]
  rcases h2 with h2 | ⟨h2, h3⟩
  · exact h2 z.1
  · rcases z.2 with z | z
    · exact h2 z
    · have := isS_y z
      omega
abbrev mX5_count : GM := (yX5_count, 3, (some .int), [], { frames := 0, cells := 0, slots := 0, locals := 0 }, 255)
theorem kX5_count : gCv cX5_count mX5_count 0 := ⟨q1124, q1125, q96, q1126, ⟨by decide +kernel, by decide +kernel, by decide +kernel⟩, rfl⟩
theorem uX5_count : gCu cX5_count mX5_count 0 := ⟨q1124, q96, q1126, ⟨by decide +kernel, by decide +kernel, by decide +kernel⟩, rfl⟩
set_option maxHeartbeats 400000 in
theorem ctX5_count {E : GE} {h : AH} {S s a : Nat} {g : Nat → Nat} (hs : seO E S g s a h) (hw : slW g s) (h1 : gOf g s 0 = 1) : Ct E cX5_count mX5_count [.ref a] (h) (pN fun r h' => r = (cnF g s 4294967295 24) ∧ h' = h) (noX) := by
  refine g_enter (own := "SecretVault$Secret") [some (.ref a), none, none] (by decide +kernel) rfl rfl (Nat.le_of_ble_eq_true rfl) rfl rfl (fun X => ?_)
  have hs0 := hs
  obtain ⟨c, b0, p, fc, fs, ha, hc, hfc, hb0, hsh, hp⟩ := hs0
  have K : ∀ n y, n + y = 24 → V E cX5_count "SecretVault$Secret" mX5_count (pN fun r h' => r = (cnF g s 4294967295 24) ∧ h' = h) noX X (h) 0 0 4 [some (.ref a), some (.int (nI (cnF g s 4294967295 y))), some (.int (nI (y + 1)))] [] := by
    intro n
    induction n with
    | zero =>
      intro y hn0
      obtain rfl : y = 24 := by omega
      refine g_iload2 dX5_count_4 ?_
      refine g_bipush (nI 24) dX5_count_5 (by decide) ?_
      first | refine g_icmpN_gt (tgt := 33) dX5_count_7 (by decide) (by omega) (by omega) (fun c_7 => ?_) (fun c_7 => ?_) | refine g_icmp_gt (tgt := 33) dX5_count_7 (by decide) (fun c_7 => ?_) (fun c_7 => ?_)
      · refine g_iload1 dX5_count_33 ?_
        exact g_iret dX5_count_34 rfl ⟨_, rfl, rfl, rfl⟩
      · omega
    | succ n ih =>
      intro y hn0
      refine g_iload2 dX5_count_4 ?_
      refine g_bipush (nI 24) dX5_count_5 (by decide) ?_
      first | refine g_icmpN_gt (tgt := 33) dX5_count_7 (by decide) (by omega) (by omega) (fun c_7 => ?_) (fun c_7 => ?_) | refine g_icmp_gt (tgt := 33) dX5_count_7 (by decide) (fun c_7 => ?_) (fun c_7 => ?_)
      · omega
      · refine g_iload1 dX5_count_10 ?_
        first | refine g_aload0 dX5_count_11 ?_ | refine g_aloadQ0 dX5_count_11 ?_ | refine g_aloadN0 dX5_count_11 ?_
        refine g_get (k0 := 4) (by first | assumption | exact g_up_self _ _ _ | (refine g_upf ?_ ?_ <;> assumption) | (refine g_upt ?_ ?_ (by decide) <;> assumption)) in_X5 q669 rfl (by decide) rfl dX5_count_12 ?_
        refine g_iload2 dX5_count_15 ?_
        refine g_aald (by first | assumption | exact g_up_self _ _ _ | (refine g_upf ?_ ?_ <;> assumption) | (refine g_upt ?_ ?_ (by decide) <;> assumption)) rfl (by omega) (by omega) dX5_count_16 ?_
        refine g_ifnonnull (tgt := 24) dX5_count_17 (by decide) (fun a_17 c_17 => ?_) (fun c_17 => ?_)
        · have hn := ((hsh (y + 1) (by omega) (by omega)).s c_17).1
          refine g_iconst (nI 1) dX5_count_24 (by decide) ?_
          first | refine g_iaddN dX5_count_25 ?_ | refine g_iadd dX5_count_25 ?_
          refine g_istore1 dX5_count_26 (by decide) ?_
          first | refine g_iincN2 1 dX5_count_27 (by decide) (by decide) ?_ | refine g_iinc2 _ dX5_count_27 rfl (by decide) ?_
          refine g_goto (tgt := 4) dX5_count_30 (by decide) ?_
          first | (rw [cnF_1 hn (Or.inl rfl)]; exact ih (y + 1) (by omega)) | (rw [cnF_0 (Or.inl hn)]; exact ih (y + 1) (by omega))
        · have hn := (hsh (y + 1) (by omega) (by omega)).n c_17
          refine g_iconst (nI 0) dX5_count_20 (by decide) ?_
          refine g_goto (tgt := 25) dX5_count_21 (by decide) ?_
          first | refine g_iaddN dX5_count_25 ?_ | refine g_iadd dX5_count_25 ?_
          refine g_istore1 dX5_count_26 (by decide) ?_
          first | refine g_iincN2 1 dX5_count_27 (by decide) (by decide) ?_ | refine g_iinc2 _ dX5_count_27 rfl (by decide) ?_
          refine g_goto (tgt := 4) dX5_count_30 (by decide) ?_
          first | (rw [cnF_1 hn (Or.inl rfl)]; exact ih (y + 1) (by omega)) | (rw [cnF_0 (Or.inl hn)]; exact ih (y + 1) (by omega))
  refine g_iconst (nI 0) dX5_count_0 (by decide) ?_
  refine g_istore1 dX5_count_1 (by decide) ?_
  refine g_iconst (nI 1) dX5_count_2 (by decide) ?_
  refine g_istore2 dX5_count_3 (by decide) ?_
  exact K 24 0 (by omega)
abbrev mX5_countOf : GM := (yX5_countOf, 4, (some .int), [], { frames := 4, cells := 0, slots := 0, locals := 96 }, 255)
theorem kX5_countOf : gCv cX5_countOf mX5_countOf 1 := ⟨q1514, q1515, q96, q1516, ⟨by decide +kernel, by decide +kernel, by decide +kernel⟩, rfl⟩
theorem uX5_countOf : gCu cX5_countOf mX5_countOf 1 := ⟨q1514, q96, q1516, ⟨by decide +kernel, by decide +kernel, by decide +kernel⟩, rfl⟩
set_option maxHeartbeats 400000 in
theorem ctX5_countOf {E : GE} {h : AH} {S s a : Nat} {g : Nat → Nat} (i : Nat) (hi : i < 3) (hs : seO E S g s a h) (hw : slW g s) (h1 : gOf g s 0 = 1) : Ct E cX5_countOf mX5_countOf [.ref a, .ref (sA E i)] (h) (pN fun r h' => r = (cnF g s i 24) ∧ h' = h) (noX) := by
  refine g_enter (own := "SecretVault$Secret") [some (.ref a), some (.ref (sA E i)), none, none] (by decide +kernel) rfl rfl (Nat.le_of_ble_eq_true rfl) rfl rfl (fun X => ?_)
  have hs0 := hs
  obtain ⟨c, b0, p, fc, fs, ha, hc, hfc, hb0, hsh, hp⟩ := hs0
  refine V.hE (fun hE => ?_)
  have K0 : ∀ n y, n + y = 24 → V E cX5_countOf "SecretVault$Secret" mX5_countOf (pN fun r h' => r = (cnF g s i 24) ∧ h' = h) noX X (h) 0 0 4 [some (.ref a), some (.ref (sA E i)), some (.int (nI (cnF g s i y))), some (.int (nI (y + 1)))] [] := by
    intro n
    induction n with
    | zero =>
      intro y hn0
      obtain rfl : y = 24 := by omega
      refine g_iload3 dX5_countOf_4 ?_
      refine g_bipush (nI 24) dX5_countOf_5 (by decide) ?_
      first | refine g_icmpN_gt (tgt := 47) dX5_countOf_7 (by decide) (by omega) (by omega) (fun c_7 => ?_) (fun c_7 => ?_) | refine g_icmp_gt (tgt := 47) dX5_countOf_7 (by decide) (fun c_7 => ?_) (fun c_7 => ?_)
      · refine g_iload2 dX5_countOf_47 ?_
        exact g_iret dX5_countOf_48 rfl ⟨_, rfl, rfl, rfl⟩
      · omega
    | succ n ih =>
      intro y hn0
      have hls := isS_lt g s (y + 1) i
      refine g_iload3 dX5_countOf_4 ?_
      refine g_bipush (nI 24) dX5_countOf_5 (by decide) ?_
      first | refine g_icmpN_gt (tgt := 47) dX5_countOf_7 (by decide) (by omega) (by omega) (fun c_7 => ?_) (fun c_7 => ?_) | refine g_icmp_gt (tgt := 47) dX5_countOf_7 (by decide) (fun c_7 => ?_) (fun c_7 => ?_)
      · omega
      · refine g_iload2 dX5_countOf_10 ?_
        first | refine g_aload0 dX5_countOf_11 ?_ | refine g_aloadQ0 dX5_countOf_11 ?_ | refine g_aloadN0 dX5_countOf_11 ?_
        refine g_get (k0 := 4) (by first | assumption | exact g_up_self _ _ _ | (refine g_upf ?_ ?_ <;> assumption) | (refine g_upt ?_ ?_ (by decide) <;> assumption)) in_X5 q669 rfl (by decide) rfl dX5_countOf_12 ?_
        refine g_iload3 dX5_countOf_15 ?_
        refine g_aald (by first | assumption | exact g_up_self _ _ _ | (refine g_upf ?_ ?_ <;> assumption) | (refine g_upt ?_ ?_ (by decide) <;> assumption)) rfl (by omega) (by omega) dX5_countOf_16 ?_
        refine g_ifnull (tgt := 38) dX5_countOf_17 (by decide) (fun c_17 => ?_) (fun a_17 c_17 => ?_)
        · have hn := (hsh (y + 1) (by omega) (by omega)).n c_17
          refine g_iconst (nI 0) dX5_countOf_38 (by decide) ?_
          first | refine g_iaddN dX5_countOf_39 ?_ | refine g_iadd dX5_countOf_39 ?_
          refine g_istore2 dX5_countOf_40 (by decide) ?_
          first | refine g_iincN3 1 dX5_countOf_41 (by decide) (by decide) ?_ | refine g_iinc3 _ dX5_countOf_41 rfl (by decide) ?_
          refine g_goto (tgt := 4) dX5_countOf_44 (by decide) ?_
          first | (rw [cnF_0 (Or.inl hn)]; exact ih (y + 1) (by omega)) | (rw [cnF_0 (Or.inr ⟨by omega, c_31⟩)]; exact ih (y + 1) (by omega)) | (rw [cnF_1 hn (Or.inr (by omega))]; exact ih (y + 1) (by omega))
        · obtain ⟨hn, hga⟩ := (hsh (y + 1) (by omega) (by omega)).s c_17
          first | refine g_aload1 dX5_countOf_20 ?_ | refine g_aloadQ1 dX5_countOf_20 ?_ | refine g_aloadN1 dX5_countOf_20 ?_
          first | refine g_aload0 dX5_countOf_21 ?_ | refine g_aloadQ0 dX5_countOf_21 ?_ | refine g_aloadN0 dX5_countOf_21 ?_
          refine g_get (k0 := 4) (by first | assumption | exact g_up_self _ _ _ | (refine g_upf ?_ ?_ <;> assumption) | (refine g_upt ?_ ?_ (by decide) <;> assumption)) in_X5 q669 rfl (by decide) rfl dX5_countOf_22 ?_
          refine g_iload3 dX5_countOf_25 ?_
          refine g_aald hb0 rfl (by omega) (by omega) dX5_countOf_26 ?_
          rw [c_17]
          first | refine g_aload0 dX5_countOf_27 ?_ | refine g_aloadQ0 dX5_countOf_27 ?_ | refine g_aloadN0 dX5_countOf_27 ?_
          have hxx : 1 ≤ y + 1 ∧ y + 1 ≤ 24 := by omega
          have K : V E cX5_countOf "SecretVault$Secret" mX5_countOf (pN fun r h' => r = (cnF g s i 24) ∧ h' = h) noX X (h) 0 0 31 [some (.ref a), some (.ref (sA E i)), some (.int (nI (cnF g s i y))), some (.int (nI (y + 1)))] [.int (nI (isS g s (y + 1) i)), .int (nI (cnF g s i y))] := by
            first | refine g_ifN_eq (tgt := 38) dX5_countOf_31 (by decide) (by omega) (fun c_31 => ?_) (fun c_31 => ?_) | refine g_if_eq (tgt := 38) dX5_countOf_31 (by decide) (fun c_31 => ?_) (fun c_31 => ?_)
            · refine g_iconst (nI 0) dX5_countOf_38 (by decide) ?_
              first | refine g_iaddN dX5_countOf_39 ?_ | refine g_iadd dX5_countOf_39 ?_
              refine g_istore2 dX5_countOf_40 (by decide) ?_
              first | refine g_iincN3 1 dX5_countOf_41 (by decide) (by decide) ?_ | refine g_iinc3 _ dX5_countOf_41 rfl (by decide) ?_
              refine g_goto (tgt := 4) dX5_countOf_44 (by decide) ?_
              first | (rw [cnF_0 (Or.inl hn)]; exact ih (y + 1) (by omega)) | (rw [cnF_0 (Or.inr ⟨by omega, c_31⟩)]; exact ih (y + 1) (by omega)) | (rw [cnF_1 hn (Or.inr (by omega))]; exact ih (y + 1) (by omega))
            · refine g_iconst (nI 1) dX5_countOf_34 (by decide) ?_
              refine g_goto (tgt := 39) dX5_countOf_35 (by decide) ?_
              first | refine g_iaddN dX5_countOf_39 ?_ | refine g_iadd dX5_countOf_39 ?_
              refine g_istore2 dX5_countOf_40 (by decide) ?_
              first | refine g_iincN3 1 dX5_countOf_41 (by decide) (by decide) ?_ | refine g_iinc3 _ dX5_countOf_41 rfl (by decide) ?_
              refine g_goto (tgt := 4) dX5_countOf_44 (by decide) ?_
              first | (rw [cnF_0 (Or.inl hn)]; exact ih (y + 1) (by omega)) | (rw [cnF_0 (Or.inr ⟨by omega, c_31⟩)]; exact ih (y + 1) (by omega)) | (rw [cnF_1 hn (Or.inr (by omega))]; exact ih (y + 1) (by omega))
          rcases (show i = 0 ∨ i = 1 ∨ i = 2 by omega) with rfl | rfl | rfl
          · refine g_callAR (ctX23_fits _ hs hw h1 hxx hga) uX23_fits q1038 q1040 q1041 q1039 ⟨by decide, by decide, rfl⟩ (Or.inr hE.s0.2) (by decide) ⟨Nat.le_of_ble_eq_true rfl, Nat.le_of_ble_eq_true rfl⟩ rfl (Nat.le_of_ble_eq_true rfl) dX5_countOf_28 k_x (k_n (fun r_28 h_28 p_28 => ?_))
            obtain ⟨rfl, z_28⟩ := p_28
            rw [z_28]
            exact K
          · refine g_callAR (ctX24_fits _ hs hw h1 hxx hga) uX24_fits q1038 q1040 q1055 q1039 ⟨by decide, by decide, rfl⟩ (Or.inr hE.s1.2) (by decide) ⟨Nat.le_of_ble_eq_true rfl, Nat.le_of_ble_eq_true rfl⟩ rfl (Nat.le_of_ble_eq_true rfl) dX5_countOf_28 k_x (k_n (fun r_28 h_28 p_28 => ?_))
            obtain ⟨rfl, z_28⟩ := p_28
            rw [z_28]
            exact K
          · refine g_callAR (ctX25_fits _ hs hw h1 hxx hga) uX25_fits q1038 q1040 q1058 q1039 ⟨by decide, by decide, rfl⟩ (Or.inr hE.s2.2) (by decide) ⟨Nat.le_of_ble_eq_true rfl, Nat.le_of_ble_eq_true rfl⟩ rfl (Nat.le_of_ble_eq_true rfl) dX5_countOf_28 k_x (k_n (fun r_28 h_28 p_28 => ?_))
            obtain ⟨rfl, z_28⟩ := p_28
            rw [z_28]
            exact K
  refine g_iconst (nI 0) dX5_countOf_0 (by decide) ?_
  refine g_istore2 dX5_countOf_1 (by decide) ?_
  refine g_iconst (nI 1) dX5_countOf_2 (by decide) ?_
  refine g_istore3 dX5_countOf_3 (by decide) ?_
  exact K0 24 0 (by omega)
/-- good shares of a member -/
def gdF (g : Nat → Nat) (s m : Nat) : Nat → Nat
  | 0 => 0
  | k + 1 => gdF g s m k + (if gSh g s (3 * m + 1 + k) 0 = 1 ∧ stF g s (3 * m + 1 + k) = 0 then 1 else 0)
theorem gdF_le (g : Nat → Nat) (s m : Nat) : ∀ k, gdF g s m k ≤ k
  | 0 => Nat.le_refl _
  | k + 1 => by
    have := gdF_le g s m k
    show gdF g s m k + _ ≤ k + 1
    split <;> omega
abbrev mX5_goodOf : GM := (yX5_goodOf, 4, (some .int), [], { frames := 5, cells := 0, slots := 0, locals := 117 }, 255)
theorem kX5_goodOf : gCv cX5_goodOf mX5_goodOf 1 := ⟨q1026, q1027, q96, q1028, ⟨by decide +kernel, by decide +kernel, by decide +kernel⟩, rfl⟩
theorem uX5_goodOf : gCu cX5_goodOf mX5_goodOf 1 := ⟨q1026, q96, q1028, ⟨by decide +kernel, by decide +kernel, by decide +kernel⟩, rfl⟩
set_option maxHeartbeats 400000 in
theorem ctX5_goodOf {E : GE} {h : AH} {S s a : Nat} {g : Nat → Nat} (m : Nat) (hs : seO E S g s a h) (hw : slW g s) (h1 : gOf g s 0 = 1) (hm : m ≤ 7) : Ct E cX5_goodOf mX5_goodOf [.ref a, .int (nI m)] (h) (pN fun r h' => r = (gdF g s m 3) ∧ h' = h) (noX) := by
  refine g_enter (own := "SecretVault$Secret") [some (.ref a), some (.int (nI m)), none, none] (by decide +kernel) rfl rfl (Nat.le_of_ble_eq_true rfl) rfl rfl (fun X => ?_)
  have K0 : ∀ n k, n + k = 3 → V E cX5_goodOf "SecretVault$Secret" mX5_goodOf (pN fun r h' => r = (gdF g s m 3) ∧ h' = h) noX X (h) 0 0 7 [some (.ref a), some (.int (nI m)), some (.int (nI (gdF g s m k))), some (.int (nI (3 * m + 1 + k)))] [] := by
    intro n
    induction n with
    | zero =>
      intro k hn0
      obtain rfl : k = 3 := by omega
      refine g_iload3 dX5_goodOf_7 ?_
      refine g_iload1 dX5_goodOf_8 ?_
      refine g_iconst (nI 1) dX5_goodOf_9 (by decide) ?_
      first | refine g_iaddN dX5_goodOf_10 ?_ | refine g_iadd dX5_goodOf_10 ?_
      refine g_callSN (ctX1_firstPlace _) kX1_firstPlace q1029 (by decide) ⟨Nat.le_of_ble_eq_true rfl, Nat.le_of_ble_eq_true rfl⟩ rfl (Nat.le_of_ble_eq_true rfl) dX5_goodOf_11 k_x (k_n (fun r_11 h_11 p_11 => ?_))
      obtain ⟨rfl, rfl⟩ := p_11
      first | refine g_icmpN_ge (tgt := 39) dX5_goodOf_14 (by decide) (by omega) (by omega) (fun c_14 => ?_) (fun c_14 => ?_) | refine g_icmp_ge (tgt := 39) dX5_goodOf_14 (by decide) (fun c_14 => ?_) (fun c_14 => ?_)
      · refine g_iload2 dX5_goodOf_39 ?_
        exact g_iret dX5_goodOf_40 rfl ⟨_, rfl, rfl, rfl⟩
      · omega
    | succ n ih =>
      intro k hn0
      refine g_iload3 dX5_goodOf_7 ?_
      refine g_iload1 dX5_goodOf_8 ?_
      refine g_iconst (nI 1) dX5_goodOf_9 (by decide) ?_
      first | refine g_iaddN dX5_goodOf_10 ?_ | refine g_iadd dX5_goodOf_10 ?_
      refine g_callSN (ctX1_firstPlace _) kX1_firstPlace q1029 (by decide) ⟨Nat.le_of_ble_eq_true rfl, Nat.le_of_ble_eq_true rfl⟩ rfl (Nat.le_of_ble_eq_true rfl) dX5_goodOf_11 k_x (k_n (fun r_11 h_11 p_11 => ?_))
      obtain ⟨rfl, rfl⟩ := p_11
      first | refine g_icmpN_ge (tgt := 39) dX5_goodOf_14 (by decide) (by (first | omega | (split <;> omega))) (by (first | omega | (split <;> omega))) (fun c_14 => ?_) (fun c_14 => ?_) | refine g_icmp_ge (tgt := 39) dX5_goodOf_14 (by decide) (fun c_14 => ?_) (fun c_14 => ?_)
      · omega
      · refine g_iload2 dX5_goodOf_17 ?_
        first | refine g_aload0 dX5_goodOf_18 ?_ | refine g_aloadQ0 dX5_goodOf_18 ?_ | refine g_aloadN0 dX5_goodOf_18 ?_
        refine g_iload3 dX5_goodOf_19 ?_
        refine g_callVR (ctX5_isGood _ hs hw h1 (by omega)) kX5_isGood q1032 hs.rv (by decide) ⟨Nat.le_of_ble_eq_true rfl, Nat.le_of_ble_eq_true rfl⟩ rfl (Nat.le_of_ble_eq_true rfl) dX5_goodOf_20 k_x (k_n (fun r_20 h_20 p_20 => ?_))
        obtain ⟨rfl, z_20⟩ := p_20
        rw [z_20]
        first | refine g_ifN_eq (tgt := 30) dX5_goodOf_23 (by decide) (by (first | omega | (split <;> omega))) (fun c_23 => ?_) (fun c_23 => ?_) | refine g_if_eq (tgt := 30) dX5_goodOf_23 (by decide) (fun c_23 => ?_) (fun c_23 => ?_)
        · refine g_iconst (nI 0) dX5_goodOf_30 (by decide) ?_
          first | refine g_iaddN dX5_goodOf_31 ?_ | refine g_iadd dX5_goodOf_31 ?_
          refine g_istore2 dX5_goodOf_32 (by decide) ?_
          first | refine g_iincN3 1 dX5_goodOf_33 (by decide) (by decide) ?_ | refine g_iinc3 _ dX5_goodOf_33 rfl (by decide) ?_
          refine g_goto (tgt := 7) dX5_goodOf_36 (by decide) ?_
          first | (have e : gdF g s m k + 0 = gdF g s m (k + 1) := (by show _ = gdF g s m k + _; rw [if_neg (fun z => by rw [if_pos z] at c_23; omega)]); rw [e]; exact ih (k + 1) (by omega)) | (have e : gdF g s m k + 1 = gdF g s m (k + 1) := (by show _ = gdF g s m k + _; split at c_23 <;> first | omega | (rename_i z; rw [if_pos z])); rw [e]; exact ih (k + 1) (by omega))
        · refine g_iconst (nI 1) dX5_goodOf_26 (by decide) ?_
          refine g_goto (tgt := 31) dX5_goodOf_27 (by decide) ?_
          first | refine g_iaddN dX5_goodOf_31 ?_ | refine g_iadd dX5_goodOf_31 ?_
          refine g_istore2 dX5_goodOf_32 (by decide) ?_
          first | refine g_iincN3 1 dX5_goodOf_33 (by decide) (by decide) ?_ | refine g_iinc3 _ dX5_goodOf_33 rfl (by decide) ?_
          refine g_goto (tgt := 7) dX5_goodOf_36 (by decide) ?_
          first | (have e : gdF g s m k + 0 = gdF g s m (k + 1) := (by show _ = gdF g s m k + _; rw [if_neg (fun z => by rw [if_pos z] at c_23; omega)]); rw [e]; exact ih (k + 1) (by omega)) | (have e : gdF g s m k + 1 = gdF g s m (k + 1) := (by show _ = gdF g s m k + _; split at c_23 <;> first | omega | (rename_i z; rw [if_pos z])); rw [e]; exact ih (k + 1) (by omega))
  refine g_iconst (nI 0) dX5_goodOf_0 (by decide) ?_
  refine g_istore2 dX5_goodOf_1 (by decide) ?_
  refine g_iload1 dX5_goodOf_2 ?_
  refine g_callSN (ctX1_firstPlace _) kX1_firstPlace q1029 (by decide) ⟨Nat.le_of_ble_eq_true rfl, Nat.le_of_ble_eq_true rfl⟩ rfl (Nat.le_of_ble_eq_true rfl) dX5_goodOf_3 k_x (k_n (fun r_3 h_3 p_3 => ?_))
  obtain ⟨rfl, rfl⟩ := p_3
  refine g_istore3 dX5_goodOf_6 (by decide) ?_
  exact K0 3 0 (by omega)
