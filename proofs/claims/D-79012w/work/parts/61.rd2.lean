/-! THE READER: a whole share; objects of policies are made -/
set_option maxRecDepth 100000
theorem rnS_le {t : Nat → Nat} {n f : Nat} : ∀ {u k v : Nat}, (rnS t n f u k v).1 ≤ k + u := by
  intro u
  induction u with
  | zero => intro k v; exact Nat.le_refl _
  | succ u ih =>
    intro k v
    rw [rnS]
    split
    · exact Nat.le_trans ih (by omega)
    · show k ≤ _
      omega
theorem rnK_le (t : Nat → Nat) (n f : Nat) : rnK t n f ≤ 4 := rnS_le (u := 4) (k := 0)
theorem etc_hr {t : Nat → Nat} {n a c : Nat} (h0 : 0 < c) : etc t n a c ↔ hrF t n a = c := by
  unfold etc hrF
  split <;> omega
theorem ctX6_initR {E : GE} {h : AH} {q t : Nat} (x v e : Nat) (ha : h q = some (t, gO 4 [.int 0, .int 0, .int 0])) : Ct E cX6_init mX6_init [.ref q, .int (nI x), .int (nI v), .int (nI e)] (h) (pV fun h' => h' = g_up h q (t, gO 4 [.int (nI x), .int (nI v), .int (nI e)])) (noX) := ctX6_init x v e ha
abbrev mX16_wholeShare : GM := (yX16_wholeShare, 5, (some (.object "SecretVault$Share")), [], { frames := 10, cells := 30, slots := 200, locals := 208 }, 255)
theorem kX16_wholeShare : gCv cX16_wholeShare mX16_wholeShare 0 := ⟨q1631, q1632, q112, q1633, ⟨by decide +kernel, by decide +kernel, by decide +kernel⟩, rfl⟩
theorem uX16_wholeShare : gCu cX16_wholeShare mX16_wholeShare 0 := ⟨q1631, q112, q1633, ⟨by decide +kernel, by decide +kernel, by decide +kernel⟩, rfl⟩
set_option maxHeartbeats 400000 in
theorem ctX16_wholeShare {E : GE} {h : AH} {rd tx n : Nat} {t : Nat → Nat} (T : Nat) (hr : h rd = some (1100, gO 14 [.ref tx, .int (nI 0)])) (hd : RD E h tx t n) : Ct E cX16_wholeShare mX16_wholeShare [.ref rd] (h) (pR fun r h' => (psR t n).1 = 1 ∧ (1 ≤ psP t n ∧ psP t n ≤ 24) ∧ psV t n ≤ 1018 ∧ (1 ≤ psE t n ∧ psE t n ≤ 9999) ∧ h r = none ∧ h' r = some (T, gO 4 [.int (nI (psP t n)), .int (nI (psV t n)), .int (nI (psE t n))]) ∧ Fa rd h h') (fun C q h' => C = "SecretVault$TextError" ∧ ¬ (psR t n).1 = 1 ∧ TEf h h' rd q (psR t n).2) := by
  refine g_enter (own := "SecretVault$Reader") [some (.ref rd), none, none, none, none] (by decide +kernel) rfl rfl (Nat.le_of_ble_eq_true rfl) rfl rfl (fun X => ?_)
  have l1 : ps1 t n ≤ 4 := rnK_le _ _ _
  have l2 : ps2 t n ≤ 9 := by have := rnK_le t n (ps1 t n + 1); unfold ps2; omega
  have l3 : ps3 t n ≤ 14 := by have := rnK_le t n (ps2 t n + 1); unfold ps3; omega
  first | refine g_aload0 dX16_wholeShare_0 ?_ | refine g_aloadQ0 dX16_wholeShare_0 ?_ | refine g_aloadN0 dX16_wholeShare_0 ?_
  refine g_iconst (nI 1) dX16_wholeShare_1 (by decide) ?_
  refine g_bipush (nI 24) dX16_wholeShare_2 (by decide) ?_
  refine g_callVR (ctX16_number 1 24 hr hd (by omega) (by decide)) kX16_number q1634 (gRv.g hr rfl rfl) (by decide) ⟨Nat.le_of_ble_eq_true rfl, Nat.le_of_ble_eq_true rfl⟩ rfl (Nat.le_of_ble_eq_true rfl) dX16_wholeShare_4 (fun C_ q_ h2_ px => by obtain ⟨rfl, m_4, e_4⟩ := px; have k_ : ¬ rnOk t n 0 1 24 := m_4; exact gx_out0 rfl ⟨rfl, by rw [(show psR t n = (0, 0) by rw [psR_eq, if_pos k_])]; exact Nat.zero_ne_one, by rw [(show psR t n = (0, 0) by rw [psR_eq, if_pos k_])]; exact e_4⟩ (Nat.le_of_ble_eq_true rfl) (Nat.le_of_ble_eq_true rfl)) (k_n (fun r_4 h_4 p_4 => ?_))
  obtain ⟨rfl, n0, z_4⟩ := p_4
  rw [z_4, Nat.zero_add, show rnK t n 0 = ps1 t n from rfl, show rnV t n 0 = psP t n from rfl]
  refine g_istore1 dX16_wholeShare_7 (by decide) ?_
  first | refine g_aload0 dX16_wholeShare_8 ?_ | refine g_aloadQ0 dX16_wholeShare_8 ?_ | refine g_aloadN0 dX16_wholeShare_8 ?_
  refine g_bipush (nI 58) dX16_wholeShare_9 (by decide) ?_
  refine g_callVR (ctX16_take 58 (g_up_self _ _ _) (hd.fr (Fr.put (P := fun u => u = 1100) hr rfl) (by decide) (by decide)) (by omega) ⟨by decide, by decide⟩) kX16_take q1686 (gRv.g (g_up_self _ _ _) rfl rfl) (by decide) ⟨Nat.le_of_ble_eq_true rfl, Nat.le_of_ble_eq_true rfl⟩ rfl (Nat.le_of_ble_eq_true rfl) dX16_wholeShare_11 (fun C_ q_ h2_ px => by obtain ⟨rfl, m_11, e_11⟩ := px; have k_ : ¬ etc t n (ps1 t n) 58 := fun z => m_11 ((etc_hr (by decide)).mp z); exact gx_out0 rfl ⟨rfl, by rw [(show psR t n = (0, ps1 t n) by rw [psR_eq, if_neg (fun z => z n0), if_pos k_])]; exact Nat.zero_ne_one, by rw [(show psR t n = (0, ps1 t n) by rw [psR_eq, if_neg (fun z => z n0), if_pos k_])]; exact TEf.tr (Fa.put Fa.rf) (g_up_self _ _ _) e_11⟩ (Nat.le_of_ble_eq_true rfl) (Nat.le_of_ble_eq_true rfl)) (k_v (fun h_11 p_11 => ?_))
  obtain ⟨m_11, z_11⟩ := p_11
  rw [z_11, g_upup]
  have n1 := (etc_hr (by decide)).mpr m_11
  first | refine g_aload0 dX16_wholeShare_14 ?_ | refine g_aloadQ0 dX16_wholeShare_14 ?_ | refine g_aloadN0 dX16_wholeShare_14 ?_
  refine g_iconst (nI 0) dX16_wholeShare_15 (by decide) ?_
  refine g_sipush (nI 1018) dX16_wholeShare_16 (by decide) ?_
  refine g_callVR (ctX16_number 0 1018 (g_up_self _ _ _) (hd.fr (Fr.put (P := fun u => u = 1100) hr rfl) (by decide) (by decide)) (by omega) (by decide)) kX16_number q1634 (gRv.g (g_up_self _ _ _) rfl rfl) (by decide) ⟨Nat.le_of_ble_eq_true rfl, Nat.le_of_ble_eq_true rfl⟩ rfl (Nat.le_of_ble_eq_true rfl) dX16_wholeShare_19 (fun C_ q_ h2_ px => by obtain ⟨rfl, m_19, e_19⟩ := px; have k_ : ¬ rnOk t n (ps1 t n + 1) 0 1018 := m_19; exact gx_out0 rfl ⟨rfl, by rw [(show psR t n = (0, ps1 t n + 1) by rw [psR_eq, if_neg (fun z => z n0), if_neg (fun z => z n1), if_pos k_])]; exact Nat.zero_ne_one, by rw [(show psR t n = (0, ps1 t n + 1) by rw [psR_eq, if_neg (fun z => z n0), if_neg (fun z => z n1), if_pos k_])]; exact TEf.tr (Fa.put Fa.rf) (g_up_self _ _ _) e_19⟩ (Nat.le_of_ble_eq_true rfl) (Nat.le_of_ble_eq_true rfl)) (k_n (fun r_19 h_19 p_19 => ?_))
  obtain ⟨rfl, n2, z_19⟩ := p_19
  rw [z_19, g_upup, show ps1 t n + 1 + rnK t n (ps1 t n + 1) = ps2 t n from rfl, show rnV t n (ps1 t n + 1) = psV t n from rfl]
  refine g_istore2 dX16_wholeShare_22 (by decide) ?_
  first | refine g_aload0 dX16_wholeShare_23 ?_ | refine g_aloadQ0 dX16_wholeShare_23 ?_ | refine g_aloadN0 dX16_wholeShare_23 ?_
  refine g_bipush (nI 64) dX16_wholeShare_24 (by decide) ?_
  refine g_callVR (ctX16_take 64 (g_up_self _ _ _) (hd.fr (Fr.put (P := fun u => u = 1100) hr rfl) (by decide) (by decide)) (by omega) ⟨by decide, by decide⟩) kX16_take q1686 (gRv.g (g_up_self _ _ _) rfl rfl) (by decide) ⟨Nat.le_of_ble_eq_true rfl, Nat.le_of_ble_eq_true rfl⟩ rfl (Nat.le_of_ble_eq_true rfl) dX16_wholeShare_26 (fun C_ q_ h2_ px => by obtain ⟨rfl, m_26, e_26⟩ := px; have k_ : ¬ etc t n (ps2 t n) 64 := fun z => m_26 ((etc_hr (by decide)).mp z); exact gx_out0 rfl ⟨rfl, by rw [(show psR t n = (0, ps2 t n) by rw [psR_eq, if_neg (fun z => z n0), if_neg (fun z => z n1), if_neg (fun z => z n2), if_pos k_])]; exact Nat.zero_ne_one, by rw [(show psR t n = (0, ps2 t n) by rw [psR_eq, if_neg (fun z => z n0), if_neg (fun z => z n1), if_neg (fun z => z n2), if_pos k_])]; exact TEf.tr (Fa.put Fa.rf) (g_up_self _ _ _) e_26⟩ (Nat.le_of_ble_eq_true rfl) (Nat.le_of_ble_eq_true rfl)) (k_v (fun h_26 p_26 => ?_))
  obtain ⟨m_26, z_26⟩ := p_26
  rw [z_26, g_upup]
  have n3 := (etc_hr (by decide)).mpr m_26
  first | refine g_aload0 dX16_wholeShare_29 ?_ | refine g_aloadQ0 dX16_wholeShare_29 ?_ | refine g_aloadN0 dX16_wholeShare_29 ?_
  refine g_iconst (nI 1) dX16_wholeShare_30 (by decide) ?_
  refine g_sipush (nI 9999) dX16_wholeShare_31 (by decide) ?_
  refine g_callVR (ctX16_number 1 9999 (g_up_self _ _ _) (hd.fr (Fr.put (P := fun u => u = 1100) hr rfl) (by decide) (by decide)) (by omega) (by decide)) kX16_number q1634 (gRv.g (g_up_self _ _ _) rfl rfl) (by decide) ⟨Nat.le_of_ble_eq_true rfl, Nat.le_of_ble_eq_true rfl⟩ rfl (Nat.le_of_ble_eq_true rfl) dX16_wholeShare_34 (fun C_ q_ h2_ px => by obtain ⟨rfl, m_34, e_34⟩ := px; have k_ : ¬ rnOk t n (ps2 t n + 1) 1 9999 := m_34; exact gx_out0 rfl ⟨rfl, by rw [(show psR t n = (0, ps2 t n + 1) by rw [psR_eq, if_neg (fun z => z n0), if_neg (fun z => z n1), if_neg (fun z => z n2), if_neg (fun z => z n3), if_pos k_])]; exact Nat.zero_ne_one, by rw [(show psR t n = (0, ps2 t n + 1) by rw [psR_eq, if_neg (fun z => z n0), if_neg (fun z => z n1), if_neg (fun z => z n2), if_neg (fun z => z n3), if_pos k_])]; exact TEf.tr (Fa.put Fa.rf) (g_up_self _ _ _) e_34⟩ (Nat.le_of_ble_eq_true rfl) (Nat.le_of_ble_eq_true rfl)) (k_n (fun r_34 h_34 p_34 => ?_))
  obtain ⟨rfl, n4, z_34⟩ := p_34
  rw [z_34, g_upup, show ps2 t n + 1 + rnK t n (ps2 t n + 1) = ps3 t n from rfl, show rnV t n (ps2 t n + 1) = psE t n from rfl]
  refine g_istore3 dX16_wholeShare_37 (by decide) ?_
  first | refine g_aload0 dX16_wholeShare_38 ?_ | refine g_aloadQ0 dX16_wholeShare_38 ?_ | refine g_aloadN0 dX16_wholeShare_38 ?_
  refine g_bipush (nI 35) dX16_wholeShare_39 (by decide) ?_
  refine g_callVR (ctX16_take 35 (g_up_self _ _ _) (hd.fr (Fr.put (P := fun u => u = 1100) hr rfl) (by decide) (by decide)) (by omega) ⟨by decide, by decide⟩) kX16_take q1686 (gRv.g (g_up_self _ _ _) rfl rfl) (by decide) ⟨Nat.le_of_ble_eq_true rfl, Nat.le_of_ble_eq_true rfl⟩ rfl (Nat.le_of_ble_eq_true rfl) dX16_wholeShare_41 (fun C_ q_ h2_ px => by obtain ⟨rfl, m_41, e_41⟩ := px; have k_ : ¬ etc t n (ps3 t n) 35 := fun z => m_41 ((etc_hr (by decide)).mp z); exact gx_out0 rfl ⟨rfl, by rw [(show psR t n = (0, ps3 t n) by rw [psR_eq, if_neg (fun z => z n0), if_neg (fun z => z n1), if_neg (fun z => z n2), if_neg (fun z => z n3), if_neg (fun z => z n4), if_pos k_])]; exact Nat.zero_ne_one, by rw [(show psR t n = (0, ps3 t n) by rw [psR_eq, if_neg (fun z => z n0), if_neg (fun z => z n1), if_neg (fun z => z n2), if_neg (fun z => z n3), if_neg (fun z => z n4), if_pos k_])]; exact TEf.tr (Fa.put Fa.rf) (g_up_self _ _ _) e_41⟩ (Nat.le_of_ble_eq_true rfl) (Nat.le_of_ble_eq_true rfl)) (k_v (fun h_41 p_41 => ?_))
  obtain ⟨m_41, z_41⟩ := p_41
  rw [z_41, g_upup]
  have n5 := (etc_hr (by decide)).mpr m_41
  have m1 : psP t n ≤ 24 := n0.2.2
  have m2 : psV t n ≤ 1018 := n2.2.2
  have m3 : psE t n ≤ 9999 := n4.2.2
  refine g_bipush (nI 7) dX16_wholeShare_44 (by decide) ?_
  refine g_iload1 dX16_wholeShare_46 ?_
  first | refine g_imulN dX16_wholeShare_47 ?_ | refine g_imul dX16_wholeShare_47 ?_
  refine g_iconst (nI 3) dX16_wholeShare_48 (by decide) ?_
  refine g_iload2 dX16_wholeShare_49 ?_
  first | refine g_imulN dX16_wholeShare_50 ?_ | refine g_imul dX16_wholeShare_50 ?_
  first | refine g_iaddN dX16_wholeShare_51 ?_ | refine g_iadd dX16_wholeShare_51 ?_
  refine g_iload3 dX16_wholeShare_52 ?_
  first | refine g_iaddN dX16_wholeShare_53 ?_ | refine g_iadd dX16_wholeShare_53 ?_
  refine g_bipush (nI 10) dX16_wholeShare_54 (by decide) ?_
  refine g_iremN dX16_wholeShare_56 (by omega) (by omega) (by omega) ?_
  refine g_istore4 dX16_wholeShare_57 (by decide) ?_
  first | refine g_aload0 dX16_wholeShare_59 ?_ | refine g_aloadQ0 dX16_wholeShare_59 ?_ | refine g_aloadN0 dX16_wholeShare_59 ?_
  refine g_iload4 dX16_wholeShare_60 ?_
  refine g_iload4 dX16_wholeShare_62 ?_
  refine g_callVR (ctX16_digit ((7 * psP t n + 3 * psV t n + psE t n) % 10) ((7 * psP t n + 3 * psV t n + psE t n) % 10) (g_up_self _ _ _) (hd.fr (Fr.put (P := fun u => u = 1100) hr rfl) (by decide) (by decide)) (by omega) ⟨Nat.le_refl _, by omega⟩) kX16_digit q1638 (gRv.g (g_up_self _ _ _) rfl rfl) (by decide) ⟨Nat.le_of_ble_eq_true rfl, Nat.le_of_ble_eq_true rfl⟩ rfl (Nat.le_of_ble_eq_true rfl) dX16_wholeShare_64 (fun C_ q_ h2_ px => by obtain ⟨rfl, m_64, e_64⟩ := px; have k_ : ¬ etc t n (ps3 t n + 1) (48 + (7 * psP t n + 3 * psV t n + psE t n) % 10) := fun z => m_64 (by have := (etc_hr (by omega)).mp z; omega); exact gx_out0 rfl ⟨rfl, by rw [(show psR t n = (0, ps3 t n + 1) by rw [psR_eq, if_neg (fun z => z n0), if_neg (fun z => z n1), if_neg (fun z => z n2), if_neg (fun z => z n3), if_neg (fun z => z n4), if_neg (fun z => z n5), if_pos k_])]; exact Nat.zero_ne_one, by rw [(show psR t n = (0, ps3 t n + 1) by rw [psR_eq, if_neg (fun z => z n0), if_neg (fun z => z n1), if_neg (fun z => z n2), if_neg (fun z => z n3), if_neg (fun z => z n4), if_neg (fun z => z n5), if_pos k_])]; exact TEf.tr (Fa.put Fa.rf) (g_up_self _ _ _) e_64⟩ (Nat.le_of_ble_eq_true rfl) (Nat.le_of_ble_eq_true rfl)) (k_n (fun r_64 h_64 p_64 => ?_))
  obtain ⟨rfl, d_64, z_64⟩ := p_64
  rw [z_64, g_upup, show ps3 t n + 1 + 1 = ps3 t n + 2 from rfl]
  have n6 : etc t n (ps3 t n + 1) (48 + (7 * psP t n + 3 * psV t n + psE t n) % 10) := (etc_hr (by omega)).mpr (by omega)
  refine g_pop dX16_wholeShare_67 (by first | rfl | exact cat_rf _) ?_
  first | refine g_aload0 dX16_wholeShare_68 ?_ | refine g_aloadQ0 dX16_wholeShare_68 ?_ | refine g_aloadN0 dX16_wholeShare_68 ?_
  first | refine g_aload0 dX16_wholeShare_69 ?_ | refine g_aloadQ0 dX16_wholeShare_69 ?_ | refine g_aloadN0 dX16_wholeShare_69 ?_
  refine g_callVR (ctX16_here (g_up_self _ _ _) (hd.fr (Fr.put (P := fun u => u = 1100) hr rfl) (by decide) (by decide)) (by omega)) kX16_here q1642 (gRv.g (g_up_self _ _ _) rfl rfl) (by decide) ⟨Nat.le_of_ble_eq_true rfl, Nat.le_of_ble_eq_true rfl⟩ rfl (Nat.le_of_ble_eq_true rfl) dX16_wholeShare_70 k_x (k_n (fun r_70 h_70 p_70 => ?_))
  obtain ⟨rfl, z_70⟩ := p_70
  rw [z_70]
  have hv := hv_lt hd (ps3 t n + 2)
  have he := hv_end hd (ps3 t n + 2)
  have hend : ps3 t n + 2 ≤ n := by have := n6.1; omega
  refine g_iconst (nI 4294967295) dX16_wholeShare_73 (by decide) ?_
  first | refine g_icmpN_ne (tgt := 81) dX16_wholeShare_74 (by decide) (by omega) (by omega) (fun c_74 => ?_) (fun c_74 => ?_) | refine g_icmpU_ne (tgt := 81) dX16_wholeShare_74 (by decide) (by omega) (by omega) (fun c_74 => ?_) (fun c_74 => ?_) | refine g_icmp_ne (tgt := 81) dX16_wholeShare_74 (by decide) (fun c_74 => ?_) (fun c_74 => ?_)
  · refine g_iconst (nI 0) dX16_wholeShare_81 (by decide) ?_
    refine g_callVR (ctX16_need _ (g_up_self _ _ _) (by omega)) kX16_need q1663 (gRv.g (g_up_self _ _ _) rfl rfl) (by decide) ⟨Nat.le_of_ble_eq_true rfl, Nat.le_of_ble_eq_true rfl⟩ rfl (Nat.le_of_ble_eq_true rfl) dX16_wholeShare_82 (fun C_ q_ h2_ px => by obtain ⟨rfl, m_82, e_82⟩ := px; have k_ : ¬ ps3 t n + 2 = n := fun z => (by first | omega | (have := he.mpr (by omega); omega)); exact gx_out0 rfl ⟨rfl, by rw [(show psR t n = (0, ps3 t n + 2) by rw [psR_eq, if_neg (fun z => z n0), if_neg (fun z => z n1), if_neg (fun z => z n2), if_neg (fun z => z n3), if_neg (fun z => z n4), if_neg (fun z => z n5), if_neg (fun z => z n6), if_neg k_])]; exact Nat.zero_ne_one, by rw [(show psR t n = (0, ps3 t n + 2) by rw [psR_eq, if_neg (fun z => z n0), if_neg (fun z => z n1), if_neg (fun z => z n2), if_neg (fun z => z n3), if_neg (fun z => z n4), if_neg (fun z => z n5), if_neg (fun z => z n6), if_neg k_])]; exact TEf.tr (Fa.put Fa.rf) (g_up_self _ _ _) e_82⟩ (Nat.le_of_ble_eq_true rfl) (Nat.le_of_ble_eq_true rfl)) (k_v (fun h_82 p_82 => ?_))
    obtain ⟨m_82, z_82⟩ := p_82
    rw [z_82]
    have k_ : ps3 t n + 2 = n := by have := he.mp (by omega); omega
    refine g_new 4 (T) [.int 0, .int 0, .int 0] in_X6 tyX6_ok q1690 q693 q97 rfl nwX6 (Nat.le_of_ble_eq_true rfl) (Nat.le_of_ble_eq_true rfl) dX16_wholeShare_85 (fun q_85 f_85 => ?_)
    refine g_dup dX16_wholeShare_88 rfl ?_
    refine g_iload1 dX16_wholeShare_89 ?_
    refine g_iload2 dX16_wholeShare_90 ?_
    refine g_iload3 dX16_wholeShare_91 ?_
    refine g_callI (ctX6_init _ _ _ (g_up_self _ _ _)) kX6_init q1691 (by decide) ⟨Nat.le_of_ble_eq_true rfl, Nat.le_of_ble_eq_true rfl⟩ rfl (Nat.le_of_ble_eq_true rfl) dX16_wholeShare_92 k_x (k_v (fun h_92 p_92 => ?_))
    rw [p_92, g_upup]
    exact g_aret dX16_wholeShare_95 rfl (Or.inl ⟨_, rfl⟩) ⟨_, rfl, by rw [(show psR t n = (1, ps3 t n + 2) by rw [psR_eq, if_neg (fun z => z n0), if_neg (fun z => z n1), if_neg (fun z => z n2), if_neg (fun z => z n3), if_neg (fun z => z n4), if_neg (fun z => z n5), if_neg (fun z => z n6), if_pos k_])], n0.2, n2.2.2, n4.2, (Fa.put Fa.rf).none f_85 (fun e => by rw [e, g_up_self] at f_85; cases f_85), g_up_self _ _ _, (Fa.put Fa.rf).new f_85⟩
  · refine g_iconst (nI 1) dX16_wholeShare_77 (by decide) ?_
    refine g_goto (tgt := 82) dX16_wholeShare_78 (by decide) ?_
    refine g_callVR (ctX16_need _ (g_up_self _ _ _) (by omega)) kX16_need q1663 (gRv.g (g_up_self _ _ _) rfl rfl) (by decide) ⟨Nat.le_of_ble_eq_true rfl, Nat.le_of_ble_eq_true rfl⟩ rfl (Nat.le_of_ble_eq_true rfl) dX16_wholeShare_82 (fun C_ q_ h2_ px => by obtain ⟨rfl, m_82, e_82⟩ := px; have k_ : ¬ ps3 t n + 2 = n := fun z => (by first | omega | (have := he.mpr (by omega); omega)); exact gx_out0 rfl ⟨rfl, by rw [(show psR t n = (0, ps3 t n + 2) by rw [psR_eq, if_neg (fun z => z n0), if_neg (fun z => z n1), if_neg (fun z => z n2), if_neg (fun z => z n3), if_neg (fun z => z n4), if_neg (fun z => z n5), if_neg (fun z => z n6), if_neg k_])]; exact Nat.zero_ne_one, by rw [(show psR t n = (0, ps3 t n + 2) by rw [psR_eq, if_neg (fun z => z n0), if_neg (fun z => z n1), if_neg (fun z => z n2), if_neg (fun z => z n3), if_neg (fun z => z n4), if_neg (fun z => z n5), if_neg (fun z => z n6), if_neg k_])]; exact TEf.tr (Fa.put Fa.rf) (g_up_self _ _ _) e_82⟩ (Nat.le_of_ble_eq_true rfl) (Nat.le_of_ble_eq_true rfl)) (k_v (fun h_82 p_82 => ?_))
    obtain ⟨m_82, z_82⟩ := p_82
    rw [z_82]
    have k_ : ps3 t n + 2 = n := by have := he.mp (by omega); omega
    refine g_new 4 (T) [.int 0, .int 0, .int 0] in_X6 tyX6_ok q1690 q693 q97 rfl nwX6 (Nat.le_of_ble_eq_true rfl) (Nat.le_of_ble_eq_true rfl) dX16_wholeShare_85 (fun q_85 f_85 => ?_)
    refine g_dup dX16_wholeShare_88 rfl ?_
    refine g_iload1 dX16_wholeShare_89 ?_
    refine g_iload2 dX16_wholeShare_90 ?_
    refine g_iload3 dX16_wholeShare_91 ?_
    refine g_callI (ctX6_init _ _ _ (g_up_self _ _ _)) kX6_init q1691 (by decide) ⟨Nat.le_of_ble_eq_true rfl, Nat.le_of_ble_eq_true rfl⟩ rfl (Nat.le_of_ble_eq_true rfl) dX16_wholeShare_92 k_x (k_v (fun h_92 p_92 => ?_))
    rw [p_92, g_upup]
    exact g_aret dX16_wholeShare_95 rfl (Or.inl ⟨_, rfl⟩) ⟨_, rfl, by rw [(show psR t n = (1, ps3 t n + 2) by rw [psR_eq, if_neg (fun z => z n0), if_neg (fun z => z n1), if_neg (fun z => z n2), if_neg (fun z => z n3), if_neg (fun z => z n4), if_neg (fun z => z n5), if_neg (fun z => z n6), if_pos k_])], n0.2, n2.2.2, n4.2, (Fa.put Fa.rf).none f_85 (fun e => by rw [e, g_up_self] at f_85; cases f_85), g_up_self _ _ _, (Fa.put Fa.rf).new f_85⟩
abbrev mX19_init : GM := (yX19_init, 2, none, [], { frames := 2, cells := 0, slots := 0, locals := 40 }, 255)
theorem kX19_init : gCi cX19_init mX19_init 1 := ⟨q1853, q115, q1854, ⟨by decide +kernel, by decide +kernel, by decide +kernel⟩, rfl, rfl, rfl⟩
set_option maxHeartbeats 400000 in
theorem ctX19_init {E : GE} {h : AH} {q t m : Nat} (ha : h q = some (t, gO 17 [.int 0])) : Ct E cX19_init mX19_init [.ref q, .int (nI m)] (h) (pV fun h' => h' = g_up h q (t, gO 17 [.int (nI m)])) (noX) := by
  refine g_enter (own := "SecretVault$One") [some (.ref q), some (.int (nI m))] (by decide +kernel) rfl rfl (Nat.le_of_ble_eq_true rfl) rfl rfl (fun X => ?_)
  first | refine g_aload0 dX19_init_0 ?_ | refine g_aloadQ0 dX19_init_0 ?_ | refine g_aloadN0 dX19_init_0 ?_
  refine g_objInit q1855 q129 q130 dX19_init_1 (Nat.le_of_ble_eq_true rfl) (Nat.le_of_ble_eq_true rfl) ?_
  first | refine g_aload0 dX19_init_4 ?_ | refine g_aloadQ0 dX19_init_4 ?_ | refine g_aloadN0 dX19_init_4 ?_
  refine g_iload1 dX19_init_5 ?_
  refine g_putF (k0 := 0) (by first | assumption | exact g_up_self _ _ _ | (refine g_upf ?_ ?_ <;> assumption) | (refine g_upt ?_ ?_ (by decide) <;> assumption)) in_X19 q1856 tyX19_ok nmX19 rfl (by decide) rfl rfl rfl (by rfl) (by rfl) (Nat.le_of_ble_eq_true rfl) dX19_init_6 ?_
  try rw [g_upup]
  exact g_vret dX19_init_9 rfl ⟨rfl, rfl⟩
abbrev mX20_init : GM := (yX20_init, 2, none, [], { frames := 2, cells := 0, slots := 0, locals := 40 }, 255)
theorem kX20_init : gCi cX20_init mX20_init 1 := ⟨q1869, q116, q1870, ⟨by decide +kernel, by decide +kernel, by decide +kernel⟩, rfl, rfl, rfl⟩
set_option maxHeartbeats 400000 in
theorem ctX20_init {E : GE} {h : AH} {q t l : Nat} (ha : h q = some (t, gO 18 [.null])) : Ct E cX20_init mX20_init [.ref q, .ref l] (h) (pV fun h' => h' = g_up h q (t, gO 18 [.ref l])) (noX) := by
  refine g_enter (own := "SecretVault$All") [some (.ref q), some (.ref l)] (by decide +kernel) rfl rfl (Nat.le_of_ble_eq_true rfl) rfl rfl (fun X => ?_)
  first | refine g_aload0 dX20_init_0 ?_ | refine g_aloadQ0 dX20_init_0 ?_ | refine g_aloadN0 dX20_init_0 ?_
  refine g_objInit q1871 q129 q130 dX20_init_1 (Nat.le_of_ble_eq_true rfl) (Nat.le_of_ble_eq_true rfl) ?_
  first | refine g_aload0 dX20_init_4 ?_ | refine g_aloadQ0 dX20_init_4 ?_ | refine g_aloadN0 dX20_init_4 ?_
  first | refine g_aload1 dX20_init_5 ?_ | refine g_aloadQ1 dX20_init_5 ?_ | refine g_aloadN1 dX20_init_5 ?_
  refine g_putF (k0 := 0) (by first | assumption | exact g_up_self _ _ _ | (refine g_upf ?_ ?_ <;> assumption) | (refine g_upt ?_ ?_ (by decide) <;> assumption)) in_X20 q1872 tyX20_ok nmX20 rfl (by decide) rfl rfl rfl (by rfl) (by rfl) (Nat.le_of_ble_eq_true rfl) dX20_init_6 ?_
  try rw [g_upup]
  exact g_vret dX20_init_9 rfl ⟨rfl, rfl⟩
abbrev mX21_init : GM := (yX21_init, 2, none, [], { frames := 2, cells := 0, slots := 0, locals := 40 }, 255)
theorem kX21_init : gCi cX21_init mX21_init 1 := ⟨q1880, q117, q1881, ⟨by decide +kernel, by decide +kernel, by decide +kernel⟩, rfl, rfl, rfl⟩
set_option maxHeartbeats 400000 in
theorem ctX21_init {E : GE} {h : AH} {q t l : Nat} (ha : h q = some (t, gO 19 [.null])) : Ct E cX21_init mX21_init [.ref q, .ref l] (h) (pV fun h' => h' = g_up h q (t, gO 19 [.ref l])) (noX) := by
  refine g_enter (own := "SecretVault$Any") [some (.ref q), some (.ref l)] (by decide +kernel) rfl rfl (Nat.le_of_ble_eq_true rfl) rfl rfl (fun X => ?_)
  first | refine g_aload0 dX21_init_0 ?_ | refine g_aloadQ0 dX21_init_0 ?_ | refine g_aloadN0 dX21_init_0 ?_
  refine g_objInit q1882 q129 q130 dX21_init_1 (Nat.le_of_ble_eq_true rfl) (Nat.le_of_ble_eq_true rfl) ?_
  first | refine g_aload0 dX21_init_4 ?_ | refine g_aloadQ0 dX21_init_4 ?_ | refine g_aloadN0 dX21_init_4 ?_
  first | refine g_aload1 dX21_init_5 ?_ | refine g_aloadQ1 dX21_init_5 ?_ | refine g_aloadN1 dX21_init_5 ?_
  refine g_putF (k0 := 0) (by first | assumption | exact g_up_self _ _ _ | (refine g_upf ?_ ?_ <;> assumption) | (refine g_upt ?_ ?_ (by decide) <;> assumption)) in_X21 q1883 tyX21_ok nmX21 rfl (by decide) rfl rfl rfl (by rfl) (by rfl) (Nat.le_of_ble_eq_true rfl) dX21_init_6 ?_
  try rw [g_upup]
  exact g_vret dX21_init_9 rfl ⟨rfl, rfl⟩
abbrev mX18_init : GM := (yX18_init, 3, none, [], { frames := 2, cells := 0, slots := 0, locals := 40 }, 255)
theorem kX18_init : gCi cX18_init mX18_init 2 := ⟨q1838, q114, q1839, ⟨by decide +kernel, by decide +kernel, by decide +kernel⟩, rfl, rfl, rfl⟩
set_option maxHeartbeats 400000 in
theorem ctX18_init {E : GE} {h : AH} {q t l m : Nat} (ha : h q = some (t, gO 16 [.int 0, .null])) : Ct E cX18_init mX18_init [.ref q, .int (nI m), .ref l] (h) (pV fun h' => h' = g_up h q (t, gO 16 [.int (nI m), .ref l])) (noX) := by
  refine g_enter (own := "SecretVault$Some") [some (.ref q), some (.int (nI m)), some (.ref l)] (by decide +kernel) rfl rfl (Nat.le_of_ble_eq_true rfl) rfl rfl (fun X => ?_)
  first | refine g_aload0 dX18_init_0 ?_ | refine g_aloadQ0 dX18_init_0 ?_ | refine g_aloadN0 dX18_init_0 ?_
  refine g_objInit q1840 q129 q130 dX18_init_1 (Nat.le_of_ble_eq_true rfl) (Nat.le_of_ble_eq_true rfl) ?_
  first | refine g_aload0 dX18_init_4 ?_ | refine g_aloadQ0 dX18_init_4 ?_ | refine g_aloadN0 dX18_init_4 ?_
  refine g_iload1 dX18_init_5 ?_
  refine g_putF (k0 := 0) (by first | assumption | exact g_up_self _ _ _ | (refine g_upf ?_ ?_ <;> assumption) | (refine g_upt ?_ ?_ (by decide) <;> assumption)) in_X18 q1841 tyX18_ok nmX18 rfl (by decide) rfl rfl rfl (by rfl) (by rfl) (Nat.le_of_ble_eq_true rfl) dX18_init_6 ?_
  try rw [g_upup]
  first | refine g_aload0 dX18_init_9 ?_ | refine g_aloadQ0 dX18_init_9 ?_ | refine g_aloadN0 dX18_init_9 ?_
  first | refine g_aload2 dX18_init_10 ?_ | refine g_aloadQ2 dX18_init_10 ?_ | refine g_aloadN2 dX18_init_10 ?_
  refine g_putF (k0 := 1) (by first | assumption | exact g_up_self _ _ _ | (refine g_upf ?_ ?_ <;> assumption) | (refine g_upt ?_ ?_ (by decide) <;> assumption)) in_X18 q1843 tyX18_ok nmX18 rfl (by decide) rfl rfl rfl (by rfl) (by rfl) (Nat.le_of_ble_eq_true rfl) dX18_init_11 ?_
  try rw [g_upup]
  exact g_vret dX18_init_14 rfl ⟨rfl, rfl⟩
abbrev mX16_init : GM := (yX16_init, 2, none, [], { frames := 2, cells := 0, slots := 0, locals := 40 }, 255)
theorem kX16_init : gCi cX16_init mX16_init 1 := ⟨q1620, q112, q1621, ⟨by decide +kernel, by decide +kernel, by decide +kernel⟩, rfl, rfl, rfl⟩
set_option maxHeartbeats 400000 in
theorem ctX16_init {E : GE} {h : AH} {q t tx : Nat} (ha : h q = some (t, gO 14 [.null, .int 0])) : Ct E cX16_init mX16_init [.ref q, .ref tx] (h) (pV fun h' => h' = g_up h q (t, gO 14 [.ref tx, .int 0])) (noX) := by
  refine g_enter (own := "SecretVault$Reader") [some (.ref q), some (.ref tx)] (by decide +kernel) rfl rfl (Nat.le_of_ble_eq_true rfl) rfl rfl (fun X => ?_)
  first | refine g_aload0 dX16_init_0 ?_ | refine g_aloadQ0 dX16_init_0 ?_ | refine g_aloadN0 dX16_init_0 ?_
  refine g_objInit q1622 q129 q130 dX16_init_1 (Nat.le_of_ble_eq_true rfl) (Nat.le_of_ble_eq_true rfl) ?_
  first | refine g_aload0 dX16_init_4 ?_ | refine g_aloadQ0 dX16_init_4 ?_ | refine g_aloadN0 dX16_init_4 ?_
  first | refine g_aload1 dX16_init_5 ?_ | refine g_aloadQ1 dX16_init_5 ?_ | refine g_aloadN1 dX16_init_5 ?_
  refine g_putF (k0 := 0) (by first | assumption | exact g_up_self _ _ _ | (refine g_upf ?_ ?_ <;> assumption) | (refine g_upt ?_ ?_ (by decide) <;> assumption)) in_X16 q1623 tyX16_ok nmX16 rfl (by decide) rfl rfl rfl (by rfl) (by rfl) (Nat.le_of_ble_eq_true rfl) dX16_init_6 ?_
  try rw [g_upup]
  exact g_vret dX16_init_9 rfl ⟨rfl, rfl⟩
/-- a list's tags are changed to 7 and 8 -/
theorem LI.retag {E : GE} {T : Nat} {h : AH} {l : Nat} {L : List Nat} (hl : LI E T h l L) (hn : L ≠ []) : ∃ h', (∀ a t e, h' a = some (t, e) → ∃ t', h a = some (t', e)) ∧ LI E 7 h' l L ∧ Fr (fun u => u = T ∨ u = T + 1) h h' := by
  obtain ⟨h1, arr, mc, h2, h3⟩ := hl
  rcases h3 with ⟨z, -⟩ | ⟨-, f, h4, h5⟩
  · exact absurd z hn
  have hne : arr ≠ l := g_tne h2 h4 (by omega)
  refine ⟨g_up (g_up h l (7, gO 9 [.int mc, .ref arr, .int (nI L.length)])) arr (8, gAR E 5 (lcp L.length) f), fun a t e z => ?_, ⟨h1, arr, mc, g_up_of (g_up_self _ _ _) (fun z => hne z.symm), Or.inr ⟨hn, f, g_up_self _ _ _, h5⟩⟩, fun a t e z hp => ?_⟩
  · by_cases e1 : a = arr
    · subst e1
      rw [g_up_self] at z
      cases z
      exact ⟨_, h4⟩
    · by_cases e2 : a = l
      · subst e2
        rw [g_up_ne _ e1, g_up_self] at z
        cases z
        exact ⟨_, h2⟩
      · rw [g_up_ne _ e1, g_up_ne _ e2] at z
        exact ⟨_, z⟩
  · have e1 : a ≠ arr := fun q => by rw [q, h4] at z; cases z; exact hp (Or.inr rfl)
    have e2 : a ≠ l := fun q => by rw [q, h2] at z; cases z; exact hp (Or.inl rfl)
    rw [g_up_ne _ e1, g_up_ne _ e2]
    exact z
