/-! THE VAULT: operations that change nothing, 2 -/
set_option maxRecDepth 100000
set_option maxRecDepth 100000 in
theorem at_SecretVault_ArithmeticException : gAt "SecretVault" 375 "java/lang/ArithmeticException" ["java/lang/RuntimeException", "java/lang/Exception"] := ⟨lw_T _ [76, 443, 452, 466, 469, 471, 444, 445, 129, 130, 446, 451, 467, 492, 433, 493, 435, 494, 437, 447, 449, 439, 2048, 2049, 2050, 781, 424, 781, 782, 783, 784, 426, 784, 785, 786, 444, 428, 2047, 2029, 2040, 2041, 458, 2035, 2036, 2038, 2034, 490, 441, 2033] (by decide +kernel), by decide +kernel⟩
set_option maxRecDepth 100000 in
theorem at_SecretVault_ArithmeticException_g : ∀ w ∈ Cond.classLink "SecretVault" 373 "java/lang/ArithmeticException" :: Cond.initialized "java/lang/ArithmeticException" :: vx_at0 "SecretVault" 375 "java/lang/ArithmeticException" ["java/lang/RuntimeException", "java/lang/Exception"], vx_ot w = true := List.all_eq_true.mp (by decide +kernel)
theorem pwN_le9 (g : Nat → Nat) (s m : Nat) : pwN g s m 256 < 257 := by
  have h : ∀ n, pwN g s m n ≤ n := fun n => by
    induction n with
    | zero => exact Nat.le_refl _
    | succ n ih =>
      rw [pwN]
      split <;> omega
  have := h 256
  omega
abbrev mX1_powerBits : GM := (yX1_powerBits, 4, (some .long), [], { frames := 422, cells := 900, slots := 90000, locals := 9247 }, 255)
theorem kX1_powerBits : gCv cX1_powerBits mX1_powerBits 2 := ⟨q2007, q2008, q67, q2009, ⟨by decide +kernel, by decide +kernel, by decide +kernel⟩, rfl⟩
theorem uX1_powerBits : gCu cX1_powerBits mX1_powerBits 2 := ⟨q2007, q67, q2009, ⟨by decide +kernel, by decide +kernel, by decide +kernel⟩, rfl⟩
set_option maxHeartbeats 400000 in
theorem ctX1_powerBits {E : GE} {h : AH} {v : Nat} {L9 : List Nat} (M : TW) (s : Nat) (m : Nat) (hV : VO E M v L9 h) (hW : vW M) (hs : s < 4294967296) (hm : m < 4294967296)  : Ct E cX1_powerBits mX1_powerBits [.ref v, .int (nI s), .int (nI m)] (h) (pL fun r h' => xc_powerBits M s m = 0 ∧ r = xv_powerBits M s m ∧ Fr tP h h') (fun C _ h' => cX ["java/lang/IndexOutOfBoundsException", "java/util/NoSuchElementException"] C (xc_powerBits M s m) ∧ Fr tP h h') := by
  refine g_enter (own := "SecretVault") [some (.ref v), some (.int (nI s)), some (.int (nI m)), none] (by decide +kernel) rfl rfl (Nat.le_of_ble_eq_true rfl) rfl rfl (fun X => ?_)
  obtain ⟨w, b, sv, hv, ⟨aw, ap, az, ad, fw, fp, fz, x1, x2, x3, x4, x5, x6, x7, x8⟩, hsv, hsb, hlen, hch⟩ := id hV
  refine g_iload1 dX1_powerBits_0 ?_
  refine g_iconst (nI 4) dX1_powerBits_1 (by decide) ?_
  refine g_callS (ctX1_requireIndex s 4 (by omega) (by decide)) kX1_requireIndex q917 (by decide) ⟨Nat.le_of_ble_eq_true rfl, Nat.le_of_ble_eq_true rfl⟩ rfl (Nat.le_of_ble_eq_true rfl) dX1_powerBits_2 (fun C_ q_ h2_ px => by obtain ⟨rfl, c_2, rfl⟩ := px; exact gx_out0 rfl ⟨(by unfold cX xc_powerBits; (repeat' split) <;> first | exact ⟨Nat.zero_lt_succ _, rfl⟩ | (exfalso; omega)), Fr.rf⟩ (Nat.le_of_ble_eq_true rfl) (Nat.le_of_ble_eq_true rfl)) (k_v (fun h_2 p_2 => ?_))
  obtain ⟨i_2, z_2⟩ := p_2
  rw [z_2]
  refine g_iload2 dX1_powerBits_5 ?_
  refine g_callS (ctX1_requireMember m (by omega)) kX1_requireMember q914 (by decide) ⟨Nat.le_of_ble_eq_true rfl, Nat.le_of_ble_eq_true rfl⟩ rfl (Nat.le_of_ble_eq_true rfl) dX1_powerBits_6 (fun C_ q_ h2_ px => by obtain ⟨rfl, c_6, rfl⟩ := px; exact gx_out0 rfl ⟨(by unfold cX xc_powerBits; (repeat' split) <;> first | exact ⟨Nat.zero_lt_succ _, rfl⟩ | (exfalso; omega)), Fr.rf⟩ (Nat.le_of_ble_eq_true rfl) (Nat.le_of_ble_eq_true rfl)) (k_v (fun h_6 p_6 => ?_))
  obtain ⟨i_6, z_6⟩ := p_6
  rw [z_6]
  refine g_new 20 (1010) [.null] in_X22 tyX22_ok q1975 q1976 q118 rfl nwX22 (Nat.le_of_ble_eq_true rfl) (Nat.le_of_ble_eq_true rfl) dX1_powerBits_9 (fun q_9 f_9 => ?_)
  have F0 : Fr tP h (g_up h q_9 (1010, gO 20 [.null])) := Fr.new f_9
  have hV2 : VX9 E M v L9 w b sv (g_up h q_9 (1010, gO 20 [.null])) := VX9.fr ⟨hv, ⟨aw, ap, az, ad, fw, fp, fz, x1, x2, x3, x4, x5, x6, x7, x8⟩, hsv, hsb, hlen, hch⟩ F0 (fun _ z => z)
  have hv3 := g_upf (z := (1010, gO 20 [.null])) hv f_9
  have hV3 : VO E M v L9 (g_up h q_9 (1010, gO 20 [.null])) := ⟨w, b, sv, hV2⟩
  refine g_dup dX1_powerBits_12 rfl ?_
  first | refine g_aload0 dX1_powerBits_13 ?_ | refine g_aloadQ0 dX1_powerBits_13 ?_ | refine g_aloadN0 dX1_powerBits_13 ?_
  refine g_get (k0 := 0) (by first | assumption | exact g_up_self _ _ _ | (refine g_upf ?_ ?_ <;> assumption) | (refine g_upt ?_ ?_ (by decide) <;> assumption)) in_X1 q577 rfl (by decide) rfl dX1_powerBits_14 ?_
  first | refine g_aload0 dX1_powerBits_17 ?_ | refine g_aloadQ0 dX1_powerBits_17 ?_ | refine g_aloadN0 dX1_powerBits_17 ?_
  refine g_iload1 dX1_powerBits_18 ?_
  refine g_callVR (ctX1_secretIn hV3 hW s (by omega)) kX1_secretIn q1135 hV3.rv (by decide) ⟨Nat.le_of_ble_eq_true rfl, Nat.le_of_ble_eq_true rfl⟩ rfl (Nat.le_of_ble_eq_true rfl) dX1_powerBits_19 (fun C_ q_ h2_ px => by obtain ⟨rfl, c_19, rfl⟩ := px; exact gx_out0 rfl ⟨(by unfold cX xc_powerBits; (repeat' split) <;> first | exact ⟨Nat.zero_lt_succ _, rfl⟩ | (exfalso; omega)), F0⟩ (Nat.le_of_ble_eq_true rfl) (Nat.le_of_ble_eq_true rfl)) (k_r (fun r_19 h_19 p_19 => ?_))
  obtain ⟨g1, hse, z_19⟩ := p_19
  rw [z_19]
  refine g_callI (ctX22_init (s := s) (g := M 1) (B := 100) (S := 110 + 30 * s) (g_up_self _ _ _) hV2.wm hW.wb hse (hW.sl (by omega)) g1 ⟨by decide, by omega, by omega⟩) kX22_init q1977 (by decide) ⟨Nat.le_of_ble_eq_true rfl, Nat.le_of_ble_eq_true rfl⟩ rfl (Nat.le_of_ble_eq_true rfl) dX1_powerBits_22 k_x (k_v (fun h_22 p_22 => ?_))
  obtain ⟨hgr, G_22⟩ := p_22
  have F_22 : Fr tP h h_22 := Fa.frN f_9 G_22
  refine g_iload2 dX1_powerBits_25 ?_
  refine g_callVR (ctX22_decisions m hgr (by omega)) kX22_decisions q2010 (gRv.g hgr.choose_spec.choose_spec.1 rfl rfl) (by decide) ⟨Nat.le_of_ble_eq_true rfl, Nat.le_of_ble_eq_true rfl⟩ rfl (Nat.le_of_ble_eq_true rfl) dX1_powerBits_26 k_x (k_n (fun r_26 h_26 p_26 => ?_))
  obtain ⟨rfl, z_26⟩ := p_26
  rw [z_26]
  refine g_istore3 dX1_powerBits_29 (by decide) ?_
  obtain ⟨hvf, hcd⟩ := dv_ok (pwN (M 1) s m 256) (pwN_le9 _ _ _)
  unfold dvN at hvf hcd
  refine g_iload3 dX1_powerBits_30 ?_
  refine g_i2d dX1_powerBits_31 ?_
  refine g_ldc2d _ dX1_powerBits_32 q2014 ?_
  refine g_ddiv dX1_powerBits_35 (by assumption) ?_
  refine g_callS (ctJ28_doubleToLongBits _ hcd) kJ28_doubleToLongBits q2015 (by decide) ⟨Nat.le_of_ble_eq_true rfl, Nat.le_of_ble_eq_true rfl⟩ rfl (Nat.le_of_ble_eq_true rfl) dX1_powerBits_36 k_x (k_l (fun r_36 h_36 p_36 => ?_))
  obtain ⟨rfl, z_36⟩ := p_36
  rw [z_36]
  exact g_lret dX1_powerBits_39 rfl ⟨_, rfl, (by unfold xc_powerBits; (repeat' split) <;> first | rfl | (exfalso; omega)), rfl, F_22⟩
abbrev mX1_smallest : GM := (yX1_smallest, 6, (some .int), [], { frames := 422, cells := 900, slots := 90000, locals := 9247 }, 255)
theorem kX1_smallest : gCv cX1_smallest mX1_smallest 2 := ⟨q1996, q1997, q67, q1998, ⟨by decide +kernel, by decide +kernel, by decide +kernel⟩, rfl⟩
theorem uX1_smallest : gCu cX1_smallest mX1_smallest 2 := ⟨q1996, q67, q1998, ⟨by decide +kernel, by decide +kernel, by decide +kernel⟩, rfl⟩
set_option maxHeartbeats 400000 in
theorem ctX1_smallest {E : GE} {h : AH} {v : Nat} {L9 : List Nat} (M : TW) (s : Nat) (k : Nat) (hV : VO E M v L9 h) (hW : vW M) (hs : s < 4294967296) (hk : k < 4294967296)  : Ct E cX1_smallest mX1_smallest [.ref v, .int (nI s), .int (nI k)] (h) (pN fun r h' => xc_smallest M s k = 0 ∧ r = xv_smallest M s k ∧ Fr tP h h') (fun C _ h' => cX ["java/lang/IndexOutOfBoundsException", "java/util/NoSuchElementException"] C (xc_smallest M s k) ∧ Fr tP h h') := by
  refine g_enter (own := "SecretVault") [some (.ref v), some (.int (nI s)), some (.int (nI k)), none, none, none] (by decide +kernel) rfl rfl (Nat.le_of_ble_eq_true rfl) rfl rfl (fun X => ?_)
  obtain ⟨w, b, sv, hv, ⟨aw, ap, az, ad, fw, fp, fz, x1, x2, x3, x4, x5, x6, x7, x8⟩, hsv, hsb, hlen, hch⟩ := id hV
  have K : ∀ q hh, GR E hh q (M 1) s → Fr tP h hh → s < 4 → gOf (M 1) s 0 = 1 → ∀ n i, n + i = 256 → siF (M 1) s k i = 0 → V E cX1_smallest "SecretVault" mX1_smallest (pN fun r h' => xc_smallest M s k = 0 ∧ r = xv_smallest M s k ∧ Fr tP h h') (fun C _ h' => cX ["java/lang/IndexOutOfBoundsException", "java/util/NoSuchElementException"] C (xc_smallest M s k) ∧ Fr tP h h') X (hh) 9 400 28 [some (.ref v), some (.int (nI s)), some (.int (nI k)), some (.ref q), some (.int (nI k - nI (siN (M 1) s i))), some (.int (nI i))] [] := by
    intro q hh hgr hF hs4 g1 n
    induction n with
    | zero =>
      intro i hn hf
      obtain rfl : i = 256 := by omega
      refine g_iload5 dX1_smallest_28 ?_
      refine g_sipush (nI 256) dX1_smallest_30 (by decide) ?_
      first | refine g_icmpN_ge (tgt := 62) dX1_smallest_33 (by decide) (by omega) (by omega) (fun c_33 => ?_) (fun c_33 => ?_) | refine g_icmp_ge (tgt := 62) dX1_smallest_33 (by decide) (fun c_33 => ?_) (fun c_33 => ?_)
      · exact g_throw0 (names := ["java/lang/RuntimeException", "java/lang/Exception"]) (by decide +kernel) (by decide +kernel) q1142 q98 at_SecretVault_NoSuchElementException at_SecretVault_NoSuchElementException_g dX1_smallest_62 dX1_smallest_65 dX1_smallest_66 dX1_smallest_69 (fun _ z => nomatch z) (by decide) (Nat.le_of_ble_eq_true rfl) (Nat.le_of_ble_eq_true rfl) (Nat.le_of_ble_eq_true rfl) (fun q => ⟨by unfold cX xc_smallest; rw [hf]; (repeat' split) <;> first | exact ⟨Nat.zero_lt_succ _, rfl⟩ | (exfalso; omega), hF⟩)
      · omega
    | succ n ih =>
      intro i hn hf
      have hbl := siN_le (M 1) s i
      refine g_iload5 dX1_smallest_28 ?_
      refine g_sipush (nI 256) dX1_smallest_30 (by decide) ?_
      first | refine g_icmpN_ge (tgt := 62) dX1_smallest_33 (by decide) (by omega) (by omega) (fun c_33 => ?_) (fun c_33 => ?_) | refine g_icmp_ge (tgt := 62) dX1_smallest_33 (by decide) (fun c_33 => ?_) (fun c_33 => ?_)
      · omega
      · first | refine g_aload3 dX1_smallest_36 ?_ | refine g_aloadQ3 dX1_smallest_36 ?_ | refine g_aloadN3 dX1_smallest_36 ?_
        refine g_iload5 dX1_smallest_37 ?_
        refine g_callVR (ctX22_isSmallest i hgr (by omega)) kX22_isSmallest q1999 (gRv.g hgr.choose_spec.choose_spec.1 rfl rfl) (by decide) ⟨Nat.le_of_ble_eq_true rfl, Nat.le_of_ble_eq_true rfl⟩ rfl (Nat.le_of_ble_eq_true rfl) dX1_smallest_39 k_x (k_n (fun r_39 h_39 p_39 => ?_))
        obtain ⟨rfl, z_39⟩ := p_39
        rw [z_39]
        refine V.wide (k' := 9) (n' := 400) (Nat.le_refl _) (Nat.le_refl _) ?_
        have hsl := smS_l (M 1) s i 8
        refine g_ifN_eq (tgt := 56) dX1_smallest_42 (by decide) (by omega) (fun c_42 => ?_) (fun c_42 => ?_)
        · have hb : ¬ smS (M 1) s i 8 = 1 := by omega
          first | refine g_iincN5 1 dX1_smallest_56 (by decide) (by decide) ?_ | refine g_iinc5 _ dX1_smallest_56 rfl (by decide) ?_
          refine g_goto (tgt := 28) dX1_smallest_59 (by decide) ?_
          have hbF : siF (M 1) s k (i + 1) = 0 := by rw [siF, if_pos hf]; first | rw [if_neg (fun z => hb z.1)] | rw [if_neg (fun z => hnk z.2)]
          first | (have e1 : siN (M 1) s (i + 1) = siN (M 1) s i := by rw [siN, if_neg hb]; rfl
                   rw [← e1]
                   exact ih (i + 1) (by omega) hbF) | (have e1 : siN (M 1) s (i + 1) = siN (M 1) s i + 1 := by rw [siN, if_pos hbd]
                                                       rw [sub_m1, ← e1]
                                                       exact ih (i + 1) (by omega) hbF)
        · have hbd : smS (M 1) s i 8 = 1 := by omega
          refine g_iload4 dX1_smallest_45 ?_
          refine g_if_ne (tgt := 53) dX1_smallest_47 (by decide) (fun c_47 => ?_) (fun c_47 => ?_)
          · have hnk : ¬ siN (M 1) s i = k := fun z => c_47 ((sub_eq0 hk (by omega)).mpr z.symm)
            refine g_iinc4 _ dX1_smallest_53 rfl (by decide) ?_
            first | refine g_iincN5 1 dX1_smallest_56 (by decide) (by decide) ?_ | refine g_iinc5 _ dX1_smallest_56 rfl (by decide) ?_
            refine g_goto (tgt := 28) dX1_smallest_59 (by decide) ?_
            have hbF : siF (M 1) s k (i + 1) = 0 := by rw [siF, if_pos hf]; first | rw [if_neg (fun z => hb z.1)] | rw [if_neg (fun z => hnk z.2)]
            first | (have e1 : siN (M 1) s (i + 1) = siN (M 1) s i := by rw [siN, if_neg hb]; rfl
                     rw [← e1]
                     exact ih (i + 1) (by omega) hbF) | (have e1 : siN (M 1) s (i + 1) = siN (M 1) s i + 1 := by rw [siN, if_pos hbd]
                                                         rw [sub_m1, ← e1]
                                                         exact ih (i + 1) (by omega) hbF)
          · have hk9 := (sub_eq0 hk (by omega)).mp c_47
            have hf9 : siF (M 1) s k (i + 1) = i + 1 := by rw [siF, if_pos hf, if_pos ⟨hbd, hk9.symm⟩]
            have hf24 : siF (M 1) s k 256 = i + 1 := by have hq := siF_up (M 1) s k (i + 1) (255 - i) (by omega); rw [show i + 1 + (255 - i) = 256 by omega] at hq; omega
            refine g_iload5 dX1_smallest_50 ?_
            exact g_iret dX1_smallest_52 rfl ⟨_, rfl, (by unfold xc_smallest; rw [hf24]; (repeat' split) <;> first | rfl | (exfalso; omega)), (by unfold xv_smallest; rw [hf24]; rfl), hF⟩
  refine g_iload1 dX1_smallest_0 ?_
  refine g_iconst (nI 4) dX1_smallest_1 (by decide) ?_
  refine g_callS (ctX1_requireIndex s 4 (by omega) (by decide)) kX1_requireIndex q917 (by decide) ⟨Nat.le_of_ble_eq_true rfl, Nat.le_of_ble_eq_true rfl⟩ rfl (Nat.le_of_ble_eq_true rfl) dX1_smallest_2 (fun C_ q_ h2_ px => by obtain ⟨rfl, c_2, rfl⟩ := px; exact gx_out0 rfl ⟨(by unfold cX xc_smallest; (repeat' split) <;> first | exact ⟨Nat.zero_lt_succ _, rfl⟩ | (exfalso; omega)), Fr.rf⟩ (Nat.le_of_ble_eq_true rfl) (Nat.le_of_ble_eq_true rfl)) (k_v (fun h_2 p_2 => ?_))
  obtain ⟨i_2, z_2⟩ := p_2
  rw [z_2]
  refine g_new 20 (1010) [.null] in_X22 tyX22_ok q1975 q1976 q118 rfl nwX22 (Nat.le_of_ble_eq_true rfl) (Nat.le_of_ble_eq_true rfl) dX1_smallest_5 (fun q_5 f_5 => ?_)
  have F0 : Fr tP h (g_up h q_5 (1010, gO 20 [.null])) := Fr.new f_5
  have hV2 : VX9 E M v L9 w b sv (g_up h q_5 (1010, gO 20 [.null])) := VX9.fr ⟨hv, ⟨aw, ap, az, ad, fw, fp, fz, x1, x2, x3, x4, x5, x6, x7, x8⟩, hsv, hsb, hlen, hch⟩ F0 (fun _ z => z)
  have hv3 := g_upf (z := (1010, gO 20 [.null])) hv f_5
  have hV3 : VO E M v L9 (g_up h q_5 (1010, gO 20 [.null])) := ⟨w, b, sv, hV2⟩
  refine g_dup dX1_smallest_8 rfl ?_
  first | refine g_aload0 dX1_smallest_9 ?_ | refine g_aloadQ0 dX1_smallest_9 ?_ | refine g_aloadN0 dX1_smallest_9 ?_
  refine g_get (k0 := 0) (by first | assumption | exact g_up_self _ _ _ | (refine g_upf ?_ ?_ <;> assumption) | (refine g_upt ?_ ?_ (by decide) <;> assumption)) in_X1 q577 rfl (by decide) rfl dX1_smallest_10 ?_
  first | refine g_aload0 dX1_smallest_13 ?_ | refine g_aloadQ0 dX1_smallest_13 ?_ | refine g_aloadN0 dX1_smallest_13 ?_
  refine g_iload1 dX1_smallest_14 ?_
  refine g_callVR (ctX1_secretIn hV3 hW s (by omega)) kX1_secretIn q1135 hV3.rv (by decide) ⟨Nat.le_of_ble_eq_true rfl, Nat.le_of_ble_eq_true rfl⟩ rfl (Nat.le_of_ble_eq_true rfl) dX1_smallest_15 (fun C_ q_ h2_ px => by obtain ⟨rfl, c_15, rfl⟩ := px; exact gx_out0 rfl ⟨(by unfold cX xc_smallest; (repeat' split) <;> first | exact ⟨Nat.zero_lt_succ _, rfl⟩ | (exfalso; omega)), F0⟩ (Nat.le_of_ble_eq_true rfl) (Nat.le_of_ble_eq_true rfl)) (k_r (fun r_15 h_15 p_15 => ?_))
  obtain ⟨g1, hse, z_15⟩ := p_15
  rw [z_15]
  refine g_callI (ctX22_init (s := s) (g := M 1) (B := 100) (S := 110 + 30 * s) (g_up_self _ _ _) hV2.wm hW.wb hse (hW.sl (by omega)) g1 ⟨by decide, by omega, by omega⟩) kX22_init q1977 (by decide) ⟨Nat.le_of_ble_eq_true rfl, Nat.le_of_ble_eq_true rfl⟩ rfl (Nat.le_of_ble_eq_true rfl) dX1_smallest_18 k_x (k_v (fun h_18 p_18 => ?_))
  obtain ⟨hgr, G_18⟩ := p_18
  have F_18 : Fr tP h h_18 := Fa.frN f_5 G_18
  first | refine g_astore3 dX1_smallest_21 (by decide) ?_ | refine g_astoreQ3 dX1_smallest_21 (by decide) ?_ | refine g_astoreN3 dX1_smallest_21 (by decide) ?_
  refine g_iload2 dX1_smallest_22 ?_
  refine g_istore4 dX1_smallest_23 (by decide) ?_
  refine g_iconst (nI 0) dX1_smallest_25 (by decide) ?_
  refine g_istore5 dX1_smallest_26 (by decide) ?_
  have q9 := K _ _ hgr F_18 i_2 g1 256 0 rfl rfl
  rw [show siN (M 1) s 0 = 0 from rfl, sub_z] at q9
  refine V.wide (k' := 9) (n' := 400) (by decide) (by decide) ?_
  exact q9
abbrev mX1_healthBits : GM := (yX1_healthBits, 3, (some .int), [], { frames := 8, cells := 900, slots := 90000, locals := 131 }, 255)
theorem kX1_healthBits : gCv cX1_healthBits mX1_healthBits 1 := ⟨q2043, q2044, q67, q2045, ⟨by decide +kernel, by decide +kernel, by decide +kernel⟩, rfl⟩
theorem uX1_healthBits : gCu cX1_healthBits mX1_healthBits 1 := ⟨q2043, q67, q2045, ⟨by decide +kernel, by decide +kernel, by decide +kernel⟩, rfl⟩
set_option maxHeartbeats 400000 in
theorem ctX1_healthBits {E : GE} {h : AH} {v : Nat} {L9 : List Nat} (M : TW) (s : Nat) (hV : VO E M v L9 h) (hW : vW M) (hs : s < 4294967296)  : Ct E cX1_healthBits mX1_healthBits [.ref v, .int (nI s)] (h) (pN fun r h' => xc_healthBits M s = 0 ∧ r = xv_healthBits M s ∧ Fr tP h h') (fun C _ h' => cX ["java/lang/IndexOutOfBoundsException", "java/util/NoSuchElementException", "java/lang/ArithmeticException"] C (xc_healthBits M s) ∧ Fr tP h h') := by
  refine g_enter (own := "SecretVault") [some (.ref v), some (.int (nI s)), none] (by decide +kernel) rfl rfl (Nat.le_of_ble_eq_true rfl) rfl rfl (fun X => ?_)
  refine V.hE (fun hE => ?_)
  refine g_iload1 dX1_healthBits_0 ?_
  refine g_iconst (nI 4) dX1_healthBits_1 (by decide) ?_
  refine g_callS (ctX1_requireIndex s 4 (by omega) (by decide)) kX1_requireIndex q917 (by decide) ⟨Nat.le_of_ble_eq_true rfl, Nat.le_of_ble_eq_true rfl⟩ rfl (Nat.le_of_ble_eq_true rfl) dX1_healthBits_2 (fun C_ q_ h2_ px => by obtain ⟨rfl, c_2, rfl⟩ := px; exact gx_out0 rfl ⟨(by unfold cX xc_healthBits; (repeat' split) <;> first | exact ⟨Nat.zero_lt_succ _, rfl⟩ | (exfalso; omega)), Fr.rf⟩ (Nat.le_of_ble_eq_true rfl) (Nat.le_of_ble_eq_true rfl)) (k_v (fun h_2 p_2 => ?_))
  obtain ⟨i_2, z_2⟩ := p_2
  rw [z_2]
  first | refine g_aload0 dX1_healthBits_5 ?_ | refine g_aloadQ0 dX1_healthBits_5 ?_ | refine g_aloadN0 dX1_healthBits_5 ?_
  refine g_iload1 dX1_healthBits_6 ?_
  refine g_callVR (ctX1_secretIn hV hW s (by omega)) kX1_secretIn q1135 hV.rv (by decide) ⟨Nat.le_of_ble_eq_true rfl, Nat.le_of_ble_eq_true rfl⟩ rfl (Nat.le_of_ble_eq_true rfl) dX1_healthBits_7 (fun C_ q_ h2_ px => by obtain ⟨rfl, c_7, rfl⟩ := px; exact gx_out0 rfl ⟨(by unfold cX xc_healthBits; (repeat' split) <;> first | exact ⟨Nat.zero_lt_succ _, rfl⟩ | (exfalso; omega)), Fr.rf⟩ (Nat.le_of_ble_eq_true rfl) (Nat.le_of_ble_eq_true rfl)) (k_r (fun r_7 h_7 p_7 => ?_))
  obtain ⟨g1, hse, z_7⟩ := p_7
  rw [z_7]
  first | refine g_astore2 dX1_healthBits_10 (by decide) ?_ | refine g_astoreQ2 dX1_healthBits_10 (by decide) ?_ | refine g_astoreN2 dX1_healthBits_10 (by decide) ?_
  first | refine g_aload2 dX1_healthBits_11 ?_ | refine g_aloadQ2 dX1_healthBits_11 ?_ | refine g_aloadN2 dX1_healthBits_11 ?_
  refine g_callVR (ctX5_count hse (hW.sl (by omega)) g1) kX5_count q1123 hse.rv (by decide) ⟨Nat.le_of_ble_eq_true rfl, Nat.le_of_ble_eq_true rfl⟩ rfl (Nat.le_of_ble_eq_true rfl) dX1_healthBits_12 k_x (k_n (fun r_12 h_12 p_12 => ?_))
  obtain ⟨rfl, z_12⟩ := p_12
  rw [z_12]
  have hc1 := cnF_le (M 1) s 4294967295 24
  have hc2 := cnF_le (M 1) s 0 24
  first | refine g_ifN_ne (tgt := 26) dX1_healthBits_15 (by decide) (by omega) (fun c_15 => ?_) (fun c_15 => ?_) | refine g_if_ne (tgt := 26) dX1_healthBits_15 (by decide) (fun c_15 => ?_) (fun c_15 => ?_)
  · first | refine g_aload2 dX1_healthBits_26 ?_ | refine g_aloadQ2 dX1_healthBits_26 ?_ | refine g_aloadN2 dX1_healthBits_26 ?_
    refine g_gets (ref := "SecretVault$State") hE.sz0 q1512 dX1_healthBits_27 ?_
    refine g_callVR (ctX5_countOf 0 (by decide) hse (hW.sl (by omega)) g1) kX5_countOf q1513 hse.rv (by decide) ⟨Nat.le_of_ble_eq_true rfl, Nat.le_of_ble_eq_true rfl⟩ rfl (Nat.le_of_ble_eq_true rfl) dX1_healthBits_30 k_x (k_n (fun r_30 h_30 p_30 => ?_))
    obtain ⟨rfl, z_30⟩ := p_30
    rw [z_30]
    have hok := fv_ok (cnF (M 1) s 4294967295 24) (by omega) (cnF (M 1) s 0 24) (by omega) c_15
    obtain ⟨hvf, hcd⟩ := hok
    unfold fvN at hvf hcd
    refine g_i2f dX1_healthBits_33 ?_
    first | refine g_aload2 dX1_healthBits_34 ?_ | refine g_aloadQ2 dX1_healthBits_34 ?_ | refine g_aloadN2 dX1_healthBits_34 ?_
    refine g_callVR (ctX5_count hse (hW.sl (by omega)) g1) kX5_count q1123 hse.rv (by decide) ⟨Nat.le_of_ble_eq_true rfl, Nat.le_of_ble_eq_true rfl⟩ rfl (Nat.le_of_ble_eq_true rfl) dX1_healthBits_35 k_x (k_n (fun r_35 h_35 p_35 => ?_))
    obtain ⟨rfl, z_35⟩ := p_35
    rw [z_35]
    have hc1 := cnF_le (M 1) s 4294967295 24
    have hc2 := cnF_le (M 1) s 0 24
    refine g_i2f dX1_healthBits_38 ?_
    refine g_fdiv dX1_healthBits_39 (by assumption) ?_
    refine g_callS (ctJ30_floatToIntBits _ hcd) kJ30_floatToIntBits q2051 (by decide) ⟨Nat.le_of_ble_eq_true rfl, Nat.le_of_ble_eq_true rfl⟩ rfl (Nat.le_of_ble_eq_true rfl) dX1_healthBits_40 k_x (k_n (fun r_40 h_40 p_40 => ?_))
    obtain ⟨rfl, z_40⟩ := p_40
    rw [z_40]
    exact g_iret dX1_healthBits_43 rfl ⟨_, rfl, (by unfold xc_healthBits; (repeat' split) <;> first | rfl | (exfalso; omega)), rfl, Fr.rf⟩
  · exact g_throw0 (names := ["java/lang/RuntimeException", "java/lang/Exception"]) (by decide +kernel) (by decide +kernel) q2046 q120 at_SecretVault_ArithmeticException at_SecretVault_ArithmeticException_g dX1_healthBits_18 dX1_healthBits_21 dX1_healthBits_22 dX1_healthBits_25 (fun _ z => nomatch z) (by decide) (Nat.le_of_ble_eq_true rfl) (Nat.le_of_ble_eq_true rfl) (Nat.le_of_ble_eq_true rfl) (fun q => ⟨by unfold cX xc_healthBits; (repeat' split) <;> first | exact ⟨Nat.zero_lt_succ _, rfl⟩ | (exfalso; omega), Fr.rf⟩)
abbrev mX1_secret : GM := (yX1_secret, 4, (some .int), [], { frames := 8, cells := 900, slots := 90000, locals := 131 }, 255)
theorem kX1_secret : gCv cX1_secret mX1_secret 2 := ⟨q1509, q1510, q67, q1511, ⟨by decide +kernel, by decide +kernel, by decide +kernel⟩, rfl⟩
theorem uX1_secret : gCu cX1_secret mX1_secret 2 := ⟨q1509, q67, q1511, ⟨by decide +kernel, by decide +kernel, by decide +kernel⟩, rfl⟩
set_option maxHeartbeats 400000 in
theorem ctX1_secret {E : GE} {h : AH} {v : Nat} {L9 : List Nat} (M : TW) (s : Nat) (w : Nat) (hV : VO E M v L9 h) (hW : vW M) (hs : s < 4294967296) (hw : w < 4294967296)  : Ct E cX1_secret mX1_secret [.ref v, .int (nI s), .int (nI w)] (h) (pN fun r h' => xc_secret M s w = 0 ∧ r = xv_secret M s w ∧ Fr tP h h') (fun C _ h' => cX ["java/lang/IndexOutOfBoundsException", "java/lang/IllegalArgumentException", "java/util/NoSuchElementException"] C (xc_secret M s w) ∧ Fr tP h h') := by
  refine g_enter (own := "SecretVault") [some (.ref v), some (.int (nI s)), some (.int (nI w)), none] (by decide +kernel) rfl rfl (Nat.le_of_ble_eq_true rfl) rfl rfl (fun X => ?_)
  refine V.hE (fun hE => ?_)
  refine g_iload1 dX1_secret_0 ?_
  refine g_iconst (nI 4) dX1_secret_1 (by decide) ?_
  refine g_callS (ctX1_requireIndex s 4 (by omega) (by decide)) kX1_requireIndex q917 (by decide) ⟨Nat.le_of_ble_eq_true rfl, Nat.le_of_ble_eq_true rfl⟩ rfl (Nat.le_of_ble_eq_true rfl) dX1_secret_2 (fun C_ q_ h2_ px => by obtain ⟨rfl, c_2, rfl⟩ := px; exact gx_out0 rfl ⟨(by unfold cX xc_secret; (repeat' split) <;> first | exact ⟨Nat.zero_lt_succ _, rfl⟩ | (exfalso; omega)), Fr.rf⟩ (Nat.le_of_ble_eq_true rfl) (Nat.le_of_ble_eq_true rfl)) (k_v (fun h_2 p_2 => ?_))
  obtain ⟨i_2, z_2⟩ := p_2
  rw [z_2]
  refine g_iload2 dX1_secret_5 ?_
  refine g_iconst (nI 0) dX1_secret_6 (by decide) ?_
  refine g_bipush (nI 6) dX1_secret_7 (by decide) ?_
  refine g_callS (ctX1_in w 0 6 (by omega) (by omega) (by omega)) kX1_in q935 (by decide) ⟨Nat.le_of_ble_eq_true rfl, Nat.le_of_ble_eq_true rfl⟩ rfl (Nat.le_of_ble_eq_true rfl) dX1_secret_9 k_x (k_n (fun r_9 h_9 p_9 => ?_))
  obtain ⟨b_9, i_9, z_9⟩ := p_9
  rw [z_9]
  refine g_callS (ctX1_require _ (by omega)) kX1_require q938 (by decide) ⟨Nat.le_of_ble_eq_true rfl, Nat.le_of_ble_eq_true rfl⟩ rfl (Nat.le_of_ble_eq_true rfl) dX1_secret_12 (fun C_ q_ h2_ px => by obtain ⟨rfl, c_12, rfl⟩ := px; exact gx_out0 rfl ⟨(by unfold cX xc_secret; (repeat' split) <;> first | exact ⟨Nat.zero_lt_succ _, rfl⟩ | (exfalso; omega)), Fr.rf⟩ (Nat.le_of_ble_eq_true rfl) (Nat.le_of_ble_eq_true rfl)) (k_v (fun h_12 p_12 => ?_))
  obtain ⟨b_12, z_12⟩ := p_12
  rw [z_12]
  first | refine g_aload0 dX1_secret_15 ?_ | refine g_aloadQ0 dX1_secret_15 ?_ | refine g_aloadN0 dX1_secret_15 ?_
  refine g_iload1 dX1_secret_16 ?_
  refine g_callVR (ctX1_secretIn hV hW s (by omega)) kX1_secretIn q1135 hV.rv (by decide) ⟨Nat.le_of_ble_eq_true rfl, Nat.le_of_ble_eq_true rfl⟩ rfl (Nat.le_of_ble_eq_true rfl) dX1_secret_17 (fun C_ q_ h2_ px => by obtain ⟨rfl, c_17, rfl⟩ := px; exact gx_out0 rfl ⟨(by unfold cX xc_secret; (repeat' split) <;> first | exact ⟨Nat.zero_lt_succ _, rfl⟩ | (exfalso; omega)), Fr.rf⟩ (Nat.le_of_ble_eq_true rfl) (Nat.le_of_ble_eq_true rfl)) (k_r (fun r_17 h_17 p_17 => ?_))
  obtain ⟨g1, hse, z_17⟩ := p_17
  rw [z_17]
  obtain ⟨cc_, bb_, pp_, fc, fs_, y1, y2, y3, y4, y5, y6⟩ := id hse
  have hsl := hW.sl (show s < 4 by omega)
  have hk8 := hsl.2.2.1
  first | refine g_astore3 dX1_secret_20 (by decide) ?_ | refine g_astoreQ3 dX1_secret_20 (by decide) ?_ | refine g_astoreN3 dX1_secret_20 (by decide) ?_
  refine g_iload2 dX1_secret_21 ?_
  rcases (show w = 0 ∨ w = 1 ∨ w = 2 ∨ w = 3 ∨ w = 4 ∨ w = 5 ∨ w = 6 by omega) with rfl | rfl | rfl | rfl | rfl | rfl | rfl
  · refine g_tableIn (tgt := 60) dX1_secret_22 (by decide) (by decide) rfl (by decide) ?_
    first | refine g_aload3 dX1_secret_60 ?_ | refine g_aloadQ3 dX1_secret_60 ?_ | refine g_aloadN3 dX1_secret_60 ?_
    refine g_getN (k0 := 0) (by first | assumption | exact g_up_self _ _ _ | (refine g_upf ?_ ?_ <;> assumption) | (refine g_upt ?_ ?_ (by decide) <;> assumption)) in_X5 q657 rfl (by decide) rfl dX1_secret_61 ?_
    refine g_goto (tgt := 123) dX1_secret_64 (by decide) ?_
    exact g_iret dX1_secret_123 rfl ⟨_, rfl, (by unfold xc_secret; (repeat' split) <;> first | rfl | (exfalso; omega)), (by first | rfl | exact (if_pos hz).symm | exact (if_neg hz).symm), Fr.rf⟩
  · refine g_tableIn (tgt := 67) dX1_secret_22 (by decide) (by decide) rfl (by decide) ?_
    first | refine g_aload3 dX1_secret_67 ?_ | refine g_aloadQ3 dX1_secret_67 ?_ | refine g_aloadN3 dX1_secret_67 ?_
    refine g_getN (k0 := 1) (by first | assumption | exact g_up_self _ _ _ | (refine g_upf ?_ ?_ <;> assumption) | (refine g_upt ?_ ?_ (by decide) <;> assumption)) in_X5 q663 rfl (by decide) rfl dX1_secret_68 ?_
    refine g_goto (tgt := 123) dX1_secret_71 (by decide) ?_
    exact g_iret dX1_secret_123 rfl ⟨_, rfl, (by unfold xc_secret; (repeat' split) <;> first | rfl | (exfalso; omega)), (by first | rfl | exact (if_pos hz).symm | exact (if_neg hz).symm), Fr.rf⟩
  · refine g_tableIn (tgt := 74) dX1_secret_22 (by decide) (by decide) rfl (by decide) ?_
    first | refine g_aload3 dX1_secret_74 ?_ | refine g_aloadQ3 dX1_secret_74 ?_ | refine g_aloadN3 dX1_secret_74 ?_
    refine g_callVR (ctX5_count hse (hW.sl (by omega)) g1) kX5_count q1123 hse.rv (by decide) ⟨Nat.le_of_ble_eq_true rfl, Nat.le_of_ble_eq_true rfl⟩ rfl (Nat.le_of_ble_eq_true rfl) dX1_secret_75 k_x (k_n (fun r_75 h_75 p_75 => ?_))
    obtain ⟨rfl, z_75⟩ := p_75
    rw [z_75]
    have hc1 := cnF_le (M 1) s 4294967295 24
    have hc2 := cnF_le (M 1) s 0 24
    refine g_goto (tgt := 123) dX1_secret_78 (by decide) ?_
    exact g_iret dX1_secret_123 rfl ⟨_, rfl, (by unfold xc_secret; (repeat' split) <;> first | rfl | (exfalso; omega)), (by first | rfl | exact (if_pos hz).symm | exact (if_neg hz).symm), Fr.rf⟩
  · refine g_tableIn (tgt := 81) dX1_secret_22 (by decide) (by decide) rfl (by decide) ?_
    first | refine g_aload3 dX1_secret_81 ?_ | refine g_aloadQ3 dX1_secret_81 ?_ | refine g_aloadN3 dX1_secret_81 ?_
    refine g_gets (ref := "SecretVault$State") hE.sz0 q1512 dX1_secret_82 ?_
    refine g_callVR (ctX5_countOf 0 (by decide) hse (hW.sl (by omega)) g1) kX5_countOf q1513 hse.rv (by decide) ⟨Nat.le_of_ble_eq_true rfl, Nat.le_of_ble_eq_true rfl⟩ rfl (Nat.le_of_ble_eq_true rfl) dX1_secret_85 k_x (k_n (fun r_85 h_85 p_85 => ?_))
    obtain ⟨rfl, z_85⟩ := p_85
    rw [z_85]
    refine g_goto (tgt := 123) dX1_secret_88 (by decide) ?_
    exact g_iret dX1_secret_123 rfl ⟨_, rfl, (by unfold xc_secret; (repeat' split) <;> first | rfl | (exfalso; omega)), (by first | rfl | exact (if_pos hz).symm | exact (if_neg hz).symm), Fr.rf⟩
  · refine g_tableIn (tgt := 91) dX1_secret_22 (by decide) (by decide) rfl (by decide) ?_
    first | refine g_aload3 dX1_secret_91 ?_ | refine g_aloadQ3 dX1_secret_91 ?_ | refine g_aloadN3 dX1_secret_91 ?_
    refine g_gets (ref := "SecretVault$State") hE.sz1 q1517 dX1_secret_92 ?_
    refine g_callVR (ctX5_countOf 1 (by decide) hse (hW.sl (by omega)) g1) kX5_countOf q1513 hse.rv (by decide) ⟨Nat.le_of_ble_eq_true rfl, Nat.le_of_ble_eq_true rfl⟩ rfl (Nat.le_of_ble_eq_true rfl) dX1_secret_95 k_x (k_n (fun r_95 h_95 p_95 => ?_))
    obtain ⟨rfl, z_95⟩ := p_95
    rw [z_95]
    refine g_goto (tgt := 123) dX1_secret_98 (by decide) ?_
    exact g_iret dX1_secret_123 rfl ⟨_, rfl, (by unfold xc_secret; (repeat' split) <;> first | rfl | (exfalso; omega)), (by first | rfl | exact (if_pos hz).symm | exact (if_neg hz).symm), Fr.rf⟩
  · refine g_tableIn (tgt := 101) dX1_secret_22 (by decide) (by decide) rfl (by decide) ?_
    first | refine g_aload3 dX1_secret_101 ?_ | refine g_aloadQ3 dX1_secret_101 ?_ | refine g_aloadN3 dX1_secret_101 ?_
    refine g_gets (ref := "SecretVault$State") hE.sz2 q1519 dX1_secret_102 ?_
    refine g_callVR (ctX5_countOf 2 (by decide) hse (hW.sl (by omega)) g1) kX5_countOf q1513 hse.rv (by decide) ⟨Nat.le_of_ble_eq_true rfl, Nat.le_of_ble_eq_true rfl⟩ rfl (Nat.le_of_ble_eq_true rfl) dX1_secret_105 k_x (k_n (fun r_105 h_105 p_105 => ?_))
    obtain ⟨rfl, z_105⟩ := p_105
    rw [z_105]
    refine g_goto (tgt := 123) dX1_secret_108 (by decide) ?_
    exact g_iret dX1_secret_123 rfl ⟨_, rfl, (by unfold xc_secret; (repeat' split) <;> first | rfl | (exfalso; omega)), (by first | rfl | exact (if_pos hz).symm | exact (if_neg hz).symm), Fr.rf⟩
  · refine g_tableOut (tgt := 111) dX1_secret_22 (Or.inr (by decide)) (by decide) ?_
    first | refine g_aload3 dX1_secret_111 ?_ | refine g_aloadQ3 dX1_secret_111 ?_ | refine g_aloadN3 dX1_secret_111 ?_
    refine g_getN (k0 := 3) (by first | assumption | exact g_up_self _ _ _ | (refine g_upf ?_ ?_ <;> assumption) | (refine g_upt ?_ ?_ (by decide) <;> assumption)) in_X5 q668 rfl (by decide) rfl dX1_secret_112 ?_
    refine g_ifnonnull (tgt := 122) dX1_secret_115 (by decide) (fun a_115 c_115 => ?_) (fun c_115 => ?_)
    · have hz : 0 < gOf (M 1) s 11 := by
        rcases y6 with ⟨-, z⟩ | ⟨z, -⟩
        · rw [z] at c_115; cases c_115
        · omega
      refine g_iconst (nI 1) dX1_secret_122 (by decide) ?_
      exact g_iret dX1_secret_123 rfl ⟨_, rfl, (by unfold xc_secret; (repeat' split) <;> first | rfl | (exfalso; omega)), (by first | rfl | exact (if_pos hz).symm | exact (if_neg hz).symm), Fr.rf⟩
    · have hz : ¬ 0 < gOf (M 1) s 11 := by
        rcases y6 with ⟨z, -⟩ | ⟨-, a9, z, -⟩
        · omega
        · rw [z] at c_115; cases c_115
      refine g_iconst (nI 0) dX1_secret_118 (by decide) ?_
      refine g_goto (tgt := 123) dX1_secret_119 (by decide) ?_
      exact g_iret dX1_secret_123 rfl ⟨_, rfl, (by unfold xc_secret; (repeat' split) <;> first | rfl | (exfalso; omega)), (by first | rfl | exact (if_pos hz).symm | exact (if_neg hz).symm), Fr.rf⟩
abbrev mX1_shareAt : GM := (yX1_shareAt, 4, (some (.object "SecretVault$Share")), [], { frames := 8, cells := 2, slots := 12, locals := 131 }, 255)
theorem kX1_shareAt : gCv cX1_shareAt mX1_shareAt 2 := ⟨q1540, qs11, q67, q1541, ⟨by decide +kernel, by decide +kernel, by decide +kernel⟩, rfl⟩
theorem uX1_shareAt : gCu cX1_shareAt mX1_shareAt 2 := ⟨q1540, q67, q1541, ⟨by decide +kernel, by decide +kernel, by decide +kernel⟩, rfl⟩
set_option maxHeartbeats 400000 in
theorem ctX1_shareAt {E : GE} {h : AH} {v : Nat} {L9 : List Nat} {M : TW} (hV : VO E M v L9 h) (hW : vW M) (s x : Nat) (hs : s < 4) (hx : 1 ≤ x ∧ x ≤ 24) : Ct E cX1_shareAt mX1_shareAt [.ref v, .int (nI s), .int (nI x)] (h) (pR fun r h' => gSh (M 1) s x 0 = 1 ∧ gOf (M 1) s 0 = 1 ∧ h r = some (110 + 30 * s + 3 + x, shC (M 1) s x) ∧ h' = h) (fun C _ h' => C = "java/util/NoSuchElementException" ∧ ¬ gSh (M 1) s x 0 = 1 ∧ h' = h) := by
  refine g_enter (own := "SecretVault") [some (.ref v), some (.int (nI s)), some (.int (nI x)), none] (by decide +kernel) rfl rfl (Nat.le_of_ble_eq_true rfl) rfl rfl (fun X => ?_)
  have hsl := hW.sl hs
  by_cases hg1 : gSh (M 1) s x 0 = 1
  · skip
    first | refine g_aload0 dX1_shareAt_0 ?_ | refine g_aloadQ0 dX1_shareAt_0 ?_ | refine g_aloadN0 dX1_shareAt_0 ?_
    refine g_iload1 dX1_shareAt_1 ?_
    refine g_callVR (ctX1_secretIn hV hW s hs) kX1_secretIn q1135 hV.rv (by decide) ⟨Nat.le_of_ble_eq_true rfl, Nat.le_of_ble_eq_true rfl⟩ rfl (Nat.le_of_ble_eq_true rfl) dX1_shareAt_2 (fun C_ q_ h2_ px => by obtain ⟨rfl, c_2, rfl⟩ := px; have hg := (hsl.2.2.2.2.2.2 x hx.1 hx.2).1; exact gx_out0 rfl ⟨rfl, by omega, rfl⟩ (Nat.le_of_ble_eq_true rfl) (Nat.le_of_ble_eq_true rfl)) (k_r (fun r_2 h_2 p_2 => ?_))
    obtain ⟨g1, hse, z_2⟩ := p_2
    rw [z_2]
    obtain ⟨cc_, bb_, pp_, fc, fs_, y1, y2, y3, y4, y5, y6⟩ := id hse
    obtain ⟨q1, z2, z3⟩ : ∃ q1, fs_ x = some q1 ∧ h q1 = some (110 + 30 * s + 3 + x, shC (M 1) s x) := (y5 x hx.1 hx.2).elim (fun z => z.2) (fun z => absurd hg1 z.1)
    refine g_getN (k0 := 4) (by first | assumption | exact g_up_self _ _ _ | (refine g_upf ?_ ?_ <;> assumption) | (refine g_upt ?_ ?_ (by decide) <;> assumption)) in_X5 q671 rfl (by decide) rfl dX1_shareAt_5 ?_
    refine g_iload2 dX1_shareAt_8 ?_
    refine g_aald y4 rfl (by omega) (by omega) dX1_shareAt_9 ?_
    rw [z2]
    change V _ _ _ _ _ _ _ _ _ _ _ _ [.ref q1]
    first | refine g_astore3 dX1_shareAt_10 (by decide) ?_ | refine g_astoreQ3 dX1_shareAt_10 (by decide) ?_ | refine g_astoreN3 dX1_shareAt_10 (by decide) ?_
    first | refine g_aload3 dX1_shareAt_11 ?_ | refine g_aloadQ3 dX1_shareAt_11 ?_ | refine g_aloadN3 dX1_shareAt_11 ?_
    refine g_ifnullR dX1_shareAt_12 ?_
    refine g_iconst (nI 1) dX1_shareAt_15 (by decide) ?_
    refine g_goto (tgt := 20) dX1_shareAt_16 (by decide) ?_
    refine g_callS (ctX1_requireElement 1 (by decide)) kX1_requireElement q1139 (by decide) ⟨Nat.le_of_ble_eq_true rfl, Nat.le_of_ble_eq_true rfl⟩ rfl (Nat.le_of_ble_eq_true rfl) dX1_shareAt_20 (fun C_ q_ h2_ px => by obtain ⟨rfl, c_20, rfl⟩ := px; exact absurd c_20 (by decide)) (k_v (fun h_20 p_20 => ?_))
    obtain ⟨b_20, z_20⟩ := p_20
    rw [z_20]
    first | refine g_aload3 dX1_shareAt_23 ?_ | refine g_aloadQ3 dX1_shareAt_23 ?_ | refine g_aloadN3 dX1_shareAt_23 ?_
    exact g_aret dX1_shareAt_24 rfl (Or.inl ⟨_, rfl⟩) ⟨_, rfl, hg1, g1, z3, rfl⟩
  · skip
    first | refine g_aload0 dX1_shareAt_0 ?_ | refine g_aloadQ0 dX1_shareAt_0 ?_ | refine g_aloadN0 dX1_shareAt_0 ?_
    refine g_iload1 dX1_shareAt_1 ?_
    refine g_callVR (ctX1_secretIn hV hW s hs) kX1_secretIn q1135 hV.rv (by decide) ⟨Nat.le_of_ble_eq_true rfl, Nat.le_of_ble_eq_true rfl⟩ rfl (Nat.le_of_ble_eq_true rfl) dX1_shareAt_2 (fun C_ q_ h2_ px => by obtain ⟨rfl, c_2, rfl⟩ := px; have hg := (hsl.2.2.2.2.2.2 x hx.1 hx.2).1; exact gx_out0 rfl ⟨rfl, by omega, rfl⟩ (Nat.le_of_ble_eq_true rfl) (Nat.le_of_ble_eq_true rfl)) (k_r (fun r_2 h_2 p_2 => ?_))
    obtain ⟨g1, hse, z_2⟩ := p_2
    rw [z_2]
    obtain ⟨cc_, bb_, pp_, fc, fs_, y1, y2, y3, y4, y5, y6⟩ := id hse
    have z2 : fs_ x = none := (y5 x hx.1 hx.2).elim (fun z => absurd z.1 hg1) (fun z => z.2)
    refine g_getN (k0 := 4) (by first | assumption | exact g_up_self _ _ _ | (refine g_upf ?_ ?_ <;> assumption) | (refine g_upt ?_ ?_ (by decide) <;> assumption)) in_X5 q671 rfl (by decide) rfl dX1_shareAt_5 ?_
    refine g_iload2 dX1_shareAt_8 ?_
    refine g_aald y4 rfl (by omega) (by omega) dX1_shareAt_9 ?_
    rw [z2]
    change V _ _ _ _ _ _ _ _ _ _ _ _ [.null]
    first | refine g_astore3 dX1_shareAt_10 (by decide) ?_ | refine g_astoreQ3 dX1_shareAt_10 (by decide) ?_ | refine g_astoreN3 dX1_shareAt_10 (by decide) ?_
    first | refine g_aload3 dX1_shareAt_11 ?_ | refine g_aloadQ3 dX1_shareAt_11 ?_ | refine g_aloadN3 dX1_shareAt_11 ?_
    refine g_ifnullN (tgt := 19) dX1_shareAt_12 (by decide) ?_
    refine g_iconst (nI 0) dX1_shareAt_19 (by decide) ?_
    refine g_callS (ctX1_requireElement 0 (by decide)) kX1_requireElement q1139 (by decide) ⟨Nat.le_of_ble_eq_true rfl, Nat.le_of_ble_eq_true rfl⟩ rfl (Nat.le_of_ble_eq_true rfl) dX1_shareAt_20 (fun C_ q_ h2_ px => by obtain ⟨rfl, c_20, rfl⟩ := px; exact gx_out0 rfl ⟨rfl, hg1, rfl⟩ (Nat.le_of_ble_eq_true rfl) (Nat.le_of_ble_eq_true rfl)) (k_v (fun h_20 p_20 => ?_))
    exact absurd p_20.1 (by decide)
    
abbrev mX1_requirePlace : GM := (yX1_requirePlace, 1, none, [], { frames := 7, cells := 1, slots := 6, locals := 111 }, 255)
theorem kX1_requirePlace : gCs cX1_requirePlace mX1_requirePlace 1 := ⟨q1536, q67, q1537, ⟨by decide +kernel, by decide +kernel, by decide +kernel⟩, rfl⟩
set_option maxHeartbeats 400000 in
theorem ctX1_requirePlace {E : GE} {h : AH} (p : Nat) (hp : p < 4294967296) : Ct E cX1_requirePlace mX1_requirePlace [.int (nI p)] (h) (pV fun h' => (1 ≤ p ∧ p ≤ 24) ∧ h' = h) (fun C _ h' => C = "java/lang/IndexOutOfBoundsException" ∧ ¬ (1 ≤ p ∧ p ≤ 24) ∧ h' = h) := by
  refine g_enter (own := "SecretVault") [some (.int (nI p))] (by decide +kernel) rfl rfl (Nat.le_of_ble_eq_true rfl) rfl rfl (fun X => ?_)
  by_cases h0 : p = 0
  · subst h0
    refine g_iload0 dX1_requirePlace_0 ?_
    refine g_iconst (nI 1) dX1_requirePlace_1 (by decide) ?_
    refine g_isub dX1_requirePlace_2 ?_
    rw [show nI 0 - nI 1 = nI 4294967295 from rfl]
    refine g_bipush (nI 24) dX1_requirePlace_3 (by decide) ?_
    refine g_callS (ctX1_requireIndex 4294967295 24 (by decide) (by decide)) kX1_requireIndex q917 (by decide) ⟨Nat.le_of_ble_eq_true rfl, Nat.le_of_ble_eq_true rfl⟩ rfl (Nat.le_of_ble_eq_true rfl) dX1_requirePlace_5 (fun C_ q_ h2_ px => by obtain ⟨rfl, c_5, rfl⟩ := px; exact gx_out0 rfl ⟨rfl, by omega, rfl⟩ (Nat.le_of_ble_eq_true rfl) (Nat.le_of_ble_eq_true rfl)) (k_v (fun h_5 p_5 => ?_))
    exact absurd p_5.1 (by decide)
    
  · skip
    refine g_iload0 dX1_requirePlace_0 ?_
    refine g_iconst (nI 1) dX1_requirePlace_1 (by decide) ?_
    first | refine g_isubN dX1_requirePlace_2 (by omega) ?_ | refine g_isub dX1_requirePlace_2 ?_
    refine g_bipush (nI 24) dX1_requirePlace_3 (by decide) ?_
    refine g_callS (ctX1_requireIndex (p - 1) 24 (by omega) (by decide)) kX1_requireIndex q917 (by decide) ⟨Nat.le_of_ble_eq_true rfl, Nat.le_of_ble_eq_true rfl⟩ rfl (Nat.le_of_ble_eq_true rfl) dX1_requirePlace_5 (fun C_ q_ h2_ px => by obtain ⟨rfl, c_5, rfl⟩ := px; exact gx_out0 rfl ⟨rfl, by omega, rfl⟩ (Nat.le_of_ble_eq_true rfl) (Nat.le_of_ble_eq_true rfl)) (k_v (fun h_5 p_5 => ?_))
    obtain ⟨i_5, z_5⟩ := p_5
    rw [z_5]
    exact g_vret dX1_requirePlace_8 rfl ⟨rfl, by omega, rfl⟩
abbrev mX1_share : GM := (yX1_share, 5, (some .int), [], { frames := 9, cells := 900, slots := 90000, locals := 154 }, 255)
theorem kX1_share : gCv cX1_share mX1_share 3 := ⟨q1532, q1533, q67, q1534, ⟨by decide +kernel, by decide +kernel, by decide +kernel⟩, rfl⟩
theorem uX1_share : gCu cX1_share mX1_share 3 := ⟨q1532, q67, q1534, ⟨by decide +kernel, by decide +kernel, by decide +kernel⟩, rfl⟩
set_option maxHeartbeats 400000 in
theorem ctX1_share {E : GE} {h : AH} {v : Nat} {L9 : List Nat} (M : TW) (s : Nat) (p : Nat) (w : Nat) (hV : VO E M v L9 h) (hW : vW M) (hs : s < 4294967296) (hp : p < 4294967296) (hw : w < 4294967296)  : Ct E cX1_share mX1_share [.ref v, .int (nI s), .int (nI p), .int (nI w)] (h) (pN fun r h' => xc_share M s p w = 0 ∧ r = xv_share M s p w ∧ Fr tP h h') (fun C _ h' => cX ["java/lang/IndexOutOfBoundsException", "java/lang/IllegalArgumentException", "java/util/NoSuchElementException"] C (xc_share M s p w) ∧ Fr tP h h') := by
  refine g_enter (own := "SecretVault") [some (.ref v), some (.int (nI s)), some (.int (nI p)), some (.int (nI w)), none] (by decide +kernel) rfl rfl (Nat.le_of_ble_eq_true rfl) rfl rfl (fun X => ?_)
  refine V.hE (fun hE => ?_)
  refine g_iload1 dX1_share_0 ?_
  refine g_iconst (nI 4) dX1_share_1 (by decide) ?_
  refine g_callS (ctX1_requireIndex s 4 (by omega) (by decide)) kX1_requireIndex q917 (by decide) ⟨Nat.le_of_ble_eq_true rfl, Nat.le_of_ble_eq_true rfl⟩ rfl (Nat.le_of_ble_eq_true rfl) dX1_share_2 (fun C_ q_ h2_ px => by obtain ⟨rfl, c_2, rfl⟩ := px; exact gx_out0 rfl ⟨(by unfold cX xc_share; (repeat' split) <;> first | exact ⟨Nat.zero_lt_succ _, rfl⟩ | (exfalso; omega)), Fr.rf⟩ (Nat.le_of_ble_eq_true rfl) (Nat.le_of_ble_eq_true rfl)) (k_v (fun h_2 p_2 => ?_))
  obtain ⟨i_2, z_2⟩ := p_2
  rw [z_2]
  refine g_iload2 dX1_share_5 ?_
  refine g_callS (ctX1_requirePlace p (by omega)) kX1_requirePlace q1535 (by decide) ⟨Nat.le_of_ble_eq_true rfl, Nat.le_of_ble_eq_true rfl⟩ rfl (Nat.le_of_ble_eq_true rfl) dX1_share_6 (fun C_ q_ h2_ px => by obtain ⟨rfl, c_6, rfl⟩ := px; exact gx_out0 rfl ⟨(by unfold cX xc_share; (repeat' split) <;> first | exact ⟨Nat.zero_lt_succ _, rfl⟩ | (exfalso; omega)), Fr.rf⟩ (Nat.le_of_ble_eq_true rfl) (Nat.le_of_ble_eq_true rfl)) (k_v (fun h_6 p_6 => ?_))
  obtain ⟨i_6, z_6⟩ := p_6
  rw [z_6]
  refine g_iload3 dX1_share_9 ?_
  refine g_iconst (nI 0) dX1_share_10 (by decide) ?_
  refine g_iconst (nI 2) dX1_share_11 (by decide) ?_
  refine g_callS (ctX1_in w 0 2 (by omega) (by omega) (by omega)) kX1_in q935 (by decide) ⟨Nat.le_of_ble_eq_true rfl, Nat.le_of_ble_eq_true rfl⟩ rfl (Nat.le_of_ble_eq_true rfl) dX1_share_12 k_x (k_n (fun r_12 h_12 p_12 => ?_))
  obtain ⟨b_12, i_12, z_12⟩ := p_12
  rw [z_12]
  refine g_callS (ctX1_require _ (by omega)) kX1_require q938 (by decide) ⟨Nat.le_of_ble_eq_true rfl, Nat.le_of_ble_eq_true rfl⟩ rfl (Nat.le_of_ble_eq_true rfl) dX1_share_15 (fun C_ q_ h2_ px => by obtain ⟨rfl, c_15, rfl⟩ := px; exact gx_out0 rfl ⟨(by unfold cX xc_share; (repeat' split) <;> first | exact ⟨Nat.zero_lt_succ _, rfl⟩ | (exfalso; omega)), Fr.rf⟩ (Nat.le_of_ble_eq_true rfl) (Nat.le_of_ble_eq_true rfl)) (k_v (fun h_15 p_15 => ?_))
  obtain ⟨b_15, z_15⟩ := p_15
  rw [z_15]
  first | refine g_aload0 dX1_share_18 ?_ | refine g_aloadQ0 dX1_share_18 ?_ | refine g_aloadN0 dX1_share_18 ?_
  refine g_iload1 dX1_share_19 ?_
  refine g_iload2 dX1_share_20 ?_
  refine g_callVR (ctX1_shareAt hV hW s p (by omega) (by omega)) kX1_shareAt q1538 hV.rv (by decide) ⟨Nat.le_of_ble_eq_true rfl, Nat.le_of_ble_eq_true rfl⟩ rfl (Nat.le_of_ble_eq_true rfl) dX1_share_21 (fun C_ q_ h2_ px => by obtain ⟨rfl, c_21, rfl⟩ := px; exact gx_out0 rfl ⟨(by unfold cX xc_share; (repeat' split) <;> first | exact ⟨Nat.zero_lt_succ _, rfl⟩ | (exfalso; omega)), Fr.rf⟩ (Nat.le_of_ble_eq_true rfl) (Nat.le_of_ble_eq_true rfl)) (k_r (fun r_21 h_21 p_21 => ?_))
  obtain ⟨gs1, g0, hsh, z_21⟩ := p_21
  rw [z_21]
  first | refine g_astore4 dX1_share_24 (by decide) ?_ | refine g_astoreQ4 dX1_share_24 (by decide) ?_ | refine g_astoreN4 dX1_share_24 (by decide) ?_
  refine g_iload3 dX1_share_26 ?_
  first | refine g_ifN_ne (tgt := 38) dX1_share_27 (by decide) (by omega) (fun c_27 => ?_) (fun c_27 => ?_) | refine g_if_ne (tgt := 38) dX1_share_27 (by decide) (fun c_27 => ?_) (fun c_27 => ?_)
  · refine g_iload3 dX1_share_38 ?_
    refine g_iconst (nI 1) dX1_share_39 (by decide) ?_
    first | refine g_icmpN_ne (tgt := 51) dX1_share_40 (by decide) (by omega) (by omega) (fun c_40 => ?_) (fun c_40 => ?_) | refine g_icmpU_ne (tgt := 51) dX1_share_40 (by decide) (by omega) (by omega) (fun c_40 => ?_) (fun c_40 => ?_) | refine g_icmp_ne (tgt := 51) dX1_share_40 (by decide) (fun c_40 => ?_) (fun c_40 => ?_)
    · first | refine g_aload0 dX1_share_51 ?_ | refine g_aloadQ0 dX1_share_51 ?_ | refine g_aloadN0 dX1_share_51 ?_
      refine g_iload1 dX1_share_52 ?_
      refine g_callVR (ctX1_secretIn hV hW s (by omega)) kX1_secretIn q1135 hV.rv (by decide) ⟨Nat.le_of_ble_eq_true rfl, Nat.le_of_ble_eq_true rfl⟩ rfl (Nat.le_of_ble_eq_true rfl) dX1_share_53 (fun C_ q_ h2_ px => by obtain ⟨rfl, c_53, rfl⟩ := px; exact gx_out0 rfl ⟨(by unfold cX xc_share; (repeat' split) <;> first | exact ⟨Nat.zero_lt_succ _, rfl⟩ | (exfalso; omega)), Fr.rf⟩ (Nat.le_of_ble_eq_true rfl) (Nat.le_of_ble_eq_true rfl)) (k_r (fun r_53 h_53 p_53 => ?_))
      obtain ⟨g1, hse, z_53⟩ := p_53
      rw [z_53]
      first | refine g_aload4 dX1_share_56 ?_ | refine g_aloadQ4 dX1_share_56 ?_ | refine g_aloadN4 dX1_share_56 ?_
      refine g_callVR (ctX5_stateOf hse (hW.sl (by omega)) g1 (by omega) hsh) kX5_stateOf q1542 hse.rv (by decide) ⟨Nat.le_of_ble_eq_true rfl, Nat.le_of_ble_eq_true rfl⟩ rfl (Nat.le_of_ble_eq_true rfl) dX1_share_58 k_x (k_r (fun r_58 h_58 p_58 => ?_))
      obtain ⟨e_58, F_58⟩ := p_58
      rw [e_58]
      have hst := stF_lt (M 1) s p
      rcases (show stF (M 1) s p = 0 ∨ stF (M 1) s p = 1 ∨ stF (M 1) s p = 2 by omega) with e | e | e
      · rw [e]
        refine g_callU (ctJ22_ordinal hE.so0) uJ22_ordinal q1543 q1544 q1546 rfl (Or.inr hE.s0.2) (by decide) ⟨Nat.le_of_ble_eq_true rfl, Nat.le_of_ble_eq_true rfl⟩ rfl (Nat.le_of_ble_eq_true rfl) dX1_share_61 k_x (k_n (fun r_61 h_61 p_61 => ?_))
        obtain ⟨rfl, z_61⟩ := p_61
        rw [z_61]
        exact g_iret dX1_share_64 rfl ⟨_, rfl, (by unfold xc_share; (repeat' split) <;> first | rfl | (exfalso; omega)), by unfold xv_share; rw [if_pos (by omega)]; exact e.symm, F_58.t0⟩
      · rw [e]
        refine g_callU (ctJ22_ordinal hE.so1) uJ22_ordinal q1543 q1544 q1547 rfl (Or.inr hE.s1.2) (by decide) ⟨Nat.le_of_ble_eq_true rfl, Nat.le_of_ble_eq_true rfl⟩ rfl (Nat.le_of_ble_eq_true rfl) dX1_share_61 k_x (k_n (fun r_61 h_61 p_61 => ?_))
        obtain ⟨rfl, z_61⟩ := p_61
        rw [z_61]
        exact g_iret dX1_share_64 rfl ⟨_, rfl, (by unfold xc_share; (repeat' split) <;> first | rfl | (exfalso; omega)), by unfold xv_share; rw [if_pos (by omega)]; exact e.symm, F_58.t0⟩
      · rw [e]
        refine g_callU (ctJ22_ordinal hE.so2) uJ22_ordinal q1543 q1544 q1548 rfl (Or.inr hE.s2.2) (by decide) ⟨Nat.le_of_ble_eq_true rfl, Nat.le_of_ble_eq_true rfl⟩ rfl (Nat.le_of_ble_eq_true rfl) dX1_share_61 k_x (k_n (fun r_61 h_61 p_61 => ?_))
        obtain ⟨rfl, z_61⟩ := p_61
        rw [z_61]
        exact g_iret dX1_share_64 rfl ⟨_, rfl, (by unfold xc_share; (repeat' split) <;> first | rfl | (exfalso; omega)), by unfold xv_share; rw [if_pos (by omega)]; exact e.symm, F_58.t0⟩
    · first | refine g_aload4 dX1_share_43 ?_ | refine g_aloadQ4 dX1_share_43 ?_ | refine g_aloadN4 dX1_share_43 ?_
      refine g_getN (k0 := 2) (by first | assumption | exact g_up_self _ _ _ | (refine g_upf ?_ ?_ <;> assumption) | (refine g_upt ?_ ?_ (by decide) <;> assumption)) in_X6 q711 rfl (by decide) rfl dX1_share_45 ?_
      refine g_goto (tgt := 64) dX1_share_48 (by decide) ?_
      exact g_iret dX1_share_64 rfl ⟨_, rfl, (by unfold xc_share; (repeat' split) <;> first | rfl | (exfalso; omega)), (by unfold xv_share; rw [if_neg (by omega)]; first | rw [show w = 0 by omega] | rw [show w = 1 by omega]), Fr.rf⟩
  · first | refine g_aload4 dX1_share_30 ?_ | refine g_aloadQ4 dX1_share_30 ?_ | refine g_aloadN4 dX1_share_30 ?_
    refine g_getN (k0 := 1) (by first | assumption | exact g_up_self _ _ _ | (refine g_upf ?_ ?_ <;> assumption) | (refine g_upt ?_ ?_ (by decide) <;> assumption)) in_X6 q705 rfl (by decide) rfl dX1_share_32 ?_
    refine g_goto (tgt := 64) dX1_share_35 (by decide) ?_
    exact g_iret dX1_share_64 rfl ⟨_, rfl, (by unfold xc_share; (repeat' split) <;> first | rfl | (exfalso; omega)), (by unfold xv_share; rw [if_neg (by omega)]; first | rw [show w = 0 by omega] | rw [show w = 1 by omega]), Fr.rf⟩
abbrev mX1_policyOf : GM := (yX1_policyOf, 3, (some (.object "SecretVault$Policy")), [], { frames := 8, cells := 2, slots := 12, locals := 131 }, 255)
theorem kX1_policyOf : gCv cX1_policyOf mX1_policyOf 1 := ⟨q1905, qs23, q67, q1906, ⟨by decide +kernel, by decide +kernel, by decide +kernel⟩, rfl⟩
theorem uX1_policyOf : gCu cX1_policyOf mX1_policyOf 1 := ⟨q1905, q67, q1906, ⟨by decide +kernel, by decide +kernel, by decide +kernel⟩, rfl⟩
set_option maxHeartbeats 400000 in
theorem ctX1_policyOf {E : GE} {h : AH} {v : Nat} {L9 : List Nat} {M : TW} (hV : VO E M v L9 h) (hW : vW M) (s : Nat) (hs : s < 4) : Ct E cX1_policyOf mX1_policyOf [.ref v, .int (nI s)] (h) (pR fun r h' => ¬ gOf (M 1) s 0 = 0 ∧ ¬ gOf (M 1) s 11 = 0 ∧ Rep E h 200 r (plA (M 1) s) ∧ h' = h) (fun C _ h' => C = "java/util/NoSuchElementException" ∧ (gOf (M 1) s 0 = 0 ∨ gOf (M 1) s 11 = 0) ∧ h' = h) := by
  refine g_enter (own := "SecretVault") [some (.ref v), some (.int (nI s)), none] (by decide +kernel) rfl rfl (Nat.le_of_ble_eq_true rfl) rfl rfl (fun X => ?_)
  by_cases hg1 : gOf (M 1) s 11 = 0
  · skip
    first | refine g_aload0 dX1_policyOf_0 ?_ | refine g_aloadQ0 dX1_policyOf_0 ?_ | refine g_aloadN0 dX1_policyOf_0 ?_
    refine g_iload1 dX1_policyOf_1 ?_
    refine g_callVR (ctX1_secretIn hV hW s hs) kX1_secretIn q1135 hV.rv (by decide) ⟨Nat.le_of_ble_eq_true rfl, Nat.le_of_ble_eq_true rfl⟩ rfl (Nat.le_of_ble_eq_true rfl) dX1_policyOf_2 (fun C_ q_ h2_ px => by obtain ⟨rfl, c_2, rfl⟩ := px; exact gx_out0 rfl ⟨rfl, Or.inl c_2, rfl⟩ (Nat.le_of_ble_eq_true rfl) (Nat.le_of_ble_eq_true rfl)) (k_r (fun r_2 h_2 p_2 => ?_))
    obtain ⟨g1, hse, z_2⟩ := p_2
    rw [z_2]
    obtain ⟨cc_, bb_, pp_, fc, fs_, y1, y2, y3, y4, y5, y6⟩ := id hse
    obtain rfl : pp_ = none := y6.elim (fun z => z.2) (fun z => absurd hg1 z.1)
    refine g_getN (k0 := 3) (by first | assumption | exact g_up_self _ _ _ | (refine g_upf ?_ ?_ <;> assumption) | (refine g_upt ?_ ?_ (by decide) <;> assumption)) in_X5 q668 rfl (by decide) rfl dX1_policyOf_5 ?_
    first | refine g_astore2 dX1_policyOf_8 (by decide) ?_ | refine g_astoreQ2 dX1_policyOf_8 (by decide) ?_ | refine g_astoreN2 dX1_policyOf_8 (by decide) ?_
    first | refine g_aload2 dX1_policyOf_9 ?_ | refine g_aloadQ2 dX1_policyOf_9 ?_ | refine g_aloadN2 dX1_policyOf_9 ?_
    refine g_ifnullN (tgt := 17) dX1_policyOf_10 (by decide) ?_
    refine g_iconst (nI 0) dX1_policyOf_17 (by decide) ?_
    refine g_callS (ctX1_requireElement 0 (by decide)) kX1_requireElement q1139 (by decide) ⟨Nat.le_of_ble_eq_true rfl, Nat.le_of_ble_eq_true rfl⟩ rfl (Nat.le_of_ble_eq_true rfl) dX1_policyOf_18 (fun C_ q_ h2_ px => by obtain ⟨rfl, c_18, rfl⟩ := px; exact gx_out0 rfl ⟨rfl, Or.inr hg1, rfl⟩ (Nat.le_of_ble_eq_true rfl) (Nat.le_of_ble_eq_true rfl)) (k_v (fun h_18 p_18 => ?_))
    exact absurd p_18.1 (by decide)
    
  · skip
    first | refine g_aload0 dX1_policyOf_0 ?_ | refine g_aloadQ0 dX1_policyOf_0 ?_ | refine g_aloadN0 dX1_policyOf_0 ?_
    refine g_iload1 dX1_policyOf_1 ?_
    refine g_callVR (ctX1_secretIn hV hW s hs) kX1_secretIn q1135 hV.rv (by decide) ⟨Nat.le_of_ble_eq_true rfl, Nat.le_of_ble_eq_true rfl⟩ rfl (Nat.le_of_ble_eq_true rfl) dX1_policyOf_2 (fun C_ q_ h2_ px => by obtain ⟨rfl, c_2, rfl⟩ := px; exact gx_out0 rfl ⟨rfl, Or.inl c_2, rfl⟩ (Nat.le_of_ble_eq_true rfl) (Nat.le_of_ble_eq_true rfl)) (k_r (fun r_2 h_2 p_2 => ?_))
    obtain ⟨g1, hse, z_2⟩ := p_2
    rw [z_2]
    obtain ⟨cc_, bb_, pp_, fc, fs_, y1, y2, y3, y4, y5, y6⟩ := id hse
    obtain ⟨a9, rfl, hrep⟩ : ∃ a9, pp_ = some a9 ∧ Rep E h 200 a9 (plA (M 1) s) := y6.elim (fun z => absurd z.1 hg1) (fun z => z.2)
    refine g_getN (k0 := 3) (by first | assumption | exact g_up_self _ _ _ | (refine g_upf ?_ ?_ <;> assumption) | (refine g_upt ?_ ?_ (by decide) <;> assumption)) in_X5 q668 rfl (by decide) rfl dX1_policyOf_5 ?_
    change V _ _ _ _ _ _ _ _ _ _ _ _ [.ref a9]
    first | refine g_astore2 dX1_policyOf_8 (by decide) ?_ | refine g_astoreQ2 dX1_policyOf_8 (by decide) ?_ | refine g_astoreN2 dX1_policyOf_8 (by decide) ?_
    first | refine g_aload2 dX1_policyOf_9 ?_ | refine g_aloadQ2 dX1_policyOf_9 ?_ | refine g_aloadN2 dX1_policyOf_9 ?_
    refine g_ifnullR dX1_policyOf_10 ?_
    refine g_iconst (nI 1) dX1_policyOf_13 (by decide) ?_
    refine g_goto (tgt := 18) dX1_policyOf_14 (by decide) ?_
    refine g_callS (ctX1_requireElement 1 (by decide)) kX1_requireElement q1139 (by decide) ⟨Nat.le_of_ble_eq_true rfl, Nat.le_of_ble_eq_true rfl⟩ rfl (Nat.le_of_ble_eq_true rfl) dX1_policyOf_18 (fun C_ q_ h2_ px => by obtain ⟨rfl, c_18, rfl⟩ := px; exact absurd c_18 (by decide)) (k_v (fun h_18 p_18 => ?_))
    obtain ⟨b_18, z_18⟩ := p_18
    rw [z_18]
    first | refine g_aload2 dX1_policyOf_21 ?_ | refine g_aloadQ2 dX1_policyOf_21 ?_ | refine g_aloadN2 dX1_policyOf_21 ?_
    exact g_aret dX1_policyOf_22 rfl (Or.inl ⟨_, rfl⟩) ⟨_, rfl, by omega, hg1, hrep, rfl⟩
theorem mkS_sz {q : Nat} {B : List Att} {l : Nat} (hn : B ≠ []) (h : sizs B ≤ l ∧ deps B ≤ l) : aS (mkS q B) ≤ l ∧ aD (mkS q B) ≤ l := by
  have key : ∀ {B : List Att}, B ≠ [] → sizs B ≤ l ∧ deps B ≤ l → aS (mkAll B) ≤ l ∧ aD (mkAll B) ≤ l ∧ aS (mkAny B) ≤ l ∧ aD (mkAny B) ≤ l ∧ aS (B.headD (attOne 0)) ≤ l ∧ aD (B.headD (attOne 0)) ≤ l := by
    intro B hn h
    match B, hn with
    | [A], _ =>
      have h1 : aS A + 0 ≤ l := h.1
      have h2 : max (aD A) 0 ≤ l := h.2
      exact ⟨by show aS A ≤ l; omega, by show aD A ≤ l; omega, by show aS A ≤ l; omega, by show aD A ≤ l; omega, by show aS A ≤ l; omega, by show aD A ≤ l; omega⟩
    | A :: C :: L, _ =>
      have h1 : aS A + sizs (C :: L) ≤ l := h.1
      have h2 : max (aD A) (deps (C :: L)) ≤ l := h.2
      exact ⟨h.1, h.2, h.1, h.2, by show aS A ≤ l; omega, by show aD A ≤ l; omega⟩
  have k := key hn h
  unfold mkS
  split
  · exact ⟨k.1, k.2.1⟩
  · split
    · exact ⟨k.2.2.2.2.1, k.2.2.2.2.2⟩
    · exact ⟨k.2.2.1, k.2.2.2.1⟩
theorem Seg.szs {t : Nat → Nat} {k : Nat} : ∀ {q f l : Nat} {L : List Att}, Seg t k q f l L → sizs L ≤ l ∧ deps L ≤ l := by
  induction k with
  | zero => intro q f l L h; exact h.elim
  | succ k ih =>
    intro q f l L h
    rcases h with ⟨rfl, h⟩ | ⟨h2, h⟩
    · rcases h with ⟨rfl, -, -, rfl⟩ | ⟨l1, B, rfl, -, h, -, rfl⟩ | ⟨l1, B, rfl, -, -, -, -, -, h, -, rfl⟩
      · exact ⟨Nat.le_refl 1, Nat.zero_le 1⟩
      · have z := mkS_sz (q := 2) h.ne (ih h)
        have z1 : aS (mkAny B) ≤ l1 := z.1
        have z2 : aD (mkAny B) ≤ l1 := z.2
        exact ⟨by show aS (mkAny B) + 0 ≤ l1 + 2; omega, by show max (aD (mkAny B)) 0 ≤ l1 + 2; omega⟩
      · have z := ih h
        exact ⟨by show (1 + sizs B) + 0 ≤ l1 + 5; omega, by show max (deps B + 1) 0 ≤ l1 + 5; omega⟩
    · rcases h with ⟨B, rfl, h⟩ | ⟨l1, l2, B, L', rfl, rfl, h3, -, h5⟩
      · have z := mkS_sz (q := q) h.ne (ih h)
        exact ⟨by show aS (mkS q B) + 0 ≤ l; omega, by show max (aD (mkS q B)) 0 ≤ l; omega⟩
      · have z := mkS_sz (q := q) h3.ne (ih h3)
        have y := ih h5
        exact ⟨by show aS (mkS q B) + sizs L' ≤ _; omega, by show max (aD (mkS q B)) (deps L') ≤ _; omega⟩
theorem plA_sz {g : Nat → Nat} {s : Nat} (h : plW g s) (h0 : ¬ gOf g s 11 = 0) : aS (plA g s) ≤ 40 ∧ aD (plA g s) ≤ 40 := by
  have hs := h.seg (by omega)
  have z := mkS_sz (q := 2) hs.ne hs.szs
  have := h.1
  exact ⟨Nat.le_trans z.1 this, Nat.le_trans z.2 this⟩
theorem ge_m1 {i : Nat} (hi : i < 4294967296) : nI 4294967295 ≤ nI i ↔ i < 2147483648 ∨ i = 4294967295 := by
  rw [nI_leS (by decide) hi]
  unfold sg
  split <;> (split <;> omega)
abbrev mX1_policy : GM := (yX1_policy, 4, (some .int), [], { frames := 430, cells := 900, slots := 90000, locals := 9700 }, 255)
theorem kX1_policy : gCv cX1_policy mX1_policy 2 := ⟨q1929, q1930, q67, q1931, ⟨by decide +kernel, by decide +kernel, by decide +kernel⟩, rfl⟩
theorem uX1_policy : gCu cX1_policy mX1_policy 2 := ⟨q1929, q67, q1931, ⟨by decide +kernel, by decide +kernel, by decide +kernel⟩, rfl⟩
set_option maxHeartbeats 400000 in
theorem ctX1_policy {E : GE} {h : AH} {v : Nat} {L9 : List Nat} (M : TW) (s : Nat) (w : Nat) (hV : VO E M v L9 h) (hW : vW M) (hs : s < 4294967296) (hw : w < 4294967296)  : Ct E cX1_policy mX1_policy [.ref v, .int (nI s), .int (nI w)] (h) (pN fun r h' => xc_policy M s w = 0 ∧ r = xv_policy M s w ∧ Fr tP h h') (fun C _ h' => cX ["java/lang/IndexOutOfBoundsException", "java/lang/IllegalArgumentException", "java/util/NoSuchElementException"] C (xc_policy M s w) ∧ Fr tP h h') := by
  refine g_enter (own := "SecretVault") [some (.ref v), some (.int (nI s)), some (.int (nI w)), none] (by decide +kernel) rfl rfl (Nat.le_of_ble_eq_true rfl) rfl rfl (fun X => ?_)
  refine g_iload1 dX1_policy_0 ?_
  refine g_iconst (nI 4) dX1_policy_1 (by decide) ?_
  refine g_callS (ctX1_requireIndex s 4 (by omega) (by decide)) kX1_requireIndex q917 (by decide) ⟨Nat.le_of_ble_eq_true rfl, Nat.le_of_ble_eq_true rfl⟩ rfl (Nat.le_of_ble_eq_true rfl) dX1_policy_2 (fun C_ q_ h2_ px => by obtain ⟨rfl, c_2, rfl⟩ := px; exact gx_out0 rfl ⟨(by unfold cX xc_policy; (repeat' split) <;> first | exact ⟨Nat.zero_lt_succ _, rfl⟩ | (exfalso; omega)), Fr.rf⟩ (Nat.le_of_ble_eq_true rfl) (Nat.le_of_ble_eq_true rfl)) (k_v (fun h_2 p_2 => ?_))
  obtain ⟨i_2, z_2⟩ := p_2
  rw [z_2]
  refine g_iload2 dX1_policy_5 ?_
  refine g_iconst (nI 0) dX1_policy_6 (by decide) ?_
  refine g_iconst (nI 2) dX1_policy_7 (by decide) ?_
  refine g_callS (ctX1_in w 0 2 (by omega) (by omega) (by omega)) kX1_in q935 (by decide) ⟨Nat.le_of_ble_eq_true rfl, Nat.le_of_ble_eq_true rfl⟩ rfl (Nat.le_of_ble_eq_true rfl) dX1_policy_8 k_x (k_n (fun r_8 h_8 p_8 => ?_))
  obtain ⟨b_8, i_8, z_8⟩ := p_8
  rw [z_8]
  refine g_callS (ctX1_require _ (by omega)) kX1_require q938 (by decide) ⟨Nat.le_of_ble_eq_true rfl, Nat.le_of_ble_eq_true rfl⟩ rfl (Nat.le_of_ble_eq_true rfl) dX1_policy_11 (fun C_ q_ h2_ px => by obtain ⟨rfl, c_11, rfl⟩ := px; exact gx_out0 rfl ⟨(by unfold cX xc_policy; (repeat' split) <;> first | exact ⟨Nat.zero_lt_succ _, rfl⟩ | (exfalso; omega)), Fr.rf⟩ (Nat.le_of_ble_eq_true rfl) (Nat.le_of_ble_eq_true rfl)) (k_v (fun h_11 p_11 => ?_))
  obtain ⟨b_11, z_11⟩ := p_11
  rw [z_11]
  first | refine g_aload0 dX1_policy_14 ?_ | refine g_aloadQ0 dX1_policy_14 ?_ | refine g_aloadN0 dX1_policy_14 ?_
  refine g_iload1 dX1_policy_15 ?_
  refine g_callVR (ctX1_policyOf hV hW s (by omega)) kX1_policyOf q1903 hV.rv (by decide) ⟨Nat.le_of_ble_eq_true rfl, Nat.le_of_ble_eq_true rfl⟩ rfl (Nat.le_of_ble_eq_true rfl) dX1_policy_16 (fun C_ q_ h2_ px => by obtain ⟨rfl, c_16, rfl⟩ := px; exact gx_out0 rfl ⟨(by unfold cX xc_policy; (repeat' split) <;> first | exact ⟨Nat.zero_lt_succ _, rfl⟩ | (exfalso; omega)), Fr.rf⟩ (Nat.le_of_ble_eq_true rfl) (Nat.le_of_ble_eq_true rfl)) (k_r (fun r_16 h_16 p_16 => ?_))
  obtain ⟨g0, g11, hrep, z_16⟩ := p_16
  rw [z_16]
  first | refine g_astore3 dX1_policy_19 (by decide) ?_ | refine g_astoreQ3 dX1_policy_19 (by decide) ?_ | refine g_astoreN3 dX1_policy_19 (by decide) ?_
  obtain ⟨hz1, hz2⟩ := plA_sz (hW.2.2.1 s (by omega)) g11
  refine g_iload2 dX1_policy_20 ?_
  first | refine g_ifN_ne (tgt := 31) dX1_policy_21 (by decide) (by omega) (fun c_21 => ?_) (fun c_21 => ?_) | refine g_if_ne (tgt := 31) dX1_policy_21 (by decide) (fun c_21 => ?_) (fun c_21 => ?_)
  · refine g_iload2 dX1_policy_31 ?_
    refine g_iconst (nI 1) dX1_policy_32 (by decide) ?_
    first | refine g_icmpN_ne (tgt := 43) dX1_policy_33 (by decide) (by omega) (by omega) (fun c_33 => ?_) (fun c_33 => ?_) | refine g_icmpU_ne (tgt := 43) dX1_policy_33 (by decide) (by omega) (by omega) (fun c_33 => ?_) (fun c_33 => ?_) | refine g_icmp_ne (tgt := 43) dX1_policy_33 (by decide) (fun c_33 => ?_) (fun c_33 => ?_)
    · first | refine g_aload3 dX1_policy_43 ?_ | refine g_aloadQ3 dX1_policy_43 ?_ | refine g_aloadN3 dX1_policy_43 ?_
      refine V.wide (k' := 10) (n' := 100) (by decide) (by decide) ?_
      have K : V E cX1_policy "SecretVault" mX1_policy (pN fun r h' => xc_policy M s w = 0 ∧ r = xv_policy M s w ∧ Fr tP h h') (fun C _ h' => cX ["java/lang/IndexOutOfBoundsException", "java/lang/IllegalArgumentException", "java/util/NoSuchElementException"] C (xc_policy M s w) ∧ Fr tP h h') X (h) 10 100 49 [some (.ref v), some (.int (nI s)), some (.int (nI w)), some (.ref r_16)] [.int (nI (aM (plA (M 1) s)))] := by
        exact g_iret dX1_policy_49 rfl ⟨_, rfl, (by unfold xc_policy; (repeat' split) <;> first | rfl | (exfalso; omega)), (by unfold xv_policy; first | (rw [if_pos (by omega)]; done) | (rw [if_neg (by omega), if_pos (by omega)]; done) | (rw [if_neg (by omega), if_neg (by omega)]; done)), (by first | exact F_25.t0 | exact F_37.t0 | exact Fr.rf)⟩
      rcases hrep.pcm with ⟨m, m1, m2⟩ | ⟨m, m1, m2⟩ | ⟨m, m1, m2⟩ | ⟨c, m, m1, m2⟩
      · refine g_callF m2 uX19_members q1940 q1957 ⟨q1942, q1941, q1960, q1958, q1241⟩ ⟨⟨by decide, by decide⟩, rfl⟩ m1 rfl (by decide) ⟨Nat.le_of_ble_eq_true rfl, Nat.le_of_ble_eq_true rfl⟩ rfl (Nat.le_of_ble_eq_true rfl) dX1_policy_44 k_x (k_n (fun r_44 h_44 p_44 => ?_))
        obtain ⟨rfl, z_44⟩ := p_44
        rw [z_44]
        exact K
      · refine g_callF m2 (uX21_members _) q1940 q1951 ⟨q1942, q1941, q1954, q1952, q1234⟩ ⟨⟨by decide, by decide⟩, rfl⟩ m1 rfl (by decide) ⟨Nat.le_of_ble_eq_true rfl, Nat.le_of_ble_eq_true rfl⟩ rfl (Nat.le_of_ble_eq_true rfl) dX1_policy_44 k_x (k_n (fun r_44 h_44 p_44 => ?_))
        obtain ⟨rfl, z_44⟩ := p_44
        rw [z_44]
        exact K
      · refine g_callF m2 (uX20_members _) q1940 q1943 ⟨q1942, q1941, q1946, q1944, q1203⟩ ⟨⟨by decide, by decide⟩, rfl⟩ m1 rfl (by decide) ⟨Nat.le_of_ble_eq_true rfl, Nat.le_of_ble_eq_true rfl⟩ rfl (Nat.le_of_ble_eq_true rfl) dX1_policy_44 k_x (k_n (fun r_44 h_44 p_44 => ?_))
        obtain ⟨rfl, z_44⟩ := p_44
        rw [z_44]
        exact K
      · refine g_callF m2 (uX18_members _) q1940 q1962 ⟨q1942, q1941, q1965, q1963, q1247⟩ ⟨⟨by decide, by decide⟩, rfl⟩ m1 rfl (by decide) ⟨Nat.le_of_ble_eq_true rfl, Nat.le_of_ble_eq_true rfl⟩ rfl (Nat.le_of_ble_eq_true rfl) dX1_policy_44 k_x (k_n (fun r_44 h_44 p_44 => ?_))
        obtain ⟨rfl, z_44⟩ := p_44
        rw [z_44]
        exact K
    · first | refine g_aload3 dX1_policy_36 ?_ | refine g_aloadQ3 dX1_policy_36 ?_ | refine g_aloadN3 dX1_policy_36 ?_
      refine V.wide (k' := 10) (n' := 100) (by decide) (by decide) ?_
      refine g_callS (ctX1_depthOf 200 _ _ _ hrep (by omega)) (kX1_depthOf 200 (aS (plA (M 1) s))) q1935 ⟨by show 200 + 12 + 1 ≤ 430; decide, by show 8 + (4 + 11) + (40 * 200 + 300) ≤ 9700; decide⟩ ⟨by show 10 + aS (plA (M 1) s) ≤ 900; omega, by show 100 + 3 * aS (plA (M 1) s) ≤ 90000; omega⟩ rfl (Nat.le_of_ble_eq_true rfl) dX1_policy_37 k_x (k_n (fun r_37 h_37 p_37 => ?_))
      obtain ⟨rfl, F_37⟩ := p_37
      refine V.wide (k' := 900) (n' := 90000) (by show 10 + aS (plA (M 1) s) ≤ 900; omega) (by show 100 + 3 * aS (plA (M 1) s) ≤ 90000; omega) ?_
      refine g_goto (tgt := 49) dX1_policy_40 (by decide) ?_
      exact g_iret dX1_policy_49 rfl ⟨_, rfl, (by unfold xc_policy; (repeat' split) <;> first | rfl | (exfalso; omega)), (by unfold xv_policy; first | (rw [if_pos (by omega)]; done) | (rw [if_neg (by omega), if_pos (by omega)]; done) | (rw [if_neg (by omega), if_neg (by omega)]; done)), (by first | exact F_25.t0 | exact F_37.t0 | exact Fr.rf)⟩
  · first | refine g_aload3 dX1_policy_24 ?_ | refine g_aloadQ3 dX1_policy_24 ?_ | refine g_aloadN3 dX1_policy_24 ?_
    refine V.wide (k' := 10) (n' := 100) (by decide) (by decide) ?_
    refine g_callS (ctX1_sizeOf 200 _ _ _ hrep) (kX1_sizeOf 200 (aS (plA (M 1) s))) q1932 ⟨by show 200 + 12 + 1 ≤ 430; decide, by show 8 + (4 + 11) + (40 * 200 + 300) ≤ 9700; decide⟩ ⟨by show 10 + aS (plA (M 1) s) ≤ 900; omega, by show 100 + 3 * aS (plA (M 1) s) ≤ 90000; omega⟩ rfl (Nat.le_of_ble_eq_true rfl) dX1_policy_25 k_x (k_n (fun r_25 h_25 p_25 => ?_))
    obtain ⟨rfl, F_25⟩ := p_25
    refine V.wide (k' := 900) (n' := 90000) (by show 10 + aS (plA (M 1) s) ≤ 900; omega) (by show 100 + 3 * aS (plA (M 1) s) ≤ 90000; omega) ?_
    refine g_goto (tgt := 49) dX1_policy_28 (by decide) ?_
    exact g_iret dX1_policy_49 rfl ⟨_, rfl, (by unfold xc_policy; (repeat' split) <;> first | rfl | (exfalso; omega)), (by unfold xv_policy; first | (rw [if_pos (by omega)]; done) | (rw [if_neg (by omega), if_pos (by omega)]; done) | (rw [if_neg (by omega), if_neg (by omega)]; done)), (by first | exact F_25.t0 | exact F_37.t0 | exact Fr.rf)⟩
abbrev mX1_characterOf : GM := (yX1_characterOf, 2, (some .int), [], { frames := 7, cells := 1, slots := 6, locals := 110 }, 255)
theorem kX1_characterOf : gCs cX1_characterOf mX1_characterOf 2 := ⟨q1591, q67, q1592, ⟨by decide +kernel, by decide +kernel, by decide +kernel⟩, rfl⟩
set_option maxHeartbeats 400000 in
theorem ctX1_characterOf {E : GE} {h : AH} {q t : Nat} {L : List Nat} (i : Nat) (hx : SB E t h q L) (hi : i < 2147483648 ∨ i = 4294967295) : Ct E cX1_characterOf mX1_characterOf [.ref q, .int (nI i)] (h) (pN fun r h' => (i = 4294967295 ∧ r = L.length ∨ i < L.length ∧ r = L.getD i 0) ∧ h' = h) (fun C _ h' => C = "java/util/NoSuchElementException" ∧ (¬ i = 4294967295 ∧ ¬ i < L.length) ∧ h' = h) := by
  refine g_enter (own := "SecretVault") [some (.ref q), some (.int (nI i))] (by decide +kernel) rfl rfl (Nat.le_of_ble_eq_true rfl) rfl rfl (fun X => ?_)
  have hlen := hx.len
  rcases hi with hi | rfl
  · skip
    refine g_iload1 dX1_characterOf_0 ?_
    refine g_iconst (nI 4294967295) dX1_characterOf_1 (by decide) ?_
    first | refine g_icmpN_ne (tgt := 10) dX1_characterOf_2 (by decide) (by omega) (by omega) (fun c_2 => ?_) (fun c_2 => ?_) | refine g_icmpU_ne (tgt := 10) dX1_characterOf_2 (by decide) (by omega) (by omega) (fun c_2 => ?_) (fun c_2 => ?_) | refine g_icmp_ne (tgt := 10) dX1_characterOf_2 (by decide) (fun c_2 => ?_) (fun c_2 => ?_)
    · refine g_iload1 dX1_characterOf_10 ?_
      first | refine g_aload0 dX1_characterOf_11 ?_ | refine g_aloadQ0 dX1_characterOf_11 ?_ | refine g_aloadN0 dX1_characterOf_11 ?_
      refine g_callVR (ctJ4_lengthS (by assumption)) kJ4_length q1593 (SB.rv (by assumption)) (by decide) ⟨Nat.le_of_ble_eq_true rfl, Nat.le_of_ble_eq_true rfl⟩ rfl (Nat.le_of_ble_eq_true rfl) dX1_characterOf_12 k_x (k_n (fun r_12 h_12 p_12 => ?_))
      obtain ⟨rfl, z_12⟩ := p_12
      rw [z_12]
      first | refine g_icmpN_ge (tgt := 22) dX1_characterOf_15 (by decide) (by omega) (by omega) (fun c_15 => ?_) (fun c_15 => ?_) | refine g_icmp_ge (tgt := 22) dX1_characterOf_15 (by decide) (fun c_15 => ?_) (fun c_15 => ?_)
      · refine g_iconst (nI 0) dX1_characterOf_22 (by decide) ?_
        refine g_callS (ctX1_requireElement _ (by decide)) kX1_requireElement q1139 (by decide) ⟨Nat.le_of_ble_eq_true rfl, Nat.le_of_ble_eq_true rfl⟩ rfl (Nat.le_of_ble_eq_true rfl) dX1_characterOf_23 (fun C_ q_ h2_ px => by obtain ⟨rfl, c_23, rfl⟩ := px; exact gx_out0 rfl ⟨rfl, (by first | omega | exact absurd c_23 (by decide)), rfl⟩ (Nat.le_of_ble_eq_true rfl) (Nat.le_of_ble_eq_true rfl)) (k_v (fun h_23 p_23 => ?_))
        obtain ⟨b_23, z_23⟩ := p_23
        rw [z_23]
        have hil : i < L.length := by first | omega | exact absurd b_23 (by decide)
        first | refine g_aload0 dX1_characterOf_26 ?_ | refine g_aloadQ0 dX1_characterOf_26 ?_ | refine g_aloadN0 dX1_characterOf_26 ?_
        refine g_iload1 dX1_characterOf_27 ?_
        refine g_callVR (ctJ4_charAt hx (List.getElem?_eq_getElem hil)) kJ4_charAt q1594 hx.rv (by decide) ⟨Nat.le_of_ble_eq_true rfl, Nat.le_of_ble_eq_true rfl⟩ rfl (Nat.le_of_ble_eq_true rfl) dX1_characterOf_28 k_x (k_n (fun r_28 h_28 p_28 => ?_))
        obtain ⟨rfl, z_28⟩ := p_28
        rw [z_28]
        exact g_iret dX1_characterOf_31 rfl ⟨_, rfl, Or.inr ⟨hil, by rw [List.getD_eq_getElem?_getD, List.getElem?_eq_getElem hil]; rfl⟩, rfl⟩
      · refine g_iconst (nI 1) dX1_characterOf_18 (by decide) ?_
        refine g_goto (tgt := 23) dX1_characterOf_19 (by decide) ?_
        refine g_callS (ctX1_requireElement _ (by decide)) kX1_requireElement q1139 (by decide) ⟨Nat.le_of_ble_eq_true rfl, Nat.le_of_ble_eq_true rfl⟩ rfl (Nat.le_of_ble_eq_true rfl) dX1_characterOf_23 (fun C_ q_ h2_ px => by obtain ⟨rfl, c_23, rfl⟩ := px; exact gx_out0 rfl ⟨rfl, (by first | omega | exact absurd c_23 (by decide)), rfl⟩ (Nat.le_of_ble_eq_true rfl) (Nat.le_of_ble_eq_true rfl)) (k_v (fun h_23 p_23 => ?_))
        obtain ⟨b_23, z_23⟩ := p_23
        rw [z_23]
        have hil : i < L.length := by first | omega | exact absurd b_23 (by decide)
        first | refine g_aload0 dX1_characterOf_26 ?_ | refine g_aloadQ0 dX1_characterOf_26 ?_ | refine g_aloadN0 dX1_characterOf_26 ?_
        refine g_iload1 dX1_characterOf_27 ?_
        refine g_callVR (ctJ4_charAt hx (List.getElem?_eq_getElem hil)) kJ4_charAt q1594 hx.rv (by decide) ⟨Nat.le_of_ble_eq_true rfl, Nat.le_of_ble_eq_true rfl⟩ rfl (Nat.le_of_ble_eq_true rfl) dX1_characterOf_28 k_x (k_n (fun r_28 h_28 p_28 => ?_))
        obtain ⟨rfl, z_28⟩ := p_28
        rw [z_28]
        exact g_iret dX1_characterOf_31 rfl ⟨_, rfl, Or.inr ⟨hil, by rw [List.getD_eq_getElem?_getD, List.getElem?_eq_getElem hil]; rfl⟩, rfl⟩
    · omega
  · skip
    refine g_iload1 dX1_characterOf_0 ?_
    refine g_iconst (nI 4294967295) dX1_characterOf_1 (by decide) ?_
    first | refine g_icmpN_ne (tgt := 10) dX1_characterOf_2 (by decide) (by omega) (by omega) (fun c_2 => ?_) (fun c_2 => ?_) | refine g_icmpU_ne (tgt := 10) dX1_characterOf_2 (by decide) (by omega) (by omega) (fun c_2 => ?_) (fun c_2 => ?_) | refine g_icmp_ne (tgt := 10) dX1_characterOf_2 (by decide) (fun c_2 => ?_) (fun c_2 => ?_)
    · exact absurd rfl c_2
    · first | refine g_aload0 dX1_characterOf_5 ?_ | refine g_aloadQ0 dX1_characterOf_5 ?_ | refine g_aloadN0 dX1_characterOf_5 ?_
      refine g_callVR (ctJ4_lengthS hx) kJ4_length q1593 hx.rv (by decide) ⟨Nat.le_of_ble_eq_true rfl, Nat.le_of_ble_eq_true rfl⟩ rfl (Nat.le_of_ble_eq_true rfl) dX1_characterOf_6 k_x (k_n (fun r_6 h_6 p_6 => ?_))
      obtain ⟨rfl, z_6⟩ := p_6
      rw [z_6]
      exact g_iret dX1_characterOf_9 rfl ⟨_, rfl, Or.inl ⟨rfl, rfl⟩, rfl⟩
abbrev mX1_shareText : GM := (yX1_shareText, 5, (some .int), [], { frames := 9, cells := 900, slots := 90000, locals := 200 }, 255)
theorem kX1_shareText : gCv cX1_shareText mX1_shareText 3 := ⟨q1562, q1563, q67, q1564, ⟨by decide +kernel, by decide +kernel, by decide +kernel⟩, rfl⟩
theorem uX1_shareText : gCu cX1_shareText mX1_shareText 3 := ⟨q1562, q67, q1564, ⟨by decide +kernel, by decide +kernel, by decide +kernel⟩, rfl⟩
set_option maxHeartbeats 400000 in
theorem ctX1_shareText {E : GE} {h : AH} {v : Nat} {L9 : List Nat} (M : TW) (s : Nat) (p : Nat) (i : Nat) (hV : VO E M v L9 h) (hW : vW M) (hs : s < 4294967296) (hp : p < 4294967296) (hi : i < 4294967296)  : Ct E cX1_shareText mX1_shareText [.ref v, .int (nI s), .int (nI p), .int (nI i)] (h) (pN fun r h' => xc_shareText M s p i = 0 ∧ r = xv_shareText M s p i ∧ Fr tP h h') (fun C _ h' => cX ["java/lang/IndexOutOfBoundsException", "java/util/NoSuchElementException"] C (xc_shareText M s p i) ∧ Fr tP h h') := by
  refine g_enter (own := "SecretVault") [some (.ref v), some (.int (nI s)), some (.int (nI p)), some (.int (nI i)), none] (by decide +kernel) rfl rfl (Nat.le_of_ble_eq_true rfl) rfl rfl (fun X => ?_)
  refine g_iload1 dX1_shareText_0 ?_
  refine g_iconst (nI 4) dX1_shareText_1 (by decide) ?_
  refine g_callS (ctX1_requireIndex s 4 (by omega) (by decide)) kX1_requireIndex q917 (by decide) ⟨Nat.le_of_ble_eq_true rfl, Nat.le_of_ble_eq_true rfl⟩ rfl (Nat.le_of_ble_eq_true rfl) dX1_shareText_2 (fun C_ q_ h2_ px => by obtain ⟨rfl, c_2, rfl⟩ := px; exact gx_out0 rfl ⟨(by unfold cX xc_shareText; (repeat' split) <;> first | exact ⟨Nat.zero_lt_succ _, rfl⟩ | (exfalso; omega)), Fr.rf⟩ (Nat.le_of_ble_eq_true rfl) (Nat.le_of_ble_eq_true rfl)) (k_v (fun h_2 p_2 => ?_))
  obtain ⟨i_2, z_2⟩ := p_2
  rw [z_2]
  refine g_iload2 dX1_shareText_5 ?_
  refine g_callS (ctX1_requirePlace p (by omega)) kX1_requirePlace q1535 (by decide) ⟨Nat.le_of_ble_eq_true rfl, Nat.le_of_ble_eq_true rfl⟩ rfl (Nat.le_of_ble_eq_true rfl) dX1_shareText_6 (fun C_ q_ h2_ px => by obtain ⟨rfl, c_6, rfl⟩ := px; exact gx_out0 rfl ⟨(by unfold cX xc_shareText; (repeat' split) <;> first | exact ⟨Nat.zero_lt_succ _, rfl⟩ | (exfalso; omega)), Fr.rf⟩ (Nat.le_of_ble_eq_true rfl) (Nat.le_of_ble_eq_true rfl)) (k_v (fun h_6 p_6 => ?_))
  obtain ⟨i_6, z_6⟩ := p_6
  rw [z_6]
  refine g_iload3 dX1_shareText_9 ?_
  refine g_iconst (nI 4294967295) dX1_shareText_10 (by decide) ?_
  refine g_icmp_ge (tgt := 22) dX1_shareText_11 (by decide) (fun c_11 => ?_) (fun c_11 => ?_)
  · have hi9 := (ge_m1 hi).mp c_11
    refine g_new 6 (1020) [.null, .int 0, .int 0, .int 0] in_J4 tyJ4_ok q192 q193 q73 rfl nwJ4 (Nat.le_of_ble_eq_true rfl) (Nat.le_of_ble_eq_true rfl) dX1_shareText_22 (fun q_22 f_22 => ?_)
    refine g_dup dX1_shareText_25 rfl ?_
    refine g_callI (ctJ4_init (t := 1020) (g_up_self _ _ _)) kJ4_init q194 (by decide) ⟨Nat.le_of_ble_eq_true rfl, Nat.le_of_ble_eq_true rfl⟩ rfl (Nat.le_of_ble_eq_true rfl) dX1_shareText_26 k_x (k_v (fun h_26 p_26 => ?_))
    obtain ⟨x_26, g_26⟩ := p_26
    have F_26 : Fr tP h h_26 := Fa.frN f_22 g_26
    have hV2 := hV.fr F_26
    first | refine g_astore4 dX1_shareText_29 (by decide) ?_ | refine g_astoreQ4 dX1_shareText_29 (by decide) ?_ | refine g_astoreN4 dX1_shareText_29 (by decide) ?_
    first | refine g_aload0 dX1_shareText_31 ?_ | refine g_aloadQ0 dX1_shareText_31 ?_ | refine g_aloadN0 dX1_shareText_31 ?_
    refine g_iload1 dX1_shareText_32 ?_
    refine g_iload2 dX1_shareText_33 ?_
    refine g_callVR (ctX1_shareAt hV2 hW s p (by omega) (by omega)) kX1_shareAt q1538 hV2.rv (by decide) ⟨Nat.le_of_ble_eq_true rfl, Nat.le_of_ble_eq_true rfl⟩ rfl (Nat.le_of_ble_eq_true rfl) dX1_shareText_34 (fun C_ q_ h2_ px => by obtain ⟨rfl, c_34, rfl⟩ := px; exact gx_out0 rfl ⟨(by unfold cX xc_shareText; (repeat' split) <;> first | exact ⟨Nat.zero_lt_succ _, rfl⟩ | (exfalso; omega)), F_26⟩ (Nat.le_of_ble_eq_true rfl) (Nat.le_of_ble_eq_true rfl)) (k_r (fun r_34 h_34 p_34 => ?_))
    obtain ⟨gs1, g0, hsh, z_34⟩ := p_34
    rw [z_34]
    have hsl := hW.sl (show s < 4 by omega)
    have hs2 := hsl.2.2.2.2.2.2 p (by omega) (by omega)
    have hlt := shT_len (p := p) (v := gSh (M 1) s p 1) (e := gSh (M 1) s p 2) (by omega) (by omega) (by omega)
    first | refine g_aload4 dX1_shareText_37 ?_ | refine g_aloadQ4 dX1_shareText_37 ?_ | refine g_aloadN4 dX1_shareText_37 ?_
    refine g_callVR (ctX6_write x_26 hsh ⟨by omega, by omega⟩ (by omega) (by omega) (by omega) (by decide)) kX6_write q1565 (gRv.g hsh rfl rfl) (by decide) ⟨Nat.le_of_ble_eq_true rfl, Nat.le_of_ble_eq_true rfl⟩ rfl (Nat.le_of_ble_eq_true rfl) dX1_shareText_39 k_x (k_v (fun h_39 p_39 => ?_))
    obtain ⟨y_39, f_39⟩ := p_39
    have F2 := F_26.tr (f_39.tm (fun u z => by omega))
    rw [List.nil_append] at y_39
    first | refine g_aload4 dX1_shareText_42 ?_ | refine g_aloadQ4 dX1_shareText_42 ?_ | refine g_aloadN4 dX1_shareText_42 ?_
    refine g_iload3 dX1_shareText_44 ?_
    refine g_callS (ctX1_characterOf i y_39 hi9) kX1_characterOf q1590 (by decide) ⟨Nat.le_of_ble_eq_true rfl, Nat.le_of_ble_eq_true rfl⟩ rfl (Nat.le_of_ble_eq_true rfl) dX1_shareText_45 (fun C_ q_ h2_ px => by obtain ⟨rfl, c_45, rfl⟩ := px; exact gx_out0 rfl ⟨(by unfold cX xc_shareText; (repeat' split) <;> first | exact ⟨Nat.zero_lt_succ _, rfl⟩ | (exfalso; omega)), F2⟩ (Nat.le_of_ble_eq_true rfl) (Nat.le_of_ble_eq_true rfl)) (k_n (fun r_45 h_45 p_45 => ?_))
    obtain ⟨k_45, z_45⟩ := p_45
    rw [z_45]
    exact g_iret dX1_shareText_48 rfl ⟨_, rfl, (by unfold xc_shareText; (repeat' split) <;> first | rfl | (exfalso; rcases k_45 with z | z <;> omega)), (by unfold xv_shareText; rcases k_45 with ⟨z1, z2⟩ | ⟨z1, z2⟩; (rw [if_pos z1]; exact z2); (rw [if_neg (by have := hlt; omega)]; exact z2)), F2⟩
  · have hi9 : ¬ (i < 2147483648 ∨ i = 4294967295) := fun z => c_11 ((ge_m1 hi).mpr z)
    exact g_throw0 (names := ["java/lang/RuntimeException", "java/lang/Exception"]) (by decide +kernel) (by decide +kernel) q920 q79 at_SecretVault_IndexOutOfBoundsException at_SecretVault_IndexOutOfBoundsException_g dX1_shareText_14 dX1_shareText_17 dX1_shareText_18 dX1_shareText_21 (fun _ z => nomatch z) (by decide) (Nat.le_of_ble_eq_true rfl) (Nat.le_of_ble_eq_true rfl) (Nat.le_of_ble_eq_true rfl) (fun q => ⟨by unfold cX xc_shareText; (repeat' split) <;> first | exact ⟨Nat.zero_lt_succ _, rfl⟩ | (exfalso; omega), Fr.rf⟩)
abbrev mX1_policyText : GM := (yX1_policyText, 4, (some .int), [], { frames := 430, cells := 900, slots := 90000, locals := 14000 }, 255)
theorem kX1_policyText : gCv cX1_policyText mX1_policyText 2 := ⟨q1900, q1901, q67, q1902, ⟨by decide +kernel, by decide +kernel, by decide +kernel⟩, rfl⟩
theorem uX1_policyText : gCu cX1_policyText mX1_policyText 2 := ⟨q1900, q67, q1902, ⟨by decide +kernel, by decide +kernel, by decide +kernel⟩, rfl⟩
set_option maxHeartbeats 400000 in
theorem ctX1_policyText {E : GE} {h : AH} {v : Nat} {L9 : List Nat} (M : TW) (s : Nat) (i : Nat) (hV : VO E M v L9 h) (hW : vW M) (hs : s < 4294967296) (hi : i < 4294967296)  : Ct E cX1_policyText mX1_policyText [.ref v, .int (nI s), .int (nI i)] (h) (pN fun r h' => xc_policyText M s i = 0 ∧ r = xv_policyText M s i ∧ Fr tP h h') (fun C _ h' => cX ["java/lang/IndexOutOfBoundsException", "java/util/NoSuchElementException"] C (xc_policyText M s i) ∧ Fr tP h h') := by
  refine g_enter (own := "SecretVault") [some (.ref v), some (.int (nI s)), some (.int (nI i)), none] (by decide +kernel) rfl rfl (Nat.le_of_ble_eq_true rfl) rfl rfl (fun X => ?_)
  refine g_iload1 dX1_policyText_0 ?_
  refine g_iconst (nI 4) dX1_policyText_1 (by decide) ?_
  refine g_callS (ctX1_requireIndex s 4 (by omega) (by decide)) kX1_requireIndex q917 (by decide) ⟨Nat.le_of_ble_eq_true rfl, Nat.le_of_ble_eq_true rfl⟩ rfl (Nat.le_of_ble_eq_true rfl) dX1_policyText_2 (fun C_ q_ h2_ px => by obtain ⟨rfl, c_2, rfl⟩ := px; exact gx_out0 rfl ⟨(by unfold cX xc_policyText; (repeat' split) <;> first | exact ⟨Nat.zero_lt_succ _, rfl⟩ | (exfalso; omega)), Fr.rf⟩ (Nat.le_of_ble_eq_true rfl) (Nat.le_of_ble_eq_true rfl)) (k_v (fun h_2 p_2 => ?_))
  obtain ⟨i_2, z_2⟩ := p_2
  rw [z_2]
  refine g_iload2 dX1_policyText_5 ?_
  refine g_iconst (nI 4294967295) dX1_policyText_6 (by decide) ?_
  refine g_icmp_ge (tgt := 18) dX1_policyText_7 (by decide) (fun c_7 => ?_) (fun c_7 => ?_)
  · have hi9 := (ge_m1 hi).mp c_7
    refine g_new 6 (1020) [.null, .int 0, .int 0, .int 0] in_J4 tyJ4_ok q192 q193 q73 rfl nwJ4 (Nat.le_of_ble_eq_true rfl) (Nat.le_of_ble_eq_true rfl) dX1_policyText_18 (fun q_18 f_18 => ?_)
    refine g_dup dX1_policyText_21 rfl ?_
    refine g_callI (ctJ4_init (t := 1020) (g_up_self _ _ _)) kJ4_init q194 (by decide) ⟨Nat.le_of_ble_eq_true rfl, Nat.le_of_ble_eq_true rfl⟩ rfl (Nat.le_of_ble_eq_true rfl) dX1_policyText_22 k_x (k_v (fun h_22 p_22 => ?_))
    obtain ⟨x_22, g_22⟩ := p_22
    have F_22 : Fr tP h h_22 := Fa.frN f_18 g_22
    have hV2 := hV.fr F_22
    first | refine g_astore3 dX1_policyText_25 (by decide) ?_ | refine g_astoreQ3 dX1_policyText_25 (by decide) ?_ | refine g_astoreN3 dX1_policyText_25 (by decide) ?_
    first | refine g_aload0 dX1_policyText_26 ?_ | refine g_aloadQ0 dX1_policyText_26 ?_ | refine g_aloadN0 dX1_policyText_26 ?_
    refine g_iload1 dX1_policyText_27 ?_
    refine g_callVR (ctX1_policyOf hV2 hW s (by omega)) kX1_policyOf q1903 hV2.rv (by decide) ⟨Nat.le_of_ble_eq_true rfl, Nat.le_of_ble_eq_true rfl⟩ rfl (Nat.le_of_ble_eq_true rfl) dX1_policyText_28 (fun C_ q_ h2_ px => by obtain ⟨rfl, c_28, rfl⟩ := px; exact gx_out0 rfl ⟨(by unfold cX xc_policyText; (repeat' split) <;> first | exact ⟨Nat.zero_lt_succ _, rfl⟩ | (exfalso; omega)), F_22⟩ (Nat.le_of_ble_eq_true rfl) (Nat.le_of_ble_eq_true rfl)) (k_r (fun r_28 h_28 p_28 => ?_))
    obtain ⟨g0, g11, hrep, z_28⟩ := p_28
    rw [z_28]
    have hp9 := plX_len (hW.2.2.1 s (by omega)) (by omega)
    first | refine g_aload3 dX1_policyText_31 ?_ | refine g_aloadQ3 dX1_policyText_31 ?_ | refine g_aloadN3 dX1_policyText_31 ?_
    refine V.wide (k' := 20) (n' := 400) (by decide) (by decide) ?_
    refine g_callS (ctX1_write 200 (q := q_18) (t := 1020) (by decide) _ r_28 (plA (M 1) s) [] hrep x_22 (by show 0 + (plX (M 1) s).length ≤ 100; omega)) (kX1_write 200 ((plX (M 1) s).length)) q1907 ⟨by show 200 + 14 + 1 ≤ 430; decide, by show 8 + (6 + 11) + (60 * 200 + 500) ≤ 14000; decide⟩ ⟨by show 20 + 20 * (plX (M 1) s).length ≤ 900; omega, by show 400 + 2000 * (plX (M 1) s).length ≤ 90000; omega⟩ rfl (Nat.le_of_ble_eq_true rfl) dX1_policyText_32 k_x (k_v (fun h_32 p_32 => ?_))
    obtain ⟨y_32, f_32⟩ := p_32
    have F2 := F_22.tr (f_32.tm (fun u z => Nat.le_trans (by decide) z.1))
    rw [List.nil_append] at y_32
    have y_32 : SB E 1020 h_32 q_18 (plX (M 1) s) := y_32
    refine V.wide (k' := 820) (n' := 80400) (by show 20 + 20 * (plX (M 1) s).length ≤ 820; omega) (by show 400 + 2000 * (plX (M 1) s).length ≤ 80400; omega) ?_
    first | refine g_aload3 dX1_policyText_35 ?_ | refine g_aloadQ3 dX1_policyText_35 ?_ | refine g_aloadN3 dX1_policyText_35 ?_
    refine g_iload2 dX1_policyText_36 ?_
    refine g_callS (ctX1_characterOf i y_32 hi9) kX1_characterOf q1590 (by decide) ⟨Nat.le_of_ble_eq_true rfl, Nat.le_of_ble_eq_true rfl⟩ rfl (Nat.le_of_ble_eq_true rfl) dX1_policyText_37 (fun C_ q_ h2_ px => by obtain ⟨rfl, c_37, rfl⟩ := px; exact gx_out0 rfl ⟨(by unfold cX xc_policyText; (repeat' split) <;> first | exact ⟨Nat.zero_lt_succ _, rfl⟩ | (exfalso; omega)), F2⟩ (Nat.le_of_ble_eq_true rfl) (Nat.le_of_ble_eq_true rfl)) (k_n (fun r_37 h_37 p_37 => ?_))
    obtain ⟨k_37, z_37⟩ := p_37
    rw [z_37]
    exact g_iret dX1_policyText_40 rfl ⟨_, rfl, (by unfold xc_policyText; (repeat' split) <;> first | rfl | (exfalso; rcases k_37 with z | z <;> omega)), (by unfold xv_policyText; rcases k_37 with ⟨z1, z2⟩ | ⟨z1, z2⟩; (rw [if_pos z1]; exact z2); (rw [if_neg (by have := hp9; omega)]; exact z2)), F2⟩
  · have hi9 : ¬ (i < 2147483648 ∨ i = 4294967295) := fun z => c_7 ((ge_m1 hi).mpr z)
    exact g_throw0 (names := ["java/lang/RuntimeException", "java/lang/Exception"]) (by decide +kernel) (by decide +kernel) q920 q79 at_SecretVault_IndexOutOfBoundsException at_SecretVault_IndexOutOfBoundsException_g dX1_policyText_10 dX1_policyText_13 dX1_policyText_14 dX1_policyText_17 (fun _ z => nomatch z) (by decide) (Nat.le_of_ble_eq_true rfl) (Nat.le_of_ble_eq_true rfl) (Nat.le_of_ble_eq_true rfl) (fun q => ⟨by unfold cX xc_policyText; (repeat' split) <;> first | exact ⟨Nat.zero_lt_succ _, rfl⟩ | (exfalso; omega), Fr.rf⟩)
