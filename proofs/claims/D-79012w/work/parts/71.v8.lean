/-! THE VAULT: events, members -/
set_option maxRecDepth 100000
abbrev mX1_event : GM := (yX1_event, 6, (some .int), [], { frames := 7, cells := 900, slots := 90000, locals := 110 }, 255)
theorem kX1_event : gCv cX1_event mX1_event 1 := ⟨q2074, q2075, q67, q2076, ⟨by decide +kernel, by decide +kernel, by decide +kernel⟩, rfl⟩
theorem uX1_event : gCu cX1_event mX1_event 1 := ⟨q2074, q67, q2076, ⟨by decide +kernel, by decide +kernel, by decide +kernel⟩, rfl⟩
set_option maxHeartbeats 400000 in
theorem ctX1_event {E : GE} {h : AH} {v : Nat} {L9 : List Nat} (M : TW) (i : Nat) (hV : VO E M v L9 h) (hW : vW M) (hi : i < 4294967296)  : Ct E cX1_event mX1_event [.ref v, .int (nI i)] (h) (pN fun r h' => xc_event M i = 0 ∧ r = xv_event M i ∧ Fr tP h h') (fun C _ h' => cX ["java/util/NoSuchElementException"] C (xc_event M i) ∧ Fr tP h h') := by
  refine g_enter (own := "SecretVault") [some (.ref v), some (.int (nI i)), none, none, none, none] (by decide +kernel) rfl rfl (Nat.le_of_ble_eq_true rfl) rfl rfl (fun X => ?_)
  obtain ⟨w, b, sv, hv, ⟨aw, ap, az, ad, fw, fp, fz, x1, x2, x3, x4, x5, x6, x7, x8⟩, hsv, hsb, hlen, hch⟩ := id hV
  have hel := evL_len (M 1)
  have h17 := hW.h17
  have K : ∀ it arr N hd f, DX E 104 h ad (evL (M 1)) arr N hd f → i < M 1 17 → ∀ n j hq x l5, n + j = M 1 17 → hq it = some (1080, gO 10 [.int (nI ((hd + j) % N)), .int (nI ((evL (M 1)).length - j)), .int x, .ref ad]) → Fr tP h hq → V E cX1_event "SecretVault" mX1_event (pN fun r h' => xc_event M i = 0 ∧ r = xv_event M i ∧ Fr tP h h') (fun C _ h' => cX ["java/util/NoSuchElementException"] C (xc_event M i) ∧ Fr tP h h') X (hq) 100 9000 49 [some (.ref v), some (.int (nI i)), some (.int (nI (M 1 17 - 1 - i) - nI j)), some (.int (nI (if M 1 17 - 1 - i < j then M 1 (18 + i) else 0))), some (.ref it), l5] [] := by
    intro it arr N hd f hx hlt n
    induction n with
    | zero =>
      intro j hq x l5 hn0 hit hF
      have xd := hx.fr hF (by decide) (by decide) (by decide)
      have hz0 : ¬ 0 < (evL (M 1)).length - j := by omega
      first | refine g_aload4 dX1_event_49 ?_ | refine g_aloadQ4 dX1_event_49 ?_ | refine g_aloadN4 dX1_event_49 ?_
      refine g_callF (ctJ31_hasNext hit (by omega)) uJ31_hasNext q2080 q754 ⟨q752, q751, q757, q755, q753⟩ ⟨⟨by decide, by decide⟩, rfl⟩ hit rfl (by decide) ⟨Nat.le_of_ble_eq_true rfl, Nat.le_of_ble_eq_true rfl⟩ rfl (Nat.le_of_ble_eq_true rfl) dX1_event_51 k_x (k_n (fun r_51 h_51 p_51 => ?_))
      obtain ⟨rfl, z_51⟩ := p_51
      rw [z_51]
      refine V.wide (k' := 100) (n' := 9000) (Nat.le_refl _) (Nat.le_refl _) ?_
      first | refine g_ifN_eq (tgt := 91) dX1_event_56 (by decide) (by (first | omega | (split <;> omega))) (fun c_56 => ?_) (fun c_56 => ?_) | refine g_if_eq (tgt := 91) dX1_event_56 (by decide) (fun c_56 => ?_) (fun c_56 => ?_)
      · refine g_iload3 dX1_event_91 ?_
        exact g_iret dX1_event_92 rfl ⟨_, rfl, (by unfold xc_event; rw [if_pos hlt]), (by rw [if_pos (by omega)]; rfl), hF⟩
      · exact absurd (if_neg hz0) c_56
    | succ n ih =>
      intro j hq x l5 hn0 hit hF
      have xd := hx.fr hF (by decide) (by decide) (by decide)
      have hj : j < M 1 17 := by omega
      have hv9 := evL_at hj
      first | refine g_aload4 dX1_event_49 ?_ | refine g_aloadQ4 dX1_event_49 ?_ | refine g_aloadN4 dX1_event_49 ?_
      refine g_callF (ctJ31_hasNext hit (by omega)) uJ31_hasNext q2080 q754 ⟨q752, q751, q757, q755, q753⟩ ⟨⟨by decide, by decide⟩, rfl⟩ hit rfl (by decide) ⟨Nat.le_of_ble_eq_true rfl, Nat.le_of_ble_eq_true rfl⟩ rfl (Nat.le_of_ble_eq_true rfl) dX1_event_51 k_x (k_n (fun r_51 h_51 p_51 => ?_))
      obtain ⟨rfl, z_51⟩ := p_51
      rw [z_51]
      refine V.wide (k' := 100) (n' := 9000) (Nat.le_refl _) (Nat.le_refl _) ?_
      first | refine g_ifN_eq (tgt := 91) dX1_event_56 (by decide) (by (first | omega | (split <;> omega))) (fun c_56 => ?_) (fun c_56 => ?_) | refine g_if_eq (tgt := 91) dX1_event_56 (by decide) (fun c_56 => ?_) (fun c_56 => ?_)
      · (rw [if_pos (by omega)] at c_56; cases c_56)
      · first | refine g_aload4 dX1_event_59 ?_ | refine g_aloadQ4 dX1_event_59 ?_ | refine g_aloadN4 dX1_event_59 ?_
        refine g_callF (ctJ31_next hit xd ⟨by decide, by decide, by decide⟩ hv9) uJ31_next q2082 q763 ⟨q762, q761, q766, q764, q753⟩ ⟨⟨by decide, by decide⟩, rfl⟩ hit rfl (by decide) ⟨Nat.le_of_ble_eq_true rfl, Nat.le_of_ble_eq_true rfl⟩ rfl (Nat.le_of_ble_eq_true rfl) dX1_event_61 k_x (k_r (fun r_61 h_61 p_61 => ?_))
        obtain ⟨b_61, x9, z_61⟩ := p_61
        rw [z_61]
        refine V.wide (k' := 100) (n' := 9000) (Nat.le_refl _) (Nat.le_refl _) ?_
        have f9 : Fr tP hq h_61 := by
          rw [z_61]
          exact Fr.put hit (by decide)
        rw [← z_61]
        have hit2 := (congrFun z_61 it).trans (g_up_self _ _ _)
        have bb := b_61.fr f9 (by decide)
        refine g_ckR q2083 bb.rv dX1_event_66 ?_
        refine g_callVR (ctJ17_intValue bb) kJ17_intValue q2084 bb.rv (by decide) ⟨Nat.le_of_ble_eq_true rfl, Nat.le_of_ble_eq_true rfl⟩ rfl (Nat.le_of_ble_eq_true rfl) dX1_event_69 k_x (k_n (fun r_69 h_69 p_69 => ?_))
        obtain ⟨rfl, z_69⟩ := p_69
        rw [z_69]
        refine V.wide (k' := 100) (n' := 9000) (Nat.le_refl _) (Nat.le_refl _) ?_
        refine g_istore5 dX1_event_72 (by decide) ?_
        refine g_iload2 dX1_event_74 ?_
        refine g_if_ne (tgt := 83) dX1_event_75 (by decide) (fun c_75 => ?_) (fun c_75 => ?_)
        · have hne : ¬ M 1 17 - 1 - i = j := fun z => c_75 ((sub_eq0 (by omega) (by omega)).mpr z)
          have e3 : (if M 1 17 - 1 - i < j then M 1 (18 + i) else 0) = (if M 1 17 - 1 - i < j + 1 then M 1 (18 + i) else 0) := by by_cases q : M 1 17 - 1 - i < j; (rw [if_pos q, if_pos (by omega)]); (rw [if_neg q, if_neg (by omega)])
          refine g_iload3 dX1_event_83 ?_
          refine g_istore3 dX1_event_84 (by decide) ?_
          refine g_iinc2 _ dX1_event_85 rfl (by decide) ?_
          refine g_goto (tgt := 49) dX1_event_88 (by decide) ?_
          rw [sub_m1, e3]
          exact ih (j + 1) h_61 _ _ (by omega) hit2 (hF.tr f9)
        · have heq := (sub_eq0 (by omega) (by omega)).mp c_75
          have e3 : M 1 (18 + (M 1 17 - 1 - j)) = (if M 1 17 - 1 - i < j + 1 then M 1 (18 + i) else 0) := by rw [if_pos (by omega), show M 1 17 - 1 - j = i by omega]
          refine g_iload5 dX1_event_78 ?_
          refine g_goto (tgt := 84) dX1_event_80 (by decide) ?_
          refine g_istore3 dX1_event_84 (by decide) ?_
          refine g_iinc2 _ dX1_event_85 rfl (by decide) ?_
          refine g_goto (tgt := 49) dX1_event_88 (by decide) ?_
          rw [sub_m1, e3]
          exact ih (j + 1) h_61 _ _ (by omega) hit2 (hF.tr f9)
  obtain ⟨arr, N, hd, f, hx⟩ := id x8
  refine g_iload1 dX1_event_0 ?_
  refine g_iconst (nI 0) dX1_event_1 (by decide) ?_
  first | refine g_aload0 dX1_event_2 ?_ | refine g_aloadQ0 dX1_event_2 ?_ | refine g_aloadN0 dX1_event_2 ?_
  refine g_get (k0 := 0) (by first | assumption | exact g_up_self _ _ _ | (refine g_upf ?_ ?_ <;> assumption) | (refine g_upt ?_ ?_ (by decide) <;> assumption)) in_X1 q577 rfl (by decide) rfl dX1_event_3 ?_
  refine g_getN (k0 := 3) (by first | assumption | exact g_up_self _ _ _ | (refine g_upf ?_ ?_ <;> assumption) | (refine g_upt ?_ ?_ (by decide) <;> assumption)) in_X2 q178 rfl (by decide) rfl dX1_event_6 ?_
  refine g_callVR (ctJ1_size hx) kJ1_size q2077 hx.rv (by decide) ⟨Nat.le_of_ble_eq_true rfl, Nat.le_of_ble_eq_true rfl⟩ rfl (Nat.le_of_ble_eq_true rfl) dX1_event_9 k_x (k_n (fun r_9 h_9 p_9 => ?_))
  obtain ⟨rfl, z_9⟩ := p_9
  rw [z_9]
  rw [evL_len]
  refine g_iconst (nI 1) dX1_event_12 (by decide) ?_
  refine g_isub dX1_event_13 ?_
  rw [nI_dc]
  refine g_callS (ctX1_inS i 0 (dc (M 1 17)) (by omega) (by decide) (dc_lt (by omega))) kX1_in q935 (by decide) ⟨Nat.le_of_ble_eq_true rfl, Nat.le_of_ble_eq_true rfl⟩ rfl (Nat.le_of_ble_eq_true rfl) dX1_event_14 k_x (k_n (fun r_14 h_14 p_14 => ?_))
  obtain ⟨b_14, i_14, z_14⟩ := p_14
  rw [in_dc hi (by omega)] at i_14
  rw [z_14]
  refine g_callS (ctX1_requireElement _ (by omega)) kX1_requireElement q1139 (by decide) ⟨Nat.le_of_ble_eq_true rfl, Nat.le_of_ble_eq_true rfl⟩ rfl (Nat.le_of_ble_eq_true rfl) dX1_event_17 (fun C_ q_ h2_ px => by obtain ⟨rfl, c_17, rfl⟩ := px; exact gx_out0 rfl ⟨(by unfold cX xc_event; (repeat' split) <;> first | exact ⟨Nat.zero_lt_succ _, rfl⟩ | (exfalso; omega)), Fr.rf⟩ (Nat.le_of_ble_eq_true rfl) (Nat.le_of_ble_eq_true rfl)) (k_v (fun h_17 p_17 => ?_))
  obtain ⟨b_17, z_17⟩ := p_17
  rw [z_17]
  first | refine g_aload0 dX1_event_20 ?_ | refine g_aloadQ0 dX1_event_20 ?_ | refine g_aloadN0 dX1_event_20 ?_
  refine g_get (k0 := 0) (by first | assumption | exact g_up_self _ _ _ | (refine g_upf ?_ ?_ <;> assumption) | (refine g_upt ?_ ?_ (by decide) <;> assumption)) in_X1 q577 rfl (by decide) rfl dX1_event_21 ?_
  refine g_getN (k0 := 3) (by first | assumption | exact g_up_self _ _ _ | (refine g_upf ?_ ?_ <;> assumption) | (refine g_upt ?_ ?_ (by decide) <;> assumption)) in_X2 q178 rfl (by decide) rfl dX1_event_24 ?_
  refine g_callVR (ctJ1_size hx) kJ1_size q2077 hx.rv (by decide) ⟨Nat.le_of_ble_eq_true rfl, Nat.le_of_ble_eq_true rfl⟩ rfl (Nat.le_of_ble_eq_true rfl) dX1_event_27 k_x (k_n (fun r_27 h_27 p_27 => ?_))
  obtain ⟨rfl, z_27⟩ := p_27
  rw [z_27]
  rw [evL_len]
  refine g_iconst (nI 1) dX1_event_30 (by decide) ?_
  first | refine g_isubN dX1_event_31 (by omega) ?_ | refine g_isub dX1_event_31 ?_
  refine g_iload1 dX1_event_32 ?_
  first | refine g_isubN dX1_event_33 (by omega) ?_ | refine g_isub dX1_event_33 ?_
  refine g_istore2 dX1_event_34 (by decide) ?_
  refine g_iconst (nI 0) dX1_event_35 (by decide) ?_
  refine g_istore3 dX1_event_36 (by decide) ?_
  first | refine g_aload0 dX1_event_37 ?_ | refine g_aloadQ0 dX1_event_37 ?_ | refine g_aloadN0 dX1_event_37 ?_
  refine g_get (k0 := 0) (by first | assumption | exact g_up_self _ _ _ | (refine g_upf ?_ ?_ <;> assumption) | (refine g_upt ?_ ?_ (by decide) <;> assumption)) in_X1 q577 rfl (by decide) rfl dX1_event_38 ?_
  refine g_getN (k0 := 3) (by first | assumption | exact g_up_self _ _ _ | (refine g_upf ?_ ?_ <;> assumption) | (refine g_upt ?_ ?_ (by decide) <;> assumption)) in_X2 q178 rfl (by decide) rfl dX1_event_41 ?_
  refine g_callVR (ctJ1_iterator 1080 hx ⟨by decide, by decide, by decide⟩) kJ1_iterator q2078 hx.rv (by decide) ⟨Nat.le_of_ble_eq_true rfl, Nat.le_of_ble_eq_true rfl⟩ rfl (Nat.le_of_ble_eq_true rfl) dX1_event_44 k_x (k_r (fun r_44 h_44 p_44 => ?_))
  obtain ⟨e_44, z_44⟩ := p_44
  have f8 : Fr tP h h_44 := by
    rw [z_44]
    exact Fr.new e_44
  have hit := (congrFun z_44 r_44).trans (g_up_self _ _ _)
  first | refine g_astore4 dX1_event_47 (by decide) ?_ | refine g_astoreQ4 dX1_event_47 (by decide) ?_ | refine g_astoreN4 dX1_event_47 (by decide) ?_
  have e0 : (hd + 0) % N = hd := by rw [Nat.add_zero]; exact Nat.mod_eq_of_lt hx.2.2.2.1
  have q9 := K r_44 arr N hd f hx (by omega) (M 1 17) 0 h_44 _ none (by omega) (by rw [e0, Nat.sub_zero]; exact hit) f8
  rw [sub_z, if_neg (Nat.not_lt_zero _)] at q9
  refine V.wide (k' := 100) (n' := 9000) (by decide) (by decide) ?_
  exact q9
