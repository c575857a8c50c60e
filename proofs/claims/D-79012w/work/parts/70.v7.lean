/-! THE VAULT: saved and restored -/
set_option maxRecDepth 100000
theorem WO.cg {E : GE} {B : Nat} {g g' : Nat → Nat} {a : Nat} {h : AH} (hw : WO E B g a h) (h17 : g 17 ≤ 20) (hsm : ∀ s, s < 4 → gOf g s 11 ≤ 40 ∧ gOf g s 1 ≤ 8) (he : ∀ i, i < 534 → g' i = g i) : WO E B g' a h := by
  obtain ⟨aw, ap, az, ad, fw, fp, fz, x1, x2, x3, x4, x5, x6, x7, x8⟩ := hw
  refine ⟨aw, ap, az, ad, fw, fp, fz, by rw [he 0 (by decide)]; exact x1, x2, fun m hm => (x3 m hm).trans (he _ (by omega)).symm, x4, fun m hm => (x5 m hm).trans (he _ (by omega)).symm, x6, fun s hs => (x7 s hs).cg (hsm s hs).1 (hsm s hs).2 (fun w hw => he _ (by omega)), ?_⟩
  rw [evL_cg (he 17 (by decide)) h17 (fun k hk => he _ (by omega))]
  exact x8
/-- the world is saved -/
theorem VX9.sa {E : GE} {M : TW} {v w b r : Nat} {sv : Option Nat} {L : List Nat} {h h' : AH} (hV : VX9 E M v L w b sv h) (hf : Fr (cpP 300) h h') (hr : WO E 300 (M 1) r h') (h17 : M 1 17 ≤ 20) (hsm : ∀ s, s < 4 → gOf (M 1) s 11 ≤ 40 ∧ gOf (M 1) s 1 ≤ 8) : VO E (tCp (tset M 0 3 1) 1 2 534) v L (g_up h' v (10, gO 0 [.ref w, .ref r, .ref b, .int (nI (M 0 16)), va_rf L.head?])) ∧ Fr vP h (g_up h' v (10, gO 0 [.ref w, .ref r, .ref b, .int (nI (M 0 16)), va_rf L.head?])) := by
  obtain ⟨h1, h2, h3, h4, h5, h6⟩ := hV
  have hv := hf _ _ _ h1 (by decide)
  have f2 : Fr (fun u => u = 10) h' (g_up h' v (10, gO 0 [.ref w, .ref r, .ref b, .int (nI (M 0 16)), va_rf L.head?])) := Fr.put hv rfl
  have e16 : tCp (tset M 0 3 1) 1 2 534 0 16 = M 0 16 := by show tset M 0 3 1 0 16 = _; exact tset_sn _ _ _ (by decide)
  have e3 : tCp (tset M 0 3 1) 1 2 534 0 3 = 1 := by show tset M 0 3 1 0 3 = _; exact tset_ss _ _ _ _
  have e10 : tCp (tset M 0 3 1) 1 2 534 0 10 = M 0 10 := by show tset M 0 3 1 0 10 = _; exact tset_sn _ _ _ (by decide)
  have e15 : tCp (tset M 0 3 1) 1 2 534 0 15 = M 0 15 := by show tset M 0 3 1 0 15 = _; exact tset_sn _ _ _ (by decide)
  have e1 : tCp (tset M 0 3 1) 1 2 534 1 = M 1 := by show tset M 0 3 1 1 = _; exact tset_n _ _ _ (by decide)
  have e8 : tCp (tset M 0 3 1) 1 2 534 8 = M 8 := by show tset M 0 3 1 8 = _; exact tset_n _ _ _ (by decide)
  have e9 : tCp (tset M 0 3 1) 1 2 534 9 = M 9 := by show tset M 0 3 1 9 = _; exact tset_n _ _ _ (by decide)
  have e14 : tCp (tset M 0 3 1) 1 2 534 14 = M 14 := by show tset M 0 3 1 14 = _; exact tset_n _ _ _ (by decide)
  refine ⟨⟨w, b, some r, by rw [e16]; exact g_up_self _ _ _, by rw [e1]; exact (h2.fr hf (fun t ht => by omega) (by decide) (by decide)).fr f2 (fun t ht => by omega) (by decide) (by decide), Or.inl ⟨e3, r, rfl, ?_⟩, by rw [e14, e15]; exact (h4.fr hf (by decide) (by decide)).fr f2 (by decide) (by decide), by rw [e10]; exact h5, by rw [e8, e9]; exact (h6.fr hf (by decide)).fr f2 (by decide)⟩, (hf.mono (fun u z => by omega)).tr (f2.mono (fun u z => by omega))⟩
  exact (WO.cg hr h17 hsm (fun i hi => by show (if i < 534 then M 1 i else _) = _; exact if_pos hi)).fr f2 (fun t ht => by omega) (by decide) (by decide)
/-- the world is restored -/
theorem VX9.re {E : GE} {M : TW} {v w b r : Nat} {sv : Option Nat} {L : List Nat} {h h' : AH} (hV : VX9 E M v L w b sv h) (hf : Fr (cpP 100) h h') (hr : WO E 100 (M 2) r h') (h17 : M 2 17 ≤ 20) (hsm : ∀ s, s < 4 → gOf (M 2) s 11 ≤ 40 ∧ gOf (M 2) s 1 ≤ 8) : (VO E (tCp M 2 1 534) v L (g_up h' v (10, gO 0 [.ref r, va_rf sv, .ref b, .int (nI (M 0 16)), va_rf L.head?])) ∧ Fr vP h (g_up h' v (10, gO 0 [.ref r, va_rf sv, .ref b, .int (nI (M 0 16)), va_rf L.head?]))) ∧ WO E 100 (tCp M 2 1 534 1) r (g_up h' v (10, gO 0 [.ref r, va_rf sv, .ref b, .int (nI (M 0 16)), va_rf L.head?])) := by
  obtain ⟨h1, h2, h3, h4, h5, h6⟩ := hV
  have hv := hf _ _ _ h1 (by decide)
  have f2 : Fr (fun u => u = 10) h' (g_up h' v (10, gO 0 [.ref r, va_rf sv, .ref b, .int (nI (M 0 16)), va_rf L.head?])) := Fr.put hv rfl
  have ew : WO E 100 (tCp M 2 1 534 1) r (g_up h' v (10, gO 0 [.ref r, va_rf sv, .ref b, .int (nI (M 0 16)), va_rf L.head?])) := (WO.cg hr h17 hsm (fun i hi => by show (if i < 534 then M 2 i else _) = _; exact if_pos hi)).fr f2 (fun t ht => by omega) (by decide) (by decide)
  refine ⟨⟨⟨r, b, sv, g_up_self _ _ _, ew, ?_, (h4.fr hf (by decide) (by decide)).fr f2 (by decide) (by decide), h5, (h6.fr hf (by decide)).fr f2 (by decide)⟩, (hf.mono (fun u z => by omega)).tr (f2.mono (fun u z => by omega))⟩, ew⟩
  exact h3.imp (fun z => ⟨z.1, z.2.choose, z.2.choose_spec.1, (z.2.choose_spec.2.fr hf (fun t ht => by omega) (by decide) (by decide)).fr f2 (fun t ht => by omega) (by decide) (by decide)⟩) id
abbrev mX1_secretsOf : GM := (yX1_secretsOf, 6, (some .int), [], { frames := 0, cells := 0, slots := 0, locals := 0 }, 255)
theorem kX1_secretsOf : gCs cX1_secretsOf mX1_secretsOf 1 := ⟨q901, q67, q902, ⟨by decide +kernel, by decide +kernel, by decide +kernel⟩, rfl⟩
set_option maxHeartbeats 400000 in
theorem ctX1_secretsOf {E : GE} {h : AH} {B a : Nat} {g : Nat → Nat} (hx : WO E B g a h) (hle : ∀ s, s < 4 → gOf g s 0 ≤ 1) : Ct E cX1_secretsOf mX1_secretsOf [.ref a] (h) (pN fun r h' => r = seF g 4 ∧ h' = h) (noX) := by
  refine g_enter (own := "SecretVault") [some (.ref a), none, none, none, none, none] (by decide +kernel) rfl rfl (Nat.le_of_ble_eq_true rfl) rfl rfl (fun X => ?_)
  obtain ⟨aw, ap, az, ad, fw, fp, fz, x1, x2, x3, x4, x5, x6, x7, x8⟩ := hx
  have hS : ∀ y, y ≤ 4 → seF g y ≤ y := by
    intro y
    induction y with
    | zero => exact fun _ => Nat.le_refl _
    | succ y ih => exact fun hy => Nat.add_le_add (ih (by omega)) (hle y (by omega))
  have K : ∀ n y l5, n + y = 4 → V E cX1_secretsOf "SecretVault" mX1_secretsOf (pN fun r h' => r = seF g 4 ∧ h' = h) noX X (h) 0 0 13 [some (.ref a), some (.int (nI (seF g y))), some (.ref az), some (.int (nI 4)), some (.int (nI y)), l5] [] := by
    intro n
    induction n with
    | zero =>
      intro y l5 hn0
      obtain rfl : y = 4 := by omega
      refine g_iload4 dX1_secretsOf_13 ?_
      refine g_iload3 dX1_secretsOf_15 ?_
      first | refine g_icmpN_ge (tgt := 44) dX1_secretsOf_16 (by decide) (by omega) (by omega) (fun c_16 => ?_) (fun c_16 => ?_) | refine g_icmp_ge (tgt := 44) dX1_secretsOf_16 (by decide) (fun c_16 => ?_) (fun c_16 => ?_)
      · refine g_iload1 dX1_secretsOf_44 ?_
        exact g_iret dX1_secretsOf_45 rfl ⟨_, rfl, rfl, rfl⟩
      · omega
    | succ n ih =>
      intro y l5 hn0
      have hy := hS y (by omega)
      rcases x7 y (by omega) with ⟨z1, q1, z2, z3⟩ | ⟨z1, z2⟩
      · have e1 : seF g y + 1 = seF g (y + 1) := by show _ = seF g y + gOf g y 0; rw [z1]
        refine g_iload4 dX1_secretsOf_13 ?_
        refine g_iload3 dX1_secretsOf_15 ?_
        first | refine g_icmpN_ge (tgt := 44) dX1_secretsOf_16 (by decide) (by omega) (by omega) (fun c_16 => ?_) (fun c_16 => ?_) | refine g_icmp_ge (tgt := 44) dX1_secretsOf_16 (by decide) (fun c_16 => ?_) (fun c_16 => ?_)
        · omega
        · first | refine g_aload2 dX1_secretsOf_19 ?_ | refine g_aloadQ2 dX1_secretsOf_19 ?_ | refine g_aloadN2 dX1_secretsOf_19 ?_
          refine g_iload4 dX1_secretsOf_20 ?_
          refine g_aald (by first | assumption | exact g_up_self _ _ _ | (refine g_upf ?_ ?_ <;> assumption) | (refine g_upt ?_ ?_ (by decide) <;> assumption)) rfl (by omega) (by omega) dX1_secretsOf_22 ?_
          first | refine g_astore5 dX1_secretsOf_23 (by decide) ?_ | refine g_astoreQ5 dX1_secretsOf_23 (by decide) ?_ | refine g_astoreN5 dX1_secretsOf_23 (by decide) ?_
          refine g_iload1 dX1_secretsOf_25 ?_
          first | refine g_aload5 dX1_secretsOf_26 ?_ | refine g_aloadQ5 dX1_secretsOf_26 ?_ | refine g_aloadN5 dX1_secretsOf_26 ?_
          rw [z2]
          refine g_ifnonnullR (tgt := 35) dX1_secretsOf_28 (by decide) ?_
          refine g_iconst (nI 1) dX1_secretsOf_35 (by decide) ?_
          first | refine g_iaddN dX1_secretsOf_36 ?_ | refine g_iadd dX1_secretsOf_36 ?_
          refine g_istore1 dX1_secretsOf_37 (by decide) ?_
          first | refine g_iincN4 1 dX1_secretsOf_38 (by decide) (by decide) ?_ | refine g_iinc4 _ dX1_secretsOf_38 rfl (by decide) ?_
          refine g_goto (tgt := 13) dX1_secretsOf_41 (by decide) ?_
          rw [e1]
          exact ih (y + 1) _ (by omega)
      · have e1 : seF g y + 0 = seF g (y + 1) := by have := hle y (by omega); show _ = seF g y + gOf g y 0; omega
        refine g_iload4 dX1_secretsOf_13 ?_
        refine g_iload3 dX1_secretsOf_15 ?_
        first | refine g_icmpN_ge (tgt := 44) dX1_secretsOf_16 (by decide) (by omega) (by omega) (fun c_16 => ?_) (fun c_16 => ?_) | refine g_icmp_ge (tgt := 44) dX1_secretsOf_16 (by decide) (fun c_16 => ?_) (fun c_16 => ?_)
        · omega
        · first | refine g_aload2 dX1_secretsOf_19 ?_ | refine g_aloadQ2 dX1_secretsOf_19 ?_ | refine g_aloadN2 dX1_secretsOf_19 ?_
          refine g_iload4 dX1_secretsOf_20 ?_
          refine g_aald (by first | assumption | exact g_up_self _ _ _ | (refine g_upf ?_ ?_ <;> assumption) | (refine g_upt ?_ ?_ (by decide) <;> assumption)) rfl (by omega) (by omega) dX1_secretsOf_22 ?_
          first | refine g_astore5 dX1_secretsOf_23 (by decide) ?_ | refine g_astoreQ5 dX1_secretsOf_23 (by decide) ?_ | refine g_astoreN5 dX1_secretsOf_23 (by decide) ?_
          refine g_iload1 dX1_secretsOf_25 ?_
          first | refine g_aload5 dX1_secretsOf_26 ?_ | refine g_aloadQ5 dX1_secretsOf_26 ?_ | refine g_aloadN5 dX1_secretsOf_26 ?_
          rw [z2]
          refine g_ifnonnullN dX1_secretsOf_28 ?_
          refine g_iconst (nI 0) dX1_secretsOf_31 (by decide) ?_
          refine g_goto (tgt := 36) dX1_secretsOf_32 (by decide) ?_
          first | refine g_iaddN dX1_secretsOf_36 ?_ | refine g_iadd dX1_secretsOf_36 ?_
          refine g_istore1 dX1_secretsOf_37 (by decide) ?_
          first | refine g_iincN4 1 dX1_secretsOf_38 (by decide) (by decide) ?_ | refine g_iinc4 _ dX1_secretsOf_38 rfl (by decide) ?_
          refine g_goto (tgt := 13) dX1_secretsOf_41 (by decide) ?_
          rw [e1]
          exact ih (y + 1) _ (by omega)
  refine g_iconst (nI 0) dX1_secretsOf_0 (by decide) ?_
  refine g_istore1 dX1_secretsOf_1 (by decide) ?_
  first | refine g_aload0 dX1_secretsOf_2 ?_ | refine g_aloadQ0 dX1_secretsOf_2 ?_ | refine g_aloadN0 dX1_secretsOf_2 ?_
  refine g_getN (k0 := 2) (by first | assumption | exact g_up_self _ _ _ | (refine g_upf ?_ ?_ <;> assumption) | (refine g_upt ?_ ?_ (by decide) <;> assumption)) in_X2 q176 rfl (by decide) rfl dX1_secretsOf_3 ?_
  first | refine g_astore2 dX1_secretsOf_6 (by decide) ?_ | refine g_astoreQ2 dX1_secretsOf_6 (by decide) ?_ | refine g_astoreN2 dX1_secretsOf_6 (by decide) ?_
  first | refine g_aload2 dX1_secretsOf_7 ?_ | refine g_aloadQ2 dX1_secretsOf_7 ?_ | refine g_aloadN2 dX1_secretsOf_7 ?_
  refine g_alen (by first | assumption | exact g_up_self _ _ _ | (refine g_upf ?_ ?_ <;> assumption) | (refine g_upt ?_ ?_ (by decide) <;> assumption)) (by first | exact Or.inl ⟨_, rfl⟩ | exact Or.inr (Or.inr (Or.inl ⟨_, rfl⟩)) | exact Or.inr (Or.inr (Or.inr (Or.inl ⟨_, rfl⟩))) | exact Or.inr (Or.inr (Or.inr (Or.inr (Or.inr ⟨_, _, by decide, by decide, rfl⟩))))) rfl dX1_secretsOf_8 ?_
  refine g_istore3 dX1_secretsOf_9 (by decide) ?_
  refine g_iconst (nI 0) dX1_secretsOf_10 (by decide) ?_
  refine g_istore4 dX1_secretsOf_11 (by decide) ?_
  exact K 4 0 _ (by omega)
abbrev mX1_save : GM := (yX1_save, 1, (some .int), [], { frames := 6, cells := 900, slots := 90000, locals := 177 }, 255)
theorem kX1_save : gCv cX1_save mX1_save 0 := ⟨q632, q633, q67, q634, ⟨by decide +kernel, by decide +kernel, by decide +kernel⟩, rfl⟩
theorem uX1_save : gCu cX1_save mX1_save 0 := ⟨q632, q67, q634, ⟨by decide +kernel, by decide +kernel, by decide +kernel⟩, rfl⟩
set_option maxHeartbeats 400000 in
theorem ctX1_save {E : GE} {h : AH} {v : Nat} {L9 : List Nat} (M : TW)  (hV : VO E M v L9 h) (hW : vW M)   : Ct E cX1_save mX1_save [.ref v] (h) (pN fun r h' => xc_save M  = 0 ∧ r = xv_save M  ∧ VO E (xm_save M ) v L9 h' ∧ Fr vP h h') (noX) := by
  refine g_enter (own := "SecretVault") [some (.ref v)] (by decide +kernel) rfl rfl (Nat.le_of_ble_eq_true rfl) rfl rfl (fun X => ?_)
  obtain ⟨w, b, sv, hv, hwo, hsv, hsb, hlen, hch⟩ := id hV
  first | refine g_aload0 dX1_save_0 ?_ | refine g_aloadQ0 dX1_save_0 ?_ | refine g_aloadN0 dX1_save_0 ?_
  first | refine g_aload0 dX1_save_1 ?_ | refine g_aloadQ0 dX1_save_1 ?_ | refine g_aloadN0 dX1_save_1 ?_
  refine g_get (k0 := 0) (by first | assumption | exact g_up_self _ _ _ | (refine g_upf ?_ ?_ <;> assumption) | (refine g_upt ?_ ?_ (by decide) <;> assumption)) in_X1 q577 rfl (by decide) rfl dX1_save_2 ?_
  refine g_callVR (ctX2_copy 300 hwo hW.s4 hW.wb hW.h17 (fun v hm => Nat.lt_trans (hW.2.2.2.2.2.1 v hm) (by decide)) (by decide) (by decide) (by decide)) kX2_copy q635 hwo.rv (by decide) ⟨Nat.le_of_ble_eq_true rfl, Nat.le_of_ble_eq_true rfl⟩ rfl (Nat.le_of_ble_eq_true rfl) dX1_save_5 k_x (k_r (fun r_5 h_5 p_5 => ?_))
  obtain ⟨n_5, f_5⟩ := p_5
  have hv2 := f_5 _ _ _ hv (by decide)
  have q9 := VX9.sa ⟨hv, hwo, hsv, hsb, hlen, hch⟩ f_5 n_5 hW.h17 hW.sm
  refine g_put (k0 := 1) (by first | assumption | exact g_up_self _ _ _ | (refine g_upf ?_ ?_ <;> assumption) | (refine g_upt ?_ ?_ (by decide) <;> assumption)) in_X1 q578 tyX1_ok nmX1 rfl (by decide) rfl (by rfl) (by rfl) (Nat.le_of_ble_eq_true rfl) dX1_save_8 ?_
  first | refine g_aload0 dX1_save_11 ?_ | refine g_aloadQ0 dX1_save_11 ?_ | refine g_aloadN0 dX1_save_11 ?_
  refine g_get (k0 := 0) (by first | assumption | exact g_up_self _ _ _ | (refine g_upf ?_ ?_ <;> assumption) | (refine g_upt ?_ ?_ (by decide) <;> assumption)) in_X1 q577 rfl (by decide) rfl dX1_save_12 ?_
  refine g_callS (ctX1_secretsOf ((hwo.fr f_5 (fun t ht => by omega) (by decide) (by decide)).fr (P := fun u => u = 10) (Fr.put hv2 rfl) (fun t ht => by omega) (by decide) (by decide)) (fun s hs => hW.le hs)) kX1_secretsOf q900 (by decide) ⟨Nat.le_of_ble_eq_true rfl, Nat.le_of_ble_eq_true rfl⟩ rfl (Nat.le_of_ble_eq_true rfl) dX1_save_15 k_x (k_n (fun r_15 h_15 p_15 => ?_))
  obtain ⟨rfl, z_15⟩ := p_15
  rw [z_15]
  exact g_iret dX1_save_18 rfl ⟨_, rfl, rfl, rfl, q9.1, q9.2⟩
abbrev mX1_restore : GM := (yX1_restore, 1, (some .int), [], { frames := 7, cells := 900, slots := 90000, locals := 177 }, 255)
theorem kX1_restore : gCv cX1_restore mX1_restore 0 := ⟨q2089, q2090, q67, q2091, ⟨by decide +kernel, by decide +kernel, by decide +kernel⟩, rfl⟩
theorem uX1_restore : gCu cX1_restore mX1_restore 0 := ⟨q2089, q67, q2091, ⟨by decide +kernel, by decide +kernel, by decide +kernel⟩, rfl⟩
set_option maxHeartbeats 400000 in
theorem ctX1_restore {E : GE} {h : AH} {v : Nat} {L9 : List Nat} (M : TW)  (hV : VO E M v L9 h) (hW : vW M)   : Ct E cX1_restore mX1_restore [.ref v] (h) (pN fun r h' => xc_restore M  = 0 ∧ r = xv_restore M  ∧ VO E (xm_restore M ) v L9 h' ∧ Fr vP h h') (fun C _ h' => cX ["java/lang/IllegalStateException"] C (xc_restore M ) ∧ VO E (xm_restore M ) v L9 h' ∧ Fr vP h h') := by
  refine g_enter (own := "SecretVault") [some (.ref v)] (by decide +kernel) rfl rfl (Nat.le_of_ble_eq_true rfl) rfl rfl (fun X => ?_)
  obtain ⟨w, b, sv, hv, hwo, hsv, hsb, hlen, hch⟩ := id hV
  rcases id hsv with ⟨e3, a, rfl, hsa⟩ | ⟨e3, rfl⟩
  · have hg2 := (hW.2.2.2.1 e3).1
    have hle2 : ∀ s, s < 4 → gOf (tCp M 2 1 534 1) s 0 ≤ 1 := fun s hs => by have q : gOf (tCp M 2 1 534 1) s 0 = gOf (M 2) s 0 := if_pos (by omega); rw [q]; exact (hg2.2.2.2 s hs).1
    first | refine g_aload0 dX1_restore_0 ?_ | refine g_aloadQ0 dX1_restore_0 ?_ | refine g_aloadN0 dX1_restore_0 ?_
    refine g_get (k0 := 1) (by first | assumption | exact g_up_self _ _ _ | (refine g_upf ?_ ?_ <;> assumption) | (refine g_upt ?_ ?_ (by decide) <;> assumption)) in_X1 q578 rfl (by decide) rfl dX1_restore_1 ?_
    refine g_ifnullR dX1_restore_4 ?_
    refine g_iconst (nI 1) dX1_restore_7 (by decide) ?_
    refine g_goto (tgt := 12) dX1_restore_8 (by decide) ?_
    refine g_callS (ctX1_requireState 1 (by decide)) kX1_requireState q1080 (by decide) ⟨Nat.le_of_ble_eq_true rfl, Nat.le_of_ble_eq_true rfl⟩ rfl (Nat.le_of_ble_eq_true rfl) dX1_restore_12 (fun C_ q_ h2_ px => by obtain ⟨rfl, c_12, rfl⟩ := px; exact absurd c_12 (by decide)) (k_v (fun h_12 p_12 => ?_))
    obtain ⟨b_12, z_12⟩ := p_12
    rw [z_12]
    first | refine g_aload0 dX1_restore_15 ?_ | refine g_aloadQ0 dX1_restore_15 ?_ | refine g_aloadN0 dX1_restore_15 ?_
    first | refine g_aload0 dX1_restore_16 ?_ | refine g_aloadQ0 dX1_restore_16 ?_ | refine g_aloadN0 dX1_restore_16 ?_
    refine g_get (k0 := 1) (by first | assumption | exact g_up_self _ _ _ | (refine g_upf ?_ ?_ <;> assumption) | (refine g_upt ?_ ?_ (by decide) <;> assumption)) in_X1 q578 rfl (by decide) rfl dX1_restore_17 ?_
    refine g_callVR (ctX2_copy 100 hsa hg2.2.2.2 ⟨hg2.1, hg2.2.1⟩ hg2.2.2.1 (fun v hm => Nat.lt_trans (hW.2.2.2.2.2.2 v hm) (by decide)) (by decide) (by decide) (by decide)) kX2_copy q635 hsa.rv (by decide) ⟨Nat.le_of_ble_eq_true rfl, Nat.le_of_ble_eq_true rfl⟩ rfl (Nat.le_of_ble_eq_true rfl) dX1_restore_20 k_x (k_r (fun r_20 h_20 p_20 => ?_))
    obtain ⟨n_20, f_20⟩ := p_20
    have hv2 := f_20 _ _ _ hv (by decide)
    have q9 := VX9.re ⟨hv, hwo, hsv, hsb, hlen, hch⟩ f_20 n_20 hg2.2.2.1 (fun s hs => ⟨(hg2.2.2.2 s hs).2.2.2.2.2.1, (hg2.2.2.2 s hs).2.2.1⟩)
    refine g_put (k0 := 0) (by first | assumption | exact g_up_self _ _ _ | (refine g_upf ?_ ?_ <;> assumption) | (refine g_upt ?_ ?_ (by decide) <;> assumption)) in_X1 q577 tyX1_ok nmX1 rfl (by decide) rfl (by rfl) (by rfl) (Nat.le_of_ble_eq_true rfl) dX1_restore_23 ?_
    first | refine g_aload0 dX1_restore_26 ?_ | refine g_aloadQ0 dX1_restore_26 ?_ | refine g_aloadN0 dX1_restore_26 ?_
    refine g_get (k0 := 0) (by first | assumption | exact g_up_self _ _ _ | (refine g_upf ?_ ?_ <;> assumption) | (refine g_upt ?_ ?_ (by decide) <;> assumption)) in_X1 q577 rfl (by decide) rfl dX1_restore_27 ?_
    refine g_callS (ctX1_secretsOf q9.2 hle2) kX1_secretsOf q900 (by decide) ⟨Nat.le_of_ble_eq_true rfl, Nat.le_of_ble_eq_true rfl⟩ rfl (Nat.le_of_ble_eq_true rfl) dX1_restore_30 k_x (k_n (fun r_30 h_30 p_30 => ?_))
    obtain ⟨rfl, z_30⟩ := p_30
    rw [z_30]
    exact g_iret dX1_restore_33 rfl ⟨_, rfl, (by unfold xc_restore; rw [if_neg (by omega)]), rfl, (by unfold xm_restore; rw [if_neg (by omega)]; exact q9.1.1), q9.1.2⟩
  · skip
    first | refine g_aload0 dX1_restore_0 ?_ | refine g_aloadQ0 dX1_restore_0 ?_ | refine g_aloadN0 dX1_restore_0 ?_
    refine g_get (k0 := 1) (by first | assumption | exact g_up_self _ _ _ | (refine g_upf ?_ ?_ <;> assumption) | (refine g_upt ?_ ?_ (by decide) <;> assumption)) in_X1 q578 rfl (by decide) rfl dX1_restore_1 ?_
    refine g_ifnullN (tgt := 11) dX1_restore_4 (by decide) ?_
    refine g_iconst (nI 0) dX1_restore_11 (by decide) ?_
    refine g_callS (ctX1_requireState 0 (by decide)) kX1_requireState q1080 (by decide) ⟨Nat.le_of_ble_eq_true rfl, Nat.le_of_ble_eq_true rfl⟩ rfl (Nat.le_of_ble_eq_true rfl) dX1_restore_12 (fun C_ q_ h2_ px => by obtain ⟨rfl, c_12, rfl⟩ := px; exact gx_out0 rfl ⟨(by unfold cX xc_restore; (repeat' split) <;> first | exact ⟨Nat.zero_lt_succ _, rfl⟩ | (exfalso; omega)), (by unfold xm_restore; (repeat' split) <;> first | exact hV | (exfalso; omega)), Fr.rf⟩ (Nat.le_of_ble_eq_true rfl) (Nat.le_of_ble_eq_true rfl)) (k_v (fun h_12 p_12 => ?_))
    exact absurd p_12.1 (by decide)
    
