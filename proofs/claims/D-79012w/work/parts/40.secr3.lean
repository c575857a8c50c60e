/-! SECRETS: states, copies -/
set_option maxRecDepth 100000
theorem Fr.upn {P : Nat → Prop} {h h1 : AH} {b : Nat} {z : Nat × va_E} (hf : Fr P h h1) (hb : h b = none) : Fr P h (g_up h1 b z) := fun a t e ha hp => g_up_of (hf a t e ha hp) (fun q => by rw [q, hb] at ha; cases ha)
theorem Fr.at {h h1 : AH} {a : Nat} {x : Nat × va_E} (hf : Fr F0r h h1) (ha : h a = some x) : h1 a = some x := by
  obtain ⟨t, e⟩ := x
  exact hf a t e ha id
section GR7
variable {E : GE} {cc : ByteArray} {own : String} {M : GM} {Po : Option Value → AH → Prop} {Px : String → Nat → AH → Prop} {X : GX} {h : AH} {k n pc : Nat} {ls : List (Option Value)} {st : List Value}
/-- an array passes the cast to its own class -/
theorem g_ckA {index a t j : Nat} {x : vp_A} {ty : FieldType} {nm : String} (ha : h a = some (t, .inl (E.dA j, x))) (ht : (gTys E)[j]? = some (E.dA j, ty)) (hnm : ∀ s : State, va_RA s (E.dA j) ty → s.vm.findClass nm = some (E.dA j)) (hlk : Cond.classLink own index nm ∈ lw_all) (d : decode cc pc = .ok (.checkcast index, 3)) (kk : V E cc own M Po Px X h k n (pc + 3) ls (.ref a :: st)) : V E cc own M Po Px X h k n pc ls (.ref a :: st) := by
  intro O H locs la hI hS hl hL
  obtain ⟨h0, ws, hP, hD, hm⟩ := id hI
  obtain ⟨q0, hq⟩ := g_in (E := E) (H := H) hm ha
  exact va_castA O.hx O.hb O.hown (O.hts _ hlk) hP q0 hq (hnm _ (O.hK.2 j _ ht).2) d (kk O H locs la hI hS hl hL)
end GR7
theorem nm_St {E : GE} (s : State) (h : va_RA s (E.dA 9) (.object "SecretVault$State")) : s.vm.findClass "[LSecretVault$State;" = some (E.dA 9) := va_nmO h (by decide +kernel)
abbrev mX4_values : GM := (yX4_values, 0, (some (.array (.object "SecretVault$State"))), [], { frames := 1, cells := 1, slots := 3, locals := 30 }, 255)
theorem kX4_values : gCs cX4_values mX4_values 0 := ⟨q1318, q94, q1319, ⟨by decide +kernel, by decide +kernel, by decide +kernel⟩, rfl⟩
set_option maxHeartbeats 400000 in
theorem ctX4_values {E : GE} {h : AH} (T : Nat)  : Ct E cX4_values mX4_values [] (h) (pR fun r h' => h r = none ∧ h' = g_up h r (T, gAR E 9 3 (fun i => some (sA E i)))) (noX) := by
  refine g_enter (own := "SecretVault$State") [] (by decide +kernel) rfl rfl (Nat.le_of_ble_eq_true rfl) rfl rfl (fun X => ?_)
  refine V.hE (fun hE => ?_)
  refine g_gets (ref := "SecretVault$State") (hE.zR hE.vo.1 q1321 (List.mem_filter.mp q94).1) q1320 dX4_values_0 ?_
  refine g_cloneT (j := 9) T hE.va hE.vo.2 hE.vs rfl nm_St q1322 q1323 q275 q276 q1324 q1325 (Nat.le_of_ble_eq_true rfl) (Nat.le_of_ble_eq_true rfl) (Nat.le_of_ble_eq_true rfl) (Nat.le_of_ble_eq_true rfl) dX4_values_3 (fun q_3 f_3 => ?_)
  refine g_ckA (g_up_self _ _ _) rfl nm_St q1327 dX4_values_6 ?_
  exact g_aret dX4_values_9 rfl (Or.inr ⟨_, rfl⟩) ⟨_, rfl, f_3, rfl⟩
/-- the state found after i looks -/
def foN (st i : Nat) : Nat := if st < i then st else 0
theorem foN_3 {st : Nat} (h : st < 3) : foN st 3 = st := if_pos h
theorem foN_n {g : Nat → Nat} {s x i : Nat} (hi : i < 3) (h : isS g s x i = 0) : foN (stF g s x) i = foN (stF g s x) (i + 1) := by
  have hne : ¬ stF g s x = i := fun z => by
    have := isS_y z
    omega
  unfold foN
  split <;> split <;> omega
theorem foN_y {g : Nat → Nat} {s x i : Nat} (hi : i < 3) (h : ¬ isS g s x i = 0) : i = foN (stF g s x) (i + 1) := by
  have he : stF g s x = i := by
    unfold isS at h
    split at h
    · assumption
    · exact absurd rfl h
  unfold foN
  rw [he, if_pos (Nat.lt_succ_self i)]
abbrev mX5_stateOf : GM := (yX5_stateOf, 7, (some (.object "SecretVault$State")), [], { frames := 4, cells := 1, slots := 3, locals := 96 }, 255)
theorem kX5_stateOf : gCv cX5_stateOf mX5_stateOf 1 := ⟨q1314, q1315, q96, q1316, ⟨by decide +kernel, by decide +kernel, by decide +kernel⟩, rfl⟩
theorem uX5_stateOf : gCu cX5_stateOf mX5_stateOf 1 := ⟨q1314, q96, q1316, ⟨by decide +kernel, by decide +kernel, by decide +kernel⟩, rfl⟩
set_option maxHeartbeats 400000 in
theorem ctX5_stateOf {E : GE} {h : AH} {S s a b x : Nat} {g : Nat → Nat} (hs : seO E S g s a h) (hw : slW g s) (h1 : gOf g s 0 = 1) (hx : 1 ≤ x ∧ x ≤ 24) (hb : h b = some (S + 3 + x, shC g s x)) : Ct E cX5_stateOf mX5_stateOf [.ref a, .ref b] (h) (pR fun r h' => r = sA E (stF g s x) ∧ Fr F0r h h') (noX) := by
  refine g_enter (own := "SecretVault$Secret") [some (.ref a), some (.ref b), none, none, none, none, none] (by decide +kernel) rfl rfl (Nat.le_of_ble_eq_true rfl) rfl rfl (fun X => ?_)
  refine V.hE (fun hE => ?_)
  have hx3 := stF_lt g s x
  have K0 : ∀ n i (hq : AH) v o k nn, n + i = 3 → hq v = some (1070, gAR E 9 3 (fun i => some (sA E i))) → Fr F0r h hq → k ≤ 1 → nn ≤ 3 → V E cX5_stateOf "SecretVault$Secret" mX5_stateOf (pR fun r h' => r = sA E (stF g s x) ∧ Fr F0r h h') noX X (hq) k nn 15 [some (.ref a), some (.ref b), some (.ref (sA E (foN (stF g s x) i))), some (.ref v), some (.int (nI 3)), some (.int (nI i)), o] [] := by
    intro n
    induction n with
    | zero =>
      intro i hq v o k nn hn0 hv hF hk hnn
      obtain rfl : i = 3 := by omega
      refine g_iload5 dX5_stateOf_15 ?_
      refine g_iload4 dX5_stateOf_17 ?_
      first | refine g_icmpN_ge (tgt := 51) dX5_stateOf_19 (by decide) (by omega) (by omega) (fun c_19 => ?_) (fun c_19 => ?_) | refine g_icmp_ge (tgt := 51) dX5_stateOf_19 (by decide) (fun c_19 => ?_) (fun c_19 => ?_)
      · first | refine g_aload2 dX5_stateOf_51 ?_ | refine g_aloadQ2 dX5_stateOf_51 ?_ | refine g_aloadN2 dX5_stateOf_51 ?_
        exact g_aret (hk := hk) (hn := hnn) dX5_stateOf_52 rfl (Or.inl ⟨_, rfl⟩) ⟨_, rfl, by rw [foN_3 hx3], hF⟩
      · omega
    | succ n ih =>
      intro i hq v o k nn hn0 hv hF hk hnn
      have hs1 := hs.fr hF (fun _ _ => id) id id
      have hb1 := hF.at hb
      have hls := isS_lt g s x i
      refine g_iload5 dX5_stateOf_15 ?_
      refine g_iload4 dX5_stateOf_17 ?_
      first | refine g_icmpN_ge (tgt := 51) dX5_stateOf_19 (by decide) (by omega) (by omega) (fun c_19 => ?_) (fun c_19 => ?_) | refine g_icmp_ge (tgt := 51) dX5_stateOf_19 (by decide) (fun c_19 => ?_) (fun c_19 => ?_)
      · omega
      · first | refine g_aload3 dX5_stateOf_22 ?_ | refine g_aloadQ3 dX5_stateOf_22 ?_ | refine g_aloadN3 dX5_stateOf_22 ?_
        refine g_iload5 dX5_stateOf_23 ?_
        refine g_aald hv rfl (by omega) (by omega) dX5_stateOf_25 ?_
        change V _ _ _ _ _ _ _ _ _ _ _ _ (Value.ref (sA E i) :: _)
        first | refine g_astore6 dX5_stateOf_26 (by decide) ?_ | refine g_astoreQ6 dX5_stateOf_26 (by decide) ?_ | refine g_astoreN6 dX5_stateOf_26 (by decide) ?_
        first | refine g_aload6 dX5_stateOf_28 ?_ | refine g_aloadQ6 dX5_stateOf_28 ?_ | refine g_aloadN6 dX5_stateOf_28 ?_
        first | refine g_aload1 dX5_stateOf_30 ?_ | refine g_aloadQ1 dX5_stateOf_30 ?_ | refine g_aloadN1 dX5_stateOf_30 ?_
        first | refine g_aload0 dX5_stateOf_31 ?_ | refine g_aloadQ0 dX5_stateOf_31 ?_ | refine g_aloadN0 dX5_stateOf_31 ?_
        have K : V E cX5_stateOf "SecretVault$Secret" mX5_stateOf (pR fun r h' => r = sA E (stF g s x) ∧ Fr F0r h h') noX X (hq) k nn 35 [some (.ref a), some (.ref b), some (.ref (sA E (foN (stF g s x) i))), some (.ref v), some (.int (nI 3)), some (.int (nI i)), some (.ref (sA E i))] [.int (nI (isS g s x i))] := by
          first | refine g_ifN_eq (tgt := 43) dX5_stateOf_35 (by decide) (by omega) (fun c_35 => ?_) (fun c_35 => ?_) | refine g_if_eq (tgt := 43) dX5_stateOf_35 (by decide) (fun c_35 => ?_) (fun c_35 => ?_)
          · first | refine g_aload2 dX5_stateOf_43 ?_ | refine g_aloadQ2 dX5_stateOf_43 ?_ | refine g_aloadN2 dX5_stateOf_43 ?_
            first | refine g_astore2 dX5_stateOf_44 (by decide) ?_ | refine g_astoreQ2 dX5_stateOf_44 (by decide) ?_ | refine g_astoreN2 dX5_stateOf_44 (by decide) ?_
            first | refine g_iincN5 1 dX5_stateOf_45 (by decide) (by decide) ?_ | refine g_iinc5 _ dX5_stateOf_45 rfl (by decide) ?_
            refine g_goto (tgt := 15) dX5_stateOf_48 (by decide) ?_
            first | (rw [foN_n (by omega) c_35]; exact ih (i + 1) _ _ _ _ _ (by omega) hv hF hk hnn) | (rw [congrArg (sA E) (foN_y (by omega) c_35)]; exact ih (i + 1) _ _ _ _ _ (by omega) hv hF hk hnn)
          · first | refine g_aload6 dX5_stateOf_38 ?_ | refine g_aloadQ6 dX5_stateOf_38 ?_ | refine g_aloadN6 dX5_stateOf_38 ?_
            refine g_goto (tgt := 44) dX5_stateOf_40 (by decide) ?_
            first | refine g_astore2 dX5_stateOf_44 (by decide) ?_ | refine g_astoreQ2 dX5_stateOf_44 (by decide) ?_ | refine g_astoreN2 dX5_stateOf_44 (by decide) ?_
            first | refine g_iincN5 1 dX5_stateOf_45 (by decide) (by decide) ?_ | refine g_iinc5 _ dX5_stateOf_45 rfl (by decide) ?_
            refine g_goto (tgt := 15) dX5_stateOf_48 (by decide) ?_
            first | (rw [foN_n (by omega) c_35]; exact ih (i + 1) _ _ _ _ _ (by omega) hv hF hk hnn) | (rw [congrArg (sA E) (foN_y (by omega) c_35)]; exact ih (i + 1) _ _ _ _ _ (by omega) hv hF hk hnn)
        rcases (show i = 0 ∨ i = 1 ∨ i = 2 by omega) with rfl | rfl | rfl
        · refine g_callAR (ctX23_fits _ hs1 hw h1 hx hb1) uX23_fits q1038 q1040 q1041 q1039 ⟨by decide, by decide, rfl⟩ (Or.inr hE.s0.2) (by decide) ⟨hk, hnn⟩ rfl (Nat.le_of_ble_eq_true rfl) dX5_stateOf_32 k_x (k_n (fun r_32 h_32 p_32 => ?_))
          obtain ⟨rfl, z_32⟩ := p_32
          rw [z_32]
          refine V.wide (k' := k) (n' := nn) (Nat.le_refl _) (Nat.le_refl _) ?_
          exact K
        · refine g_callAR (ctX24_fits _ hs1 hw h1 hx hb1) uX24_fits q1038 q1040 q1055 q1039 ⟨by decide, by decide, rfl⟩ (Or.inr hE.s1.2) (by decide) ⟨hk, hnn⟩ rfl (Nat.le_of_ble_eq_true rfl) dX5_stateOf_32 k_x (k_n (fun r_32 h_32 p_32 => ?_))
          obtain ⟨rfl, z_32⟩ := p_32
          rw [z_32]
          refine V.wide (k' := k) (n' := nn) (Nat.le_refl _) (Nat.le_refl _) ?_
          exact K
        · refine g_callAR (ctX25_fits _ hs1 hw h1 hx hb1) uX25_fits q1038 q1040 q1058 q1039 ⟨by decide, by decide, rfl⟩ (Or.inr hE.s2.2) (by decide) ⟨hk, hnn⟩ rfl (Nat.le_of_ble_eq_true rfl) dX5_stateOf_32 k_x (k_n (fun r_32 h_32 p_32 => ?_))
          obtain ⟨rfl, z_32⟩ := p_32
          rw [z_32]
          refine V.wide (k' := k) (n' := nn) (Nat.le_refl _) (Nat.le_refl _) ?_
          exact K
  refine g_gets (ref := "SecretVault$State") hE.sz0 q1036 dX5_stateOf_0 ?_
  first | refine g_astore2 dX5_stateOf_3 (by decide) ?_ | refine g_astoreQ2 dX5_stateOf_3 (by decide) ?_ | refine g_astoreN2 dX5_stateOf_3 (by decide) ?_
  refine g_callS (ctX4_values 1070) kX4_values q1317 (by decide) ⟨Nat.le_of_ble_eq_true rfl, Nat.le_of_ble_eq_true rfl⟩ rfl (Nat.le_of_ble_eq_true rfl) dX5_stateOf_4 k_x (k_r (fun r_4 h_4 p_4 => ?_))
  obtain ⟨e_4, z_4⟩ := p_4
  rw [z_4]
  first | refine g_astore3 dX5_stateOf_7 (by decide) ?_ | refine g_astoreQ3 dX5_stateOf_7 (by decide) ?_ | refine g_astoreN3 dX5_stateOf_7 (by decide) ?_
  first | refine g_aload3 dX5_stateOf_8 ?_ | refine g_aloadQ3 dX5_stateOf_8 ?_ | refine g_aloadN3 dX5_stateOf_8 ?_
  refine g_alen (by first | assumption | exact g_up_self _ _ _ | (refine g_upf ?_ ?_ <;> assumption) | (refine g_upt ?_ ?_ (by decide) <;> assumption)) (by first | exact Or.inl ⟨_, rfl⟩ | exact Or.inr (Or.inr (Or.inl ⟨_, rfl⟩)) | exact Or.inr (Or.inr (Or.inr (Or.inl ⟨_, rfl⟩))) | exact Or.inr (Or.inr (Or.inr (Or.inr (Or.inr ⟨_, _, by decide, by decide, rfl⟩))))) rfl dX5_stateOf_9 ?_
  refine g_istore4 dX5_stateOf_10 (by decide) ?_
  refine g_iconst (nI 0) dX5_stateOf_12 (by decide) ?_
  refine g_istore5 dX5_stateOf_13 (by decide) ?_
  exact K0 3 0 _ r_4 none _ _ (by omega) (g_up_self _ _ _) (Fr.new e_4) (by decide) (by decide)
abbrev mX5_isFulfilled : GM := (yX5_isFulfilled, 2, (some .boolean), [], { frames := 420, cells := 0, slots := 0, locals := 9200 }, 255)
theorem kX5_isFulfilled : gCv cX5_isFulfilled mX5_isFulfilled 1 := ⟨q1196, q1197, q96, q1198, ⟨by decide +kernel, by decide +kernel, by decide +kernel⟩, rfl⟩
theorem uX5_isFulfilled : gCu cX5_isFulfilled mX5_isFulfilled 1 := ⟨q1196, q96, q1198, ⟨by decide +kernel, by decide +kernel, by decide +kernel⟩, rfl⟩
set_option maxHeartbeats 400000 in
theorem ctX5_isFulfilled {E : GE} {h : AH} {S s a x : Nat} {g : Nat → Nat} (hs : seO E S g s a h) (hx : x < 2147483648) : Ct E cX5_isFulfilled mX5_isFulfilled [.ref a, .int (nI x)] (h) (pN fun r h' => r = (flF g s x) ∧ h' = h) (noX) := by
  refine g_enter (own := "SecretVault$Secret") [some (.ref a), some (.int (nI x))] (by decide +kernel) rfl rfl (Nat.le_of_ble_eq_true rfl) rfl rfl (fun X => ?_)
  have hs0 := hs
  obtain ⟨c, b0, p, fc, fs, ha, hc, hfc, hb0, hsh, hp⟩ := hs0
  have hfl : flF g s x = if gOf g s 11 = 0 then 1 else aE (plA g s) x := rfl
  first | refine g_aload0 dX5_isFulfilled_0 ?_ | refine g_aloadQ0 dX5_isFulfilled_0 ?_ | refine g_aloadN0 dX5_isFulfilled_0 ?_
  refine g_get (k0 := 3) (by first | assumption | exact g_up_self _ _ _ | (refine g_upf ?_ ?_ <;> assumption) | (refine g_upt ?_ ?_ (by decide) <;> assumption)) in_X5 q667 rfl (by decide) rfl dX5_isFulfilled_1 ?_
  refine g_ifnull (tgt := 20) dX5_isFulfilled_4 (by decide) (fun c_4 => ?_) (fun a_4 c_4 => ?_)
  · have hz : gOf g s 11 = 0 := by
      rcases hp with ⟨z, -⟩ | ⟨-, a9, z, -⟩
      · exact z
      · rw [c_4] at z; cases z
    refine g_iconst (nI 1) dX5_isFulfilled_20 (by decide) ?_
    refine g_goto (tgt := 25) dX5_isFulfilled_21 (by decide) ?_
    exact g_zret dX5_isFulfilled_25 rfl (nar_zb (by omega)) ⟨_, rfl, by rw [hfl]; first | rw [if_pos hz] | (rw [if_neg hz]; omega), rfl⟩
  · obtain ⟨hz, hre⟩ : ¬ gOf g s 11 = 0 ∧ Rep E h 200 a_4 (plA g s) := by
      rcases hp with ⟨-, z⟩ | ⟨z0, a9, z, z1⟩
      · rw [c_4] at z; cases z
      · rw [c_4] at z; cases z; exact ⟨z0, z1⟩
    have hle := hre.le1 x
    first | refine g_aload0 dX5_isFulfilled_7 ?_ | refine g_aloadQ0 dX5_isFulfilled_7 ?_ | refine g_aloadN0 dX5_isFulfilled_7 ?_
    refine g_get (k0 := 3) ha in_X5 q667 rfl (by decide) rfl dX5_isFulfilled_8 ?_
    rw [c_4]
    refine g_iload1 dX5_isFulfilled_11 ?_
    have K : V E cX5_isFulfilled "SecretVault$Secret" mX5_isFulfilled (pN fun r h' => r = (flF g s x) ∧ h' = h) noX X (h) 0 0 17 [some (.ref a), some (.int (nI x))] [.int (nI (aE (plA g s) x))] := by
      first | refine g_ifN_eq (tgt := 24) dX5_isFulfilled_17 (by decide) (by omega) (fun c_17 => ?_) (fun c_17 => ?_) | refine g_if_eq (tgt := 24) dX5_isFulfilled_17 (by decide) (fun c_17 => ?_) (fun c_17 => ?_)
      · refine g_iconst (nI 0) dX5_isFulfilled_24 (by decide) ?_
        exact g_zret dX5_isFulfilled_25 rfl (nar_zb (by omega)) ⟨_, rfl, by rw [hfl]; first | rw [if_pos hz] | (rw [if_neg hz]; omega), rfl⟩
      · refine g_iconst (nI 1) dX5_isFulfilled_20 (by decide) ?_
        refine g_goto (tgt := 25) dX5_isFulfilled_21 (by decide) ?_
        exact g_zret dX5_isFulfilled_25 rfl (nar_zb (by omega)) ⟨_, rfl, by rw [hfl]; first | rw [if_pos hz] | (rw [if_neg hz]; omega), rfl⟩
    rcases hre.pcf hx with ⟨m, m1, m2⟩ | ⟨m, m1, m2⟩ | ⟨m, m1, m2⟩ | ⟨c, m, m1, m2⟩
    · refine g_callF m2 uX19_isFulfilled q1200 q1242 ⟨q1202, q1201, q1245, q1243, q1241⟩ ⟨⟨by decide, by decide⟩, rfl⟩ m1 rfl (by decide) ⟨Nat.le_refl _, Nat.le_refl _⟩ rfl (Nat.le_of_ble_eq_true rfl) dX5_isFulfilled_12 k_x (k_n (fun r_12 h_12 p_12 => ?_))
      obtain ⟨rfl, z_12⟩ := p_12
      rw [z_12]
      exact K
    · refine g_callF m2 (uX21_isFulfilled _) q1200 q1235 ⟨q1202, q1201, q1238, q1236, q1234⟩ ⟨⟨by decide, by decide⟩, rfl⟩ m1 rfl (by decide) ⟨Nat.le_refl _, Nat.le_refl _⟩ rfl (Nat.le_of_ble_eq_true rfl) dX5_isFulfilled_12 k_x (k_n (fun r_12 h_12 p_12 => ?_))
      obtain ⟨rfl, z_12⟩ := p_12
      rw [z_12]
      exact K
    · refine g_callF m2 (uX20_isFulfilled _) q1200 q1204 ⟨q1202, q1201, q1207, q1205, q1203⟩ ⟨⟨by decide, by decide⟩, rfl⟩ m1 rfl (by decide) ⟨Nat.le_refl _, Nat.le_refl _⟩ rfl (Nat.le_of_ble_eq_true rfl) dX5_isFulfilled_12 k_x (k_n (fun r_12 h_12 p_12 => ?_))
      obtain ⟨rfl, z_12⟩ := p_12
      rw [z_12]
      exact K
    · refine g_callF m2 (uX18_isFulfilled _) q1200 q1248 ⟨q1202, q1201, q1251, q1249, q1247⟩ ⟨⟨by decide, by decide⟩, rfl⟩ m1 rfl (by decide) ⟨Nat.le_refl _, Nat.le_refl _⟩ rfl (Nat.le_of_ble_eq_true rfl) dX5_isFulfilled_12 k_x (k_n (fun r_12 h_12 p_12 => ?_))
      obtain ⟨rfl, z_12⟩ := p_12
      rw [z_12]
      exact K
abbrev mJ22_ordinal : GM := (yJ22_ordinal, 1, (some .int), [], { frames := 0, cells := 0, slots := 0, locals := 0 }, 255)
theorem uJ22_ordinal : gCu cJ22_ordinal mJ22_ordinal 0 := ⟨q1549, q93, q1550, ⟨by decide +kernel, by decide +kernel, by decide +kernel⟩, rfl⟩
set_option maxHeartbeats 400000 in
theorem ctJ22_ordinal {E : GE} {h : AH} {a i : Nat} (hf : gOF E "java/lang/Enum" "ordinal" "I" (.int (nI i)) a) : Ct E cJ22_ordinal mJ22_ordinal [.ref a] (h) (pN fun r h' => r = (i) ∧ h' = h) (noX) := by
  refine g_enter (own := "java/lang/Enum") [some (.ref a)] (by decide +kernel) rfl rfl (Nat.le_of_ble_eq_true rfl) rfl rfl (fun X => ?_)
  first | refine g_aload0 dJ22_ordinal_0 ?_ | refine g_aloadQ0 dJ22_ordinal_0 ?_ | refine g_aloadN0 dJ22_ordinal_0 ?_
  refine g_getO (o := "java/lang/Enum") hf q2616 (fun _ z => z) dJ22_ordinal_1 rfl ?_
  exact g_iret dJ22_ordinal_4 rfl ⟨_, rfl, rfl, rfl⟩
abbrev mX5_init : GM := (yX5_init, 1, none, [], { frames := 1, cells := 1, slots := 25, locals := 30 }, 255)
theorem kX5_init : gCi cX5_init mX5_init 0 := ⟨q649, q96, q650, ⟨by decide +kernel, by decide +kernel, by decide +kernel⟩, rfl, rfl, rfl⟩
set_option maxHeartbeats 400000 in
theorem ctX5_init {E : GE} {h : AH} {a : Nat} (S : Nat) (ha : h a = some (S, gO 3 [.int 0, .int 0, .null, .null, .null])) : Ct E cX5_init mX5_init [.ref a] (h) (pV fun h' => ∃ b, h b = none ∧ h' = g_up (g_up h b (S + 2, gAR E 7 25 (fun _ => none))) a (S, gO 3 [.int 0, .int 0, .null, .null, .ref b])) (noX) := by
  refine g_enter (own := "SecretVault$Secret") [some (.ref a)] (by decide +kernel) rfl rfl (Nat.le_of_ble_eq_true rfl) rfl rfl (fun X => ?_)
  first | refine g_aload0 dX5_init_0 ?_ | refine g_aloadQ0 dX5_init_0 ?_ | refine g_aloadN0 dX5_init_0 ?_
  refine g_objInit q651 q129 q130 dX5_init_1 (Nat.le_of_ble_eq_true rfl) (Nat.le_of_ble_eq_true rfl) ?_
  first | refine g_aload0 dX5_init_4 ?_ | refine g_aloadQ0 dX5_init_4 ?_ | refine g_aloadN0 dX5_init_4 ?_
  refine g_bipush (nI 25) dX5_init_5 (by decide) ?_
  refine g_newR (j := 7) (S + 2) q652 q653 rfl (by omega) (Nat.le_of_ble_eq_true rfl) (Nat.le_of_ble_eq_true rfl) dX5_init_7 (fun q_7 f_7 => ?_)
  have ha2 := g_upf (z := (S + 2, gAR E 7 25 (fun _ => none))) ha f_7
  refine g_putF (k0 := 4) (by first | assumption | exact g_up_self _ _ _ | (refine g_upf ?_ ?_ <;> assumption) | (refine g_upt ?_ ?_ (by decide) <;> assumption)) in_X5 q669 tyX5_ok nmX5 rfl (by decide) rfl rfl rfl (by rfl) (by rfl) (Nat.le_of_ble_eq_true rfl) dX5_init_10 ?_
  exact g_vret dX5_init_13 rfl ⟨rfl, _, f_7, rfl⟩
theorem shO.put {S : Nat} {g : Nat → Nat} {s x b : Nat} {o : Option Nat} {h : AH} {e e' : va_E} (hs : shO S g s x o h) (hb : h b = some (S + 2, e)) : shO S g s x o (g_up h b (S + 2, e')) := hs.fr (Fr.put (P := fun t => t = S + 2) hb rfl) (by omega)
theorem shO.new {S : Nat} {g : Nat → Nat} {s x b : Nat} {o : Option Nat} {h : AH} {z : Nat × va_E} (hs : shO S g s x o h) (hb : h b = none) : shO S g s x o (g_up h b z) := hs.fr (Fr.new (P := F0r) hb) id
theorem nup_self {α : Type} (f : Nat → α) (i : Nat) (v : α) : nup f i v i = v := if_pos rfl
theorem nup_ne {α : Type} (f : Nat → α) {i j : Nat} (v : α) (h : j ≠ i) : nup f i v j = f j := if_neg h
theorem nm_I {E : GE} (s : State) (h : va_RA s (E.dA 0) .int) : s.vm.findClass "[I" = some (E.dA 0) := va_nm_int h
theorem nar_rf (C : String) (o : Option Nat) : narrow (.object C) (va_rf o) = va_rf o := by cases o <;> rfl
theorem fit_rf (C : String) (o : Option Nat) : fits (.object C) (va_rf o) = true := by cases o <;> rfl
abbrev mX5_copy : GM := (yX5_copy, 3, (some (.object "SecretVault$Secret")), [], { frames := 3, cells := 27, slots := 110, locals := 73 }, 255)
theorem kX5_copy : gCv cX5_copy mX5_copy 0 := ⟨q643, q644, q96, q645, ⟨by decide +kernel, by decide +kernel, by decide +kernel⟩, rfl⟩
theorem uX5_copy : gCu cX5_copy mX5_copy 0 := ⟨q643, q96, q645, ⟨by decide +kernel, by decide +kernel, by decide +kernel⟩, rfl⟩
set_option maxHeartbeats 400000 in
theorem ctX5_copy {E : GE} {h : AH} {S s a : Nat} {g : Nat → Nat} (T : Nat) (hs : seO E S g s a h) (hw : slW g s) : Ct E cX5_copy mX5_copy [.ref a] (h) (pR fun r h' => seO E T g s r h' ∧ Fr F0r h h') (noX) := by
  refine g_enter (own := "SecretVault$Secret") [some (.ref a), none, none] (by decide +kernel) rfl rfl (Nat.le_of_ble_eq_true rfl) rfl rfl (fun X => ?_)
  have hs0 := hs
  obtain ⟨c, b0, p, fc, fs, ha, hc, hfc, hb0, hsh, hp⟩ := hs0
  have hk8 := hw.2.2.1
  have K3 : ∀ q b c1 : Nat, h b = none → ∀ n y (hq : AH) f k nn, n + y = 24 → hq q = some (T, gO 3 [.int (nI (gOf g s 1)), .int (nI (gOf g s 2)), .ref c1, va_rf p, .ref b]) → hq c1 = some (T + 1, gAIn E (gOf g s 1) fc) → hq b = some (T + 2, gAR E 7 25 f) → (∀ x, 1 ≤ x → x ≤ y → shO T g s x (f x) hq) → Fr F0r h hq → k ≤ 3 + y → nn ≤ 38 + 3 * y → V E cX5_copy "SecretVault$Secret" mX5_copy (pR fun r h' => seO E T g s r h' ∧ Fr F0r h h') noX X (hq) k nn 48 [some (.ref a), some (.ref q), some (.int (nI (y + 1)))] [] := by
    intro q b c1 fb n
    induction n with
    | zero =>
      intro y hq f k nn hn0 q1 q2 q3 q4 hF hk hnn
      obtain rfl : y = 24 := by omega
      refine g_iload2 dX5_copy_48 ?_
      refine g_bipush (nI 24) dX5_copy_49 (by decide) ?_
      first | refine g_icmpN_gt (tgt := 88) dX5_copy_51 (by decide) (by omega) (by omega) (fun c_51 => ?_) (fun c_51 => ?_) | refine g_icmp_gt (tgt := 88) dX5_copy_51 (by decide) (fun c_51 => ?_) (fun c_51 => ?_)
      · first | refine g_aload1 dX5_copy_88 ?_ | refine g_aloadQ1 dX5_copy_88 ?_ | refine g_aloadN1 dX5_copy_88 ?_
        exact g_aret (hk := by show _ ≤ 27; omega) (hn := by show _ ≤ 110; omega) dX5_copy_89 rfl (Or.inl ⟨_, rfl⟩) ⟨_, rfl, ⟨c1, b, p, fc, f, q1, q2, hfc, q3, q4, hp.fr hF id id⟩, hF⟩
      · omega
    | succ n ih =>
      intro y hq f k nn hn0 q1 q2 q3 q4 hF hk hnn
      have qb := hF.at hb0
      have qa := hF.at ha
      refine g_iload2 dX5_copy_48 ?_
      refine g_bipush (nI 24) dX5_copy_49 (by decide) ?_
      first | refine g_icmpN_gt (tgt := 88) dX5_copy_51 (by decide) (by omega) (by omega) (fun c_51 => ?_) (fun c_51 => ?_) | refine g_icmp_gt (tgt := 88) dX5_copy_51 (by decide) (fun c_51 => ?_) (fun c_51 => ?_)
      · omega
      · first | refine g_aload1 dX5_copy_54 ?_ | refine g_aloadQ1 dX5_copy_54 ?_ | refine g_aloadN1 dX5_copy_54 ?_
        refine g_get (k0 := 4) (by first | assumption | exact g_up_self _ _ _ | (refine g_upf ?_ ?_ <;> assumption) | (refine g_upt ?_ ?_ (by decide) <;> assumption)) in_X5 q669 rfl (by decide) rfl dX5_copy_55 ?_
        refine g_iload2 dX5_copy_58 ?_
        first | refine g_aload0 dX5_copy_59 ?_ | refine g_aloadQ0 dX5_copy_59 ?_ | refine g_aloadN0 dX5_copy_59 ?_
        refine g_get (k0 := 4) (by first | assumption | exact g_up_self _ _ _ | (refine g_upf ?_ ?_ <;> assumption) | (refine g_upt ?_ ?_ (by decide) <;> assumption)) in_X5 q669 rfl (by decide) rfl dX5_copy_60 ?_
        refine g_iload2 dX5_copy_63 ?_
        refine g_aald qb rfl (by omega) (by omega) dX5_copy_64 ?_
        refine g_ifnonnull (tgt := 72) dX5_copy_65 (by decide) (fun a_65 c_65 => ?_) (fun c_65 => ?_)
        · obtain ⟨hg1, hga⟩ := (hsh (y + 1) (by omega) (by omega)).s c_65
          have qs := hF.at hga
          first | refine g_aload0 dX5_copy_72 ?_ | refine g_aloadQ0 dX5_copy_72 ?_ | refine g_aloadN0 dX5_copy_72 ?_
          refine g_get (k0 := 4) (by first | assumption | exact g_up_self _ _ _ | (refine g_upf ?_ ?_ <;> assumption) | (refine g_upt ?_ ?_ (by decide) <;> assumption)) in_X5 q669 rfl (by decide) rfl dX5_copy_73 ?_
          refine g_iload2 dX5_copy_76 ?_
          refine g_aald qb rfl (by omega) (by omega) dX5_copy_77 ?_
          rw [c_65]
          refine g_callVR (ctX6_copy (T + 3 + (y + 1)) qs) kX6_copy q688 (gRv.g qs rfl rfl) (by decide) ⟨by show k + 1 ≤ 27; omega, by show nn + 3 ≤ 110; omega⟩ rfl (Nat.le_of_ble_eq_true rfl) dX5_copy_78 k_x (k_r (fun r_78 h_78 p_78 => ?_))
          obtain ⟨e_78, z_78⟩ := p_78
          rw [z_78]
          refine V.wide (k' := 3 + (y + 1)) (n' := 38 + 3 * (y + 1)) (by show k + 1 ≤ _; omega) (by show nn + 3 ≤ _; omega) ?_
          first | (refine g_aastN q3 rfl (by omega) (by omega) dX5_copy_81 ?_) | (refine g_aastS (g_upf q3 e_78) (g_up_self _ _ _) rfl rfl (by omega) (by omega) dX5_copy_81 ?_)
          first | refine g_iincN2 1 dX5_copy_82 (by decide) (by decide) ?_ | refine g_iinc2 _ dX5_copy_82 rfl (by decide) ?_
          refine g_goto (tgt := 48) dX5_copy_85 (by decide) ?_
          first | exact ih (y + 1) _ _ _ _ (by omega) (g_upt q1 q3 (by omega)) (g_upt q2 q3 (by omega)) (g_up_self _ _ _) (fun x x1 x2 => by by_cases e : x = y + 1; (rw [e, nup_self]; exact Or.inr ⟨hn, rfl⟩); (rw [nup_ne _ _ e]; exact (q4 x x1 (by omega)).put q3)) (hF.upn fb) (by omega) (by omega) | exact ih (y + 1) _ _ _ _ (by omega) (g_upt (g_upf q1 e_78) (g_upf q3 e_78) (by omega)) (g_upt (g_upf q2 e_78) (g_upf q3 e_78) (by omega)) (g_up_self _ _ _) (fun x x1 x2 => by by_cases e : x = y + 1; (rw [e, nup_self]; exact Or.inl ⟨hg1, _, rfl, g_upt (g_up_self _ _ _) (g_upf q3 e_78) (by omega)⟩); (rw [nup_ne _ _ e]; exact ((q4 x x1 (by omega)).new e_78).put (g_upf q3 e_78))) ((hF.tr (Fr.new e_78)).upn fb) (Nat.le_refl _) (Nat.le_refl _)
        · have hn := (hsh (y + 1) (by omega) (by omega)).n c_65
          refine g_null dX5_copy_68 ?_
          refine g_goto (tgt := 81) dX5_copy_69 (by decide) ?_
          first | (refine g_aastN q3 rfl (by omega) (by omega) dX5_copy_81 ?_) | (refine g_aastS (g_upf q3 e_78) (g_up_self _ _ _) rfl rfl (by omega) (by omega) dX5_copy_81 ?_)
          first | refine g_iincN2 1 dX5_copy_82 (by decide) (by decide) ?_ | refine g_iinc2 _ dX5_copy_82 rfl (by decide) ?_
          refine g_goto (tgt := 48) dX5_copy_85 (by decide) ?_
          first | exact ih (y + 1) _ _ _ _ (by omega) (g_upt q1 q3 (by omega)) (g_upt q2 q3 (by omega)) (g_up_self _ _ _) (fun x x1 x2 => by by_cases e : x = y + 1; (rw [e, nup_self]; exact Or.inr ⟨hn, rfl⟩); (rw [nup_ne _ _ e]; exact (q4 x x1 (by omega)).put q3)) (hF.upn fb) (by omega) (by omega) | exact ih (y + 1) _ _ _ _ (by omega) (g_upt (g_upf q1 e_78) (g_upf q3 e_78) (by omega)) (g_upt (g_upf q2 e_78) (g_upf q3 e_78) (by omega)) (g_up_self _ _ _) (fun x x1 x2 => by by_cases e : x = y + 1; (rw [e, nup_self]; exact Or.inl ⟨hg1, _, rfl, g_upt (g_up_self _ _ _) (g_upf q3 e_78) (by omega)⟩); (rw [nup_ne _ _ e]; exact ((q4 x x1 (by omega)).new e_78).put (g_upf q3 e_78))) ((hF.tr (Fr.new e_78)).upn fb) (Nat.le_refl _) (Nat.le_refl _)
  have K2 : ∀ (q b c1 : Nat) (hq : AH), h q = none → h b = none → hq q = some (T, gO 3 [.int (nI (gOf g s 1)), .int (nI (gOf g s 2)), .ref c1, .null, .ref b]) → hq c1 = some (T + 1, gAIn E (gOf g s 1) fc) → hq b = some (T + 2, gAR E 7 25 (fun _ => none)) → Fr F0r h hq → V E cX5_copy "SecretVault$Secret" mX5_copy (pR fun r h' => seO E T g s r h' ∧ Fr F0r h h') noX X (hq) 3 38 38 [some (.ref a), some (.ref q), none] [] := by
    intro q b c1 hq fq fb q1 q2 q3 hF
    first | refine g_aload1 dX5_copy_38 ?_ | refine g_aloadQ1 dX5_copy_38 ?_ | refine g_aloadN1 dX5_copy_38 ?_
    first | refine g_aload0 dX5_copy_39 ?_ | refine g_aloadQ0 dX5_copy_39 ?_ | refine g_aloadN0 dX5_copy_39 ?_
    refine g_get (k0 := 3) (by first | assumption | exact g_up_self _ _ _ | exact hF.at ha | exact (Fr.upn hF fq).at ha) in_X5 q667 rfl (by decide) rfl dX5_copy_40 ?_
    refine g_put (k0 := 3) (by assumption) in_X5 q667 tyX5_ok nmX5 rfl (by decide) rfl (nar_rf _ _) (fit_rf _ _) (Nat.le_of_ble_eq_true rfl) dX5_copy_43 ?_
    refine g_iconst (nI 1) dX5_copy_46 (by decide) ?_
    refine g_istore2 dX5_copy_47 (by decide) ?_
    exact K3 q b c1 fb 24 0 _ _ _ _ (by omega) (g_up_self _ _ _) (g_upt q2 q1 (by omega)) (g_upt q3 q1 (by omega)) (fun x x1 x2 => by omega) (hF.upn fq) (by omega) (by omega)
  have K1 : ∀ (q b : Nat) (hq : AH), h q = none → h b = none → hq q = some (T, gO 3 [.int 0, .int 0, .null, .null, .ref b]) → hq b = some (T + 2, gAR E 7 25 (fun _ => none)) → Fr F0r h hq → V E cX5_copy "SecretVault$Secret" mX5_copy (pR fun r h' => seO E T g s r h' ∧ Fr F0r h h') noX X (hq) 2 30 8 [some (.ref a), some (.ref q), none] [] := by
    intro q b hq fq fb q1 q3 hF
    first | refine g_aload1 dX5_copy_8 ?_ | refine g_aloadQ1 dX5_copy_8 ?_ | refine g_aloadN1 dX5_copy_8 ?_
    first | refine g_aload0 dX5_copy_9 ?_ | refine g_aloadQ0 dX5_copy_9 ?_ | refine g_aloadN0 dX5_copy_9 ?_
    refine g_get (k0 := 0) (by first | assumption | exact g_upf (g_up_self _ _ _) f_29 | exact g_up_self _ _ _ | exact hF.at ha | exact (Fr.upn hF fq).at ha) in_X5 q655 rfl (by decide) rfl dX5_copy_10 ?_
    refine g_put (k0 := 0) (by first | assumption | exact g_upf (g_up_self _ _ _) f_29 | exact g_up_self _ _ _ | exact hF.at ha | exact (Fr.upn hF fq).at ha) in_X5 q655 tyX5_ok nmX5 rfl (by decide) rfl (by rfl) (by rfl) (Nat.le_of_ble_eq_true rfl) dX5_copy_13 ?_
    try rw [g_upup]
    first | refine g_aload1 dX5_copy_16 ?_ | refine g_aloadQ1 dX5_copy_16 ?_ | refine g_aloadN1 dX5_copy_16 ?_
    first | refine g_aload0 dX5_copy_17 ?_ | refine g_aloadQ0 dX5_copy_17 ?_ | refine g_aloadN0 dX5_copy_17 ?_
    refine g_get (k0 := 1) (by first | assumption | exact g_upf (g_up_self _ _ _) f_29 | exact g_up_self _ _ _ | exact hF.at ha | exact (Fr.upn hF fq).at ha) in_X5 q661 rfl (by decide) rfl dX5_copy_18 ?_
    refine g_put (k0 := 1) (by first | assumption | exact g_upf (g_up_self _ _ _) f_29 | exact g_up_self _ _ _ | exact hF.at ha | exact (Fr.upn hF fq).at ha) in_X5 q661 tyX5_ok nmX5 rfl (by decide) rfl (by rfl) (by rfl) (Nat.le_of_ble_eq_true rfl) dX5_copy_21 ?_
    try rw [g_upup]
    first | refine g_aload1 dX5_copy_24 ?_ | refine g_aloadQ1 dX5_copy_24 ?_ | refine g_aloadN1 dX5_copy_24 ?_
    first | refine g_aload0 dX5_copy_25 ?_ | refine g_aloadQ0 dX5_copy_25 ?_ | refine g_aloadN0 dX5_copy_25 ?_
    refine g_get (k0 := 2) (by first | assumption | exact g_upf (g_up_self _ _ _) f_29 | exact g_up_self _ _ _ | exact hF.at ha | exact (Fr.upn hF fq).at ha) in_X5 q664 rfl (by decide) rfl dX5_copy_26 ?_
    refine g_cloneI (T + 1) ((Fr.upn hF fq).at hc) q683 q684 q275 q276 q685 q686 (Nat.le_of_ble_eq_true rfl) (Nat.le_of_ble_eq_true rfl) (by show _ ≤ 27; omega) (by show _ ≤ 110; omega) dX5_copy_29 (fun q_29 f_29 => ?_)
    refine V.wide (k' := 3) (n' := 38) (by omega) (by omega) ?_
    refine g_ckA (g_up_self _ _ _) rfl nm_I q687 dX5_copy_32 ?_
    refine g_put (k0 := 2) (by first | assumption | exact g_upf (g_up_self _ _ _) f_29 | exact g_up_self _ _ _ | exact hF.at ha | exact (Fr.upn hF fq).at ha) in_X5 q664 tyX5_ok nmX5 rfl (by decide) rfl (by rfl) (by rfl) (Nat.le_of_ble_eq_true rfl) dX5_copy_35 ?_
    try rw [g_upup]
    exact K2 q b q_29 _ fq fb (g_up_self _ _ _) (g_upt (g_up_self _ _ _) (g_upf (g_up_self _ _ _) f_29) (by omega)) (g_upt (g_upf (g_upt q3 q1 (by omega)) f_29) (g_upf (g_up_self _ _ _) f_29) (by omega)) (((hF.upn fq).tr (Fr.new f_29)).upn fq)
  refine g_new 3 (T) [.int 0, .int 0, .null, .null, .null] in_X5 tyX5_ok q646 q647 q96 rfl nwX5 (Nat.le_of_ble_eq_true rfl) (Nat.le_of_ble_eq_true rfl) dX5_copy_0 (fun q_0 f_0 => ?_)
  refine g_dup dX5_copy_3 rfl ?_
  refine g_callI (ctX5_init T (g_up_self _ _ _)) kX5_init q648 (by decide) ⟨Nat.le_of_ble_eq_true rfl, Nat.le_of_ble_eq_true rfl⟩ rfl (Nat.le_of_ble_eq_true rfl) dX5_copy_4 k_x (k_v (fun h_4 p_4 => ?_))
  obtain ⟨b_4, e_4, rfl⟩ := p_4
  first | refine g_astore1 dX5_copy_7 (by decide) ?_ | refine g_astoreQ1 dX5_copy_7 (by decide) ?_ | refine g_astoreN1 dX5_copy_7 (by decide) ?_
  exact K1 q_0 b_4 _ f_0 (by cases hz : h b_4 with | none => rfl | some x => (have := g_upf (z := (T, gO 3 [.int 0, .int 0, .null, .null, .null])) (show h b_4 = some (x.1, x.2) from hz) f_0; rw [e_4] at this; cases this)) (g_up_self _ _ _) (g_upt (g_up_self _ _ _) (g_upf (g_up_self _ _ _) e_4) (by omega)) (((Fr.new f_0).tr (Fr.new e_4)).upn f_0)
