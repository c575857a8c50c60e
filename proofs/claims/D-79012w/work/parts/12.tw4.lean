/-! THE TWIN: further operations -/
set_option maxRecDepth 100000
theorem upF_le {g : Nat → Nat} (h : ∀ m, m < 8 → g (1 + m) ≤ 3) : ∀ m, m ≤ 8 → upF g m ≤ 3 * m := by
  intro m
  induction m with
  | zero => intro _; exact Nat.le_refl _
  | succ m ih =>
    intro hm
    have h1 := ih (by omega)
    have h2 := h m (by omega)
    rw [upF]
    split <;> omega
def dc (x : Nat) : Nat := if x = 0 then 4294967295 else x - 1
theorem nI_dc (x : Nat) : nI x - nI 1 = nI (dc x) := by
  unfold dc
  split
  · subst x
    decide
  · exact pk_sub (by omega)
theorem dc_lt {x : Nat} (h : x < 4294967296) : dc x < 4294967296 := by
  unfold dc
  split <;> omega
theorem in_dc {v x : Nat} (hv : v < 4294967296) (hx : x < 2147483648) : (sg 0 ≤ sg v ∧ sg v ≤ sg (dc x)) ↔ v < x := by
  unfold sg dc
  repeat' split
  all_goals omega
abbrev mX3_put : GM := (yX3_put, 5, (some .int), [], { frames := 3, cells := 0, slots := 0, locals := 73 }, 255)
theorem kX3_put : gCv cX3_put mX3_put 3 := ⟨q2232, q2233, q90, q2234, ⟨by decide +kernel, by decide +kernel, by decide +kernel⟩, rfl⟩
def xc_put (M : TW) (s v k : Nat) : Nat := if ¬ s ≤ 3 then 1 else if ¬ v ≤ 1018 ∨ ¬ (1 ≤ k ∧ k ≤ 8) then 2 else if upF (M 1) 8 < k then 3 else 0
def xv_put (M : TW) (s v k : Nat) : Nat := dlN (tCf (tset M 1 (38 + 124 * s + 11) 0) v k) s k 1 24
def xm_put (M : TW) (s v k : Nat) : TW := if s ≤ 3 ∧ v ≤ 1018 ∧ 1 ≤ k ∧ k ≤ 8 ∧ k ≤ upF (M 1) 8 then tEv (dlM (tset M 1 (38 + 124 * s + 11) 0) s v k 1) (100 + s) else M
set_option maxHeartbeats 400000 in
theorem ctX3_put {E : GE} {h : AH} {A : Nat → Nat} (hA : twA A) (M : TW) (s v k : Nat) (hW : tWF M) (hs : s < 4294967296) (hv : v < 4294967296) (hk : k < 4294967296) : Ct E cX3_put mX3_put [.ref (A 0), .int (nI s), .int (nI v), .int (nI k)] (twO E A M h) (pN fun r h' => tEnd E A h (xc_put M s v k ) (xv_put M s v k ) (xm_put M s v k ) r h') noX := by
  refine g_enter (own := "SecretVaultModel") [some (.ref (A 0)), some (.int (nI s)), some (.int (nI v)), some (.int (nI k)), none] (by decide +kernel) rfl rfl (Nat.le_of_ble_eq_true rfl) rfl rfl (fun X => ?_)
  have hB := hW.1
  have hWt := hW.2.1
  have h17 : M 1 17 ≤ 20 := hW.2.2.2.1
  have hup := upF_le hWt 8 (by decide)
  refine g_iload1 dX3_put_0 ?_
  refine g_S1n0 (ctX3_isSlot _ (by omega)) kX3_isSlot q2235 (by decide) ⟨rfl, rfl⟩ ⟨Nat.zero_le _, Nat.zero_le _⟩ (Nat.le_of_ble_eq_true rfl) dX3_put_1 (fun r_1 h_1 p_1 => ?_)
  obtain ⟨hr_1, hi_1, rfl⟩ := p_1
  first | refine g_ifN_ne (tgt := 13) dX3_put_4 (by decide) (by first | omega | exact hB _ _ | (split <;> omega)) (fun c_4 => ?_) (fun c_4 => ?_) | refine g_if_ne (tgt := 13) dX3_put_4 (by decide) (fun c_4 => ?_) (fun c_4 => ?_)
  · refine g_iload2 dX3_put_13 ?_
    refine g_iconst (nI 0) dX3_put_14 (by decide) ?_
    refine g_sipush (nI 1018) dX3_put_15 (by decide) ?_
    refine g_S3n0 (ctX3_in _ _ _ (by omega) (by omega) (by omega)) kX3_in q2193 (by decide) ⟨rfl, rfl⟩ ⟨Nat.zero_le _, Nat.zero_le _⟩ (Nat.le_of_ble_eq_true rfl) dX3_put_18 (fun r_18 h_18 p_18 => ?_)
    obtain ⟨hr_18, hi_18, rfl⟩ := p_18
    first | refine g_ifN_eq (tgt := 34) dX3_put_21 (by decide) (by first | omega | exact hB _ _ | (split <;> omega)) (fun c_21 => ?_) (fun c_21 => ?_) | refine g_if_eq (tgt := 34) dX3_put_21 (by decide) (fun c_21 => ?_) (fun c_21 => ?_)
    · first | refine g_aload0 dX3_put_34 ?_ | refine g_aloadQ0 dX3_put_34 ?_ | refine g_aloadN0 dX3_put_34 ?_
      refine g_iconst (nI 2) dX3_put_35 (by decide) ?_
      refine g_V1n0 (ctX3_fails hA _ _) kX3_fails q2196 tw_0 rfl rfl (by decide) ⟨rfl, rfl⟩ ⟨Nat.zero_le _, Nat.zero_le _⟩ (Nat.le_of_ble_eq_true rfl) dX3_put_36 (fun r_36 h_36 p_36 => ?_)
      obtain ⟨rfl, rfl⟩ := p_36
      exact g_iret dX3_put_39 rfl ⟨_, rfl, (by first | exact t_fails (by unfold xc_put; (repeat' split) <;> omega) (by omega) (by unfold xm_put; rw [if_neg (by omega)]; exact tSame.rf) | exact t_done (by unfold xc_put; (repeat' split) <;> omega) (by unfold xv_put; exact hi_67) (by unfold xm_put; rw [if_pos (by omega)]; exact tSame.rf))⟩
    · refine g_iload3 dX3_put_24 ?_
      refine g_iconst (nI 1) dX3_put_25 (by decide) ?_
      refine g_bipush (nI 8) dX3_put_26 (by decide) ?_
      refine g_S3n0 (ctX3_in _ _ _ (by omega) (by omega) (by omega)) kX3_in q2193 (by decide) ⟨rfl, rfl⟩ ⟨Nat.zero_le _, Nat.zero_le _⟩ (Nat.le_of_ble_eq_true rfl) dX3_put_28 (fun r_28 h_28 p_28 => ?_)
      obtain ⟨hr_28, hi_28, rfl⟩ := p_28
      first | refine g_ifN_ne (tgt := 40) dX3_put_31 (by decide) (by first | omega | exact hB _ _ | (split <;> omega)) (fun c_31 => ?_) (fun c_31 => ?_) | refine g_if_ne (tgt := 40) dX3_put_31 (by decide) (fun c_31 => ?_) (fun c_31 => ?_)
      · first | refine g_aload0 dX3_put_40 ?_ | refine g_aloadQ0 dX3_put_40 ?_ | refine g_aloadN0 dX3_put_40 ?_
        refine g_V0n0 (ctX3_usedPlaces hA _ hB) kX3_usedPlaces q2238 tw_0 rfl rfl (by decide) ⟨rfl, rfl⟩ ⟨Nat.zero_le _, Nat.zero_le _⟩ (Nat.le_of_ble_eq_true rfl) dX3_put_41 (fun r_41 h_41 p_41 => ?_)
        obtain ⟨rfl, rfl⟩ := p_41
        refine g_iload3 dX3_put_44 ?_
        first | refine g_icmpN_ge (tgt := 54) dX3_put_45 (by decide) (by first | omega | exact hB _ _ | (split <;> omega)) (by first | omega | exact hB _ _ | (split <;> omega)) (fun c_45 => ?_) (fun c_45 => ?_) | refine g_icmp_ge (tgt := 54) dX3_put_45 (by decide) (fun c_45 => ?_) (fun c_45 => ?_)
        · first | refine g_aload0 dX3_put_54 ?_ | refine g_aloadQ0 dX3_put_54 ?_ | refine g_aloadN0 dX3_put_54 ?_
          refine g_iload1 dX3_put_55 ?_
          refine g_bipush (nI 11) dX3_put_56 (by decide) ?_
          refine g_iconst (nI 0) dX3_put_58 (by decide) ?_
          refine g_V3v0 (ctX3_sets hA _ _ _ _ (by omega) (by omega)) kX3_sets q2242 tw_0 rfl rfl (by decide) ⟨rfl, rfl⟩ ⟨Nat.zero_le _, Nat.zero_le _⟩ (Nat.le_of_ble_eq_true rfl) dX3_put_59 (fun h_59 p_59 => ?_)
          subst p_59
          have hB1 : twB (tset M 1 (38 + 124 * s + 11) 0) := twB_set hB (by decide)
          have hWt1 : ∀ m, m < 8 → tset M 1 (38 + 124 * s + 11) 0 1 (1 + m) ≤ 3 := fun m hm => by rw [tset_sn _ _ _ (by omega)]; exact hWt m hm
          first | refine g_aload0 dX3_put_62 ?_ | refine g_aloadQ0 dX3_put_62 ?_ | refine g_aloadN0 dX3_put_62 ?_
          refine g_iload1 dX3_put_63 ?_
          refine g_iload2 dX3_put_64 ?_
          refine g_iload3 dX3_put_65 ?_
          refine g_iconst (nI 1) dX3_put_66 (by decide) ?_
          refine g_V4n0 (ctX3_deals hA _ _ _ _ _ hB1 (by omega) (by omega) (by omega) (by omega) hWt1) kX3_deals q2246 tw_0 rfl rfl (by decide) ⟨rfl, rfl⟩ ⟨Nat.zero_le _, Nat.zero_le _⟩ (Nat.le_of_ble_eq_true rfl) dX3_put_67 (fun r_67 h_67 p_67 => ?_)
          obtain ⟨hi_67, rfl⟩ := p_67
          refine g_istore4 dX3_put_70 (by decide) ?_
          have hE : dlM (tset M 1 (38 + 124 * s + 11) 0) s v k 1 1 17 ≤ 20 := by rw [dlM_g _ _ _ _ _ _ (by decide) (by decide), tset_sn _ _ _ (by omega)]; exact h17
          first | refine g_aload0 dX3_put_72 ?_ | refine g_aloadQ0 dX3_put_72 ?_ | refine g_aloadN0 dX3_put_72 ?_
          refine g_bipush (nI 100) dX3_put_73 (by decide) ?_
          refine g_iload1 dX3_put_75 ?_
          first | refine g_iaddN dX3_put_76 ?_ | refine g_iadd dX3_put_76 ?_
          refine g_V1v0 (ctX3_happens hA _ _ hE) kX3_happens q2269 tw_0 rfl rfl (by decide) ⟨rfl, rfl⟩ ⟨Nat.zero_le _, Nat.zero_le _⟩ (Nat.le_of_ble_eq_true rfl) dX3_put_77 (fun h_77 p_77 => ?_)
          subst p_77
          first | refine g_aload0 dX3_put_80 ?_ | refine g_aloadQ0 dX3_put_80 ?_ | refine g_aloadN0 dX3_put_80 ?_
          refine g_iload4 dX3_put_81 ?_
          refine g_V1n0 (ctX3_done hA _ _) kX3_done q2173 tw_0 rfl rfl (by decide) ⟨rfl, rfl⟩ ⟨Nat.zero_le _, Nat.zero_le _⟩ (Nat.le_of_ble_eq_true rfl) dX3_put_83 (fun r_83 h_83 p_83 => ?_)
          obtain ⟨rfl, rfl⟩ := p_83
          exact g_iret dX3_put_86 rfl ⟨_, rfl, (by first | exact t_fails (by unfold xc_put; (repeat' split) <;> omega) (by omega) (by unfold xm_put; rw [if_neg (by omega)]; exact tSame.rf) | exact t_done (by unfold xc_put; (repeat' split) <;> omega) (by unfold xv_put; exact hi_67) (by unfold xm_put; rw [if_pos (by omega)]; exact tSame.rf))⟩
        · first | refine g_aload0 dX3_put_48 ?_ | refine g_aloadQ0 dX3_put_48 ?_ | refine g_aloadN0 dX3_put_48 ?_
          refine g_iconst (nI 3) dX3_put_49 (by decide) ?_
          refine g_V1n0 (ctX3_fails hA _ _) kX3_fails q2196 tw_0 rfl rfl (by decide) ⟨rfl, rfl⟩ ⟨Nat.zero_le _, Nat.zero_le _⟩ (Nat.le_of_ble_eq_true rfl) dX3_put_50 (fun r_50 h_50 p_50 => ?_)
          obtain ⟨rfl, rfl⟩ := p_50
          exact g_iret dX3_put_53 rfl ⟨_, rfl, (by first | exact t_fails (by unfold xc_put; (repeat' split) <;> omega) (by omega) (by unfold xm_put; rw [if_neg (by omega)]; exact tSame.rf) | exact t_done (by unfold xc_put; (repeat' split) <;> omega) (by unfold xv_put; exact hi_67) (by unfold xm_put; rw [if_pos (by omega)]; exact tSame.rf))⟩
      · first | refine g_aload0 dX3_put_34 ?_ | refine g_aloadQ0 dX3_put_34 ?_ | refine g_aloadN0 dX3_put_34 ?_
        refine g_iconst (nI 2) dX3_put_35 (by decide) ?_
        refine g_V1n0 (ctX3_fails hA _ _) kX3_fails q2196 tw_0 rfl rfl (by decide) ⟨rfl, rfl⟩ ⟨Nat.zero_le _, Nat.zero_le _⟩ (Nat.le_of_ble_eq_true rfl) dX3_put_36 (fun r_36 h_36 p_36 => ?_)
        obtain ⟨rfl, rfl⟩ := p_36
        exact g_iret dX3_put_39 rfl ⟨_, rfl, (by first | exact t_fails (by unfold xc_put; (repeat' split) <;> omega) (by omega) (by unfold xm_put; rw [if_neg (by omega)]; exact tSame.rf) | exact t_done (by unfold xc_put; (repeat' split) <;> omega) (by unfold xv_put; exact hi_67) (by unfold xm_put; rw [if_pos (by omega)]; exact tSame.rf))⟩
  · first | refine g_aload0 dX3_put_7 ?_ | refine g_aloadQ0 dX3_put_7 ?_ | refine g_aloadN0 dX3_put_7 ?_
    refine g_iconst (nI 1) dX3_put_8 (by decide) ?_
    refine g_V1n0 (ctX3_fails hA _ _) kX3_fails q2196 tw_0 rfl rfl (by decide) ⟨rfl, rfl⟩ ⟨Nat.zero_le _, Nat.zero_le _⟩ (Nat.le_of_ble_eq_true rfl) dX3_put_9 (fun r_9 h_9 p_9 => ?_)
    obtain ⟨rfl, rfl⟩ := p_9
    exact g_iret dX3_put_12 rfl ⟨_, rfl, (by first | exact t_fails (by unfold xc_put; (repeat' split) <;> omega) (by omega) (by unfold xm_put; rw [if_neg (by omega)]; exact tSame.rf) | exact t_done (by unfold xc_put; (repeat' split) <;> omega) (by unfold xv_put; exact hi_67) (by unfold xm_put; rw [if_pos (by omega)]; exact tSame.rf))⟩
abbrev mX3_levels : GM := (yX3_levels, 1, (some .int), [], { frames := 1, cells := 0, slots := 0, locals := 21 }, 255)
theorem kX3_levels : gCv cX3_levels mX3_levels 0 := ⟨q2510, q2511, q90, q2512, ⟨by decide +kernel, by decide +kernel, by decide +kernel⟩, rfl⟩
def xc_levels (M : TW)  : Nat := 0
def xv_levels (M : TW)  : Nat := M 0 10
def xm_levels (M : TW)  : TW := M
set_option maxHeartbeats 400000 in
theorem ctX3_levels {E : GE} {h : AH} {A : Nat → Nat} (hA : twA A) (M : TW)   : Ct E cX3_levels mX3_levels [.ref (A 0)] (twO E A M h) (pN fun r h' => tEnd E A h (xc_levels M ) (xv_levels M ) (xm_levels M ) r h') noX := by
  refine g_enter (own := "SecretVaultModel") [some (.ref (A 0))] (by decide +kernel) rfl rfl (Nat.le_of_ble_eq_true rfl) rfl rfl (fun X => ?_)
  first | refine g_aload0 dX3_levels_0 ?_ | refine g_aloadQ0 dX3_levels_0 ?_ | refine g_aloadN0 dX3_levels_0 ?_
  first | refine g_aload0 dX3_levels_1 ?_ | refine g_aloadQ0 dX3_levels_1 ?_ | refine g_aloadN0 dX3_levels_1 ?_
  refine t_get10 hA q2107 dX3_levels_2 ?_
  refine g_V1n0 (ctX3_done hA _ _) kX3_done q2173 tw_0 rfl rfl (by decide) ⟨rfl, rfl⟩ ⟨Nat.zero_le _, Nat.zero_le _⟩ (Nat.le_of_ble_eq_true rfl) dX3_levels_5 (fun r_5 h_5 p_5 => ?_)
  obtain ⟨rfl, rfl⟩ := p_5
  exact g_iret dX3_levels_8 rfl ⟨_, rfl, t_done (by unfold xc_levels; (repeat' split) <;> omega) (by unfold xv_levels; rfl) (by unfold xm_levels; exact tSame.rf)⟩
abbrev mX3_errorPosition : GM := (yX3_errorPosition, 1, (some .int), [], { frames := 1, cells := 0, slots := 0, locals := 21 }, 255)
theorem kX3_errorPosition : gCv cX3_errorPosition mX3_errorPosition 0 := ⟨q2454, q2455, q90, q2456, ⟨by decide +kernel, by decide +kernel, by decide +kernel⟩, rfl⟩
def xc_errorPosition (M : TW)  : Nat := 0
def xv_errorPosition (M : TW)  : Nat := M 0 16
def xm_errorPosition (M : TW)  : TW := M
set_option maxHeartbeats 400000 in
theorem ctX3_errorPosition {E : GE} {h : AH} {A : Nat → Nat} (hA : twA A) (M : TW)   : Ct E cX3_errorPosition mX3_errorPosition [.ref (A 0)] (twO E A M h) (pN fun r h' => tEnd E A h (xc_errorPosition M ) (xv_errorPosition M ) (xm_errorPosition M ) r h') noX := by
  refine g_enter (own := "SecretVaultModel") [some (.ref (A 0))] (by decide +kernel) rfl rfl (Nat.le_of_ble_eq_true rfl) rfl rfl (fun X => ?_)
  first | refine g_aload0 dX3_errorPosition_0 ?_ | refine g_aloadQ0 dX3_errorPosition_0 ?_ | refine g_aloadN0 dX3_errorPosition_0 ?_
  first | refine g_aload0 dX3_errorPosition_1 ?_ | refine g_aloadQ0 dX3_errorPosition_1 ?_ | refine g_aloadN0 dX3_errorPosition_1 ?_
  refine t_get16 hA q2113 dX3_errorPosition_2 ?_
  refine g_V1n0 (ctX3_done hA _ _) kX3_done q2173 tw_0 rfl rfl (by decide) ⟨rfl, rfl⟩ ⟨Nat.zero_le _, Nat.zero_le _⟩ (Nat.le_of_ble_eq_true rfl) dX3_errorPosition_5 (fun r_5 h_5 p_5 => ?_)
  obtain ⟨rfl, rfl⟩ := p_5
  exact g_iret dX3_errorPosition_8 rfl ⟨_, rfl, t_done (by unfold xc_errorPosition; (repeat' split) <;> omega) (by unfold xv_errorPosition; rfl) (by unfold xm_errorPosition; exact tSame.rf)⟩
abbrev mX3_event : GM := (yX3_event, 2, (some .int), [], { frames := 1, cells := 0, slots := 0, locals := 22 }, 255)
theorem kX3_event : gCv cX3_event mX3_event 1 := ⟨q2518, q2519, q90, q2520, ⟨by decide +kernel, by decide +kernel, by decide +kernel⟩, rfl⟩
def xc_event (M : TW) (i : Nat) : Nat := if i < M 1 17 then 0 else 1
def xv_event (M : TW) (i : Nat) : Nat := M 1 (18 + i)
def xm_event (M : TW) (i : Nat) : TW := M
set_option maxHeartbeats 400000 in
theorem ctX3_event {E : GE} {h : AH} {A : Nat → Nat} (hA : twA A) (M : TW) (i : Nat) (hB : twB M) (h17 : M 1 17 ≤ 20) (hi : i < 4294967296) : Ct E cX3_event mX3_event [.ref (A 0), .int (nI i)] (twO E A M h) (pN fun r h' => tEnd E A h (xc_event M i ) (xv_event M i ) (xm_event M i ) r h') noX := by
  refine g_enter (own := "SecretVaultModel") [some (.ref (A 0)), some (.int (nI i))] (by decide +kernel) rfl rfl (Nat.le_of_ble_eq_true rfl) rfl rfl (fun X => ?_)
  refine g_iload1 dX3_event_0 ?_
  refine g_iconst (nI 0) dX3_event_1 (by decide) ?_
  first | refine g_aload0 dX3_event_2 ?_ | refine g_aloadQ0 dX3_event_2 ?_ | refine g_aloadN0 dX3_event_2 ?_
  refine t_get1 hA q2099 dX3_event_3 ?_
  refine g_bipush (nI 17) dX3_event_6 (by decide) ?_
  refine t_ald1 hA (by first | omega | exact hB _ _ | (split <;> omega)) dX3_event_8 ?_
  refine g_iconst (nI 1) dX3_event_9 (by decide) ?_
  refine g_isub dX3_event_10 ?_
  rw [nI_dc]
  refine g_S3n0 (ctX3_inS _ _ _ (by first | omega | exact hB _ _) (by omega) (dc_lt (by first | omega | exact hB _ _))) kX3_in q2193 (by decide) ⟨rfl, rfl⟩ ⟨Nat.zero_le _, Nat.zero_le _⟩ (Nat.le_of_ble_eq_true rfl) dX3_event_11 (fun r_11 h_11 p_11 => ?_)
  obtain ⟨hr_11, hi_11, rfl⟩ := p_11
  rw [in_dc (by first | omega | exact hB _ _) (by first | omega | exact hB _ _)] at hi_11
  first | refine g_ifN_eq (tgt := 33) dX3_event_14 (by decide) (by first | omega | exact hB _ _ | (split <;> omega)) (fun c_14 => ?_) (fun c_14 => ?_) | refine g_if_eq (tgt := 33) dX3_event_14 (by decide) (fun c_14 => ?_) (fun c_14 => ?_)
  · first | refine g_aload0 dX3_event_33 ?_ | refine g_aloadQ0 dX3_event_33 ?_ | refine g_aloadN0 dX3_event_33 ?_
    refine g_iconst (nI 1) dX3_event_34 (by decide) ?_
    refine g_V1n0 (ctX3_fails hA _ _) kX3_fails q2196 tw_0 rfl rfl (by decide) ⟨rfl, rfl⟩ ⟨Nat.zero_le _, Nat.zero_le _⟩ (Nat.le_of_ble_eq_true rfl) dX3_event_35 (fun r_35 h_35 p_35 => ?_)
    obtain ⟨rfl, rfl⟩ := p_35
    exact g_iret dX3_event_38 rfl ⟨_, rfl, (by first | exact t_fails (by unfold xc_event; (repeat' split) <;> omega) (by omega) (by unfold xm_event; exact tSame.rf) | exact t_done (by unfold xc_event; (repeat' split) <;> omega) (by unfold xv_event; rfl) (by unfold xm_event; exact tSame.rf))⟩
  · first | refine g_aload0 dX3_event_17 ?_ | refine g_aloadQ0 dX3_event_17 ?_ | refine g_aloadN0 dX3_event_17 ?_
    first | refine g_aload0 dX3_event_18 ?_ | refine g_aloadQ0 dX3_event_18 ?_ | refine g_aloadN0 dX3_event_18 ?_
    refine t_get1 hA q2099 dX3_event_19 ?_
    refine g_bipush (nI 18) dX3_event_22 (by decide) ?_
    refine g_iload1 dX3_event_24 ?_
    first | refine g_iaddN dX3_event_25 ?_ | refine g_iadd dX3_event_25 ?_
    refine t_ald1 hA (by first | omega | exact hB _ _ | (split <;> omega)) dX3_event_26 ?_
    refine g_V1n0 (ctX3_done hA _ _) kX3_done q2173 tw_0 rfl rfl (by decide) ⟨rfl, rfl⟩ ⟨Nat.zero_le _, Nat.zero_le _⟩ (Nat.le_of_ble_eq_true rfl) dX3_event_27 (fun r_27 h_27 p_27 => ?_)
    obtain ⟨rfl, rfl⟩ := p_27
    refine g_goto (tgt := 38) dX3_event_30 (by decide) ?_
    exact g_iret dX3_event_38 rfl ⟨_, rfl, (by first | exact t_fails (by unfold xc_event; (repeat' split) <;> omega) (by omega) (by unfold xm_event; exact tSame.rf) | exact t_done (by unfold xc_event; (repeat' split) <;> omega) (by unfold xv_event; rfl) (by unfold xm_event; exact tSame.rf))⟩
abbrev mX3_report : GM := (yX3_report, 3, (some .int), [], { frames := 1, cells := 0, slots := 0, locals := 22 }, 255)
theorem kX3_report : gCv cX3_report mX3_report 2 := ⟨q2514, q2515, q90, q2516, ⟨by decide +kernel, by decide +kernel, by decide +kernel⟩, rfl⟩
def xc_report (M : TW) (l w : Nat) : Nat := if ¬ l < M 0 10 then 1 else if w ≤ 1 then 0 else 2
def xv_report (M : TW) (l w : Nat) : Nat := if w = 0 then M 8 l else M 9 l
def xm_report (M : TW) (l w : Nat) : TW := M
set_option maxHeartbeats 400000 in
theorem ctX3_report {E : GE} {h : AH} {A : Nat → Nat} (hA : twA A) (M : TW) (l w : Nat) (hB : twB M) (hL : M 0 10 ≤ 30) (hl : l < 4294967296) (hw : w < 4294967296) : Ct E cX3_report mX3_report [.ref (A 0), .int (nI l), .int (nI w)] (twO E A M h) (pN fun r h' => tEnd E A h (xc_report M l w ) (xv_report M l w ) (xm_report M l w ) r h') noX := by
  refine g_enter (own := "SecretVaultModel") [some (.ref (A 0)), some (.int (nI l)), some (.int (nI w))] (by decide +kernel) rfl rfl (Nat.le_of_ble_eq_true rfl) rfl rfl (fun X => ?_)
  refine g_iload1 dX3_report_0 ?_
  refine g_iconst (nI 0) dX3_report_1 (by decide) ?_
  first | refine g_aload0 dX3_report_2 ?_ | refine g_aloadQ0 dX3_report_2 ?_ | refine g_aloadN0 dX3_report_2 ?_
  refine t_get10 hA q2107 dX3_report_3 ?_
  refine g_iconst (nI 1) dX3_report_6 (by decide) ?_
  refine g_isub dX3_report_7 ?_
  rw [nI_dc]
  refine g_S3n0 (ctX3_inS _ _ _ (by first | omega | exact hB _ _) (by omega) (dc_lt (by first | omega | exact hB _ _))) kX3_in q2193 (by decide) ⟨rfl, rfl⟩ ⟨Nat.zero_le _, Nat.zero_le _⟩ (Nat.le_of_ble_eq_true rfl) dX3_report_8 (fun r_8 h_8 p_8 => ?_)
  obtain ⟨hr_8, hi_8, rfl⟩ := p_8
  rw [in_dc (by first | omega | exact hB _ _) (by first | omega | exact hB _ _)] at hi_8
  first | refine g_ifN_ne (tgt := 20) dX3_report_11 (by decide) (by first | omega | exact hB _ _ | (split <;> omega)) (fun c_11 => ?_) (fun c_11 => ?_) | refine g_if_ne (tgt := 20) dX3_report_11 (by decide) (fun c_11 => ?_) (fun c_11 => ?_)
  · refine g_iload2 dX3_report_20 ?_
    first | refine g_ifN_ne (tgt := 37) dX3_report_21 (by decide) (by first | omega | exact hB _ _ | (split <;> omega)) (fun c_21 => ?_) (fun c_21 => ?_) | refine g_if_ne (tgt := 37) dX3_report_21 (by decide) (fun c_21 => ?_) (fun c_21 => ?_)
    · refine g_iload2 dX3_report_37 ?_
      refine g_iconst (nI 1) dX3_report_38 (by decide) ?_
      first | refine g_icmpN_ne (tgt := 55) dX3_report_39 (by decide) (by first | omega | exact hB _ _ | (split <;> omega)) (by first | omega | exact hB _ _ | (split <;> omega)) (fun c_39 => ?_) (fun c_39 => ?_) | refine g_icmpU_ne (tgt := 55) dX3_report_39 (by decide) (by first | omega | exact hB _ _ | (split <;> omega)) (by first | omega | exact hB _ _ | (split <;> omega)) (fun c_39 => ?_) (fun c_39 => ?_) | refine g_icmp_ne (tgt := 55) dX3_report_39 (by decide) (fun c_39 => ?_) (fun c_39 => ?_)
      · first | refine g_aload0 dX3_report_55 ?_ | refine g_aloadQ0 dX3_report_55 ?_ | refine g_aloadN0 dX3_report_55 ?_
        refine g_iconst (nI 2) dX3_report_56 (by decide) ?_
        refine g_V1n0 (ctX3_fails hA _ _) kX3_fails q2196 tw_0 rfl rfl (by decide) ⟨rfl, rfl⟩ ⟨Nat.zero_le _, Nat.zero_le _⟩ (Nat.le_of_ble_eq_true rfl) dX3_report_57 (fun r_57 h_57 p_57 => ?_)
        obtain ⟨rfl, rfl⟩ := p_57
        exact g_iret dX3_report_60 rfl ⟨_, rfl, (by first | exact t_fails (by unfold xc_report; (repeat' split) <;> omega) (by omega) (by unfold xm_report; exact tSame.rf) | exact t_done (by unfold xc_report; (repeat' split) <;> omega) (by unfold xv_report; first | rw [if_pos (by omega)] | rw [if_neg (by omega)]) (by unfold xm_report; exact tSame.rf))⟩
      · first | refine g_aload0 dX3_report_42 ?_ | refine g_aloadQ0 dX3_report_42 ?_ | refine g_aloadN0 dX3_report_42 ?_
        first | refine g_aload0 dX3_report_43 ?_ | refine g_aloadQ0 dX3_report_43 ?_ | refine g_aloadN0 dX3_report_43 ?_
        refine t_get9 hA q2106 dX3_report_44 ?_
        refine g_iload1 dX3_report_47 ?_
        refine t_ald9 hA (by first | omega | exact hB _ _ | (split <;> omega)) dX3_report_48 ?_
        refine g_V1n0 (ctX3_done hA _ _) kX3_done q2173 tw_0 rfl rfl (by decide) ⟨rfl, rfl⟩ ⟨Nat.zero_le _, Nat.zero_le _⟩ (Nat.le_of_ble_eq_true rfl) dX3_report_49 (fun r_49 h_49 p_49 => ?_)
        obtain ⟨rfl, rfl⟩ := p_49
        refine g_goto (tgt := 60) dX3_report_52 (by decide) ?_
        exact g_iret dX3_report_60 rfl ⟨_, rfl, (by first | exact t_fails (by unfold xc_report; (repeat' split) <;> omega) (by omega) (by unfold xm_report; exact tSame.rf) | exact t_done (by unfold xc_report; (repeat' split) <;> omega) (by unfold xv_report; first | rw [if_pos (by omega)] | rw [if_neg (by omega)]) (by unfold xm_report; exact tSame.rf))⟩
    · first | refine g_aload0 dX3_report_24 ?_ | refine g_aloadQ0 dX3_report_24 ?_ | refine g_aloadN0 dX3_report_24 ?_
      first | refine g_aload0 dX3_report_25 ?_ | refine g_aloadQ0 dX3_report_25 ?_ | refine g_aloadN0 dX3_report_25 ?_
      refine t_get8 hA q2105 dX3_report_26 ?_
      refine g_iload1 dX3_report_29 ?_
      refine t_ald8 hA (by first | omega | exact hB _ _ | (split <;> omega)) dX3_report_30 ?_
      refine g_V1n0 (ctX3_done hA _ _) kX3_done q2173 tw_0 rfl rfl (by decide) ⟨rfl, rfl⟩ ⟨Nat.zero_le _, Nat.zero_le _⟩ (Nat.le_of_ble_eq_true rfl) dX3_report_31 (fun r_31 h_31 p_31 => ?_)
      obtain ⟨rfl, rfl⟩ := p_31
      refine g_goto (tgt := 60) dX3_report_34 (by decide) ?_
      exact g_iret dX3_report_60 rfl ⟨_, rfl, (by first | exact t_fails (by unfold xc_report; (repeat' split) <;> omega) (by omega) (by unfold xm_report; exact tSame.rf) | exact t_done (by unfold xc_report; (repeat' split) <;> omega) (by unfold xv_report; first | rw [if_pos (by omega)] | rw [if_neg (by omega)]) (by unfold xm_report; exact tSame.rf))⟩
  · first | refine g_aload0 dX3_report_14 ?_ | refine g_aloadQ0 dX3_report_14 ?_ | refine g_aloadN0 dX3_report_14 ?_
    refine g_iconst (nI 1) dX3_report_15 (by decide) ?_
    refine g_V1n0 (ctX3_fails hA _ _) kX3_fails q2196 tw_0 rfl rfl (by decide) ⟨rfl, rfl⟩ ⟨Nat.zero_le _, Nat.zero_le _⟩ (Nat.le_of_ble_eq_true rfl) dX3_report_16 (fun r_16 h_16 p_16 => ?_)
    obtain ⟨rfl, rfl⟩ := p_16
    exact g_iret dX3_report_19 rfl ⟨_, rfl, (by first | exact t_fails (by unfold xc_report; (repeat' split) <;> omega) (by omega) (by unfold xm_report; exact tSame.rf) | exact t_done (by unfold xc_report; (repeat' split) <;> omega) (by unfold xv_report; first | rw [if_pos (by omega)] | rw [if_neg (by omega)]) (by unfold xm_report; exact tSame.rf))⟩
abbrev mX3_commitment : GM := (yX3_commitment, 4, (some .int), [], { frames := 3, cells := 0, slots := 0, locals := 63 }, 255)
theorem kX3_commitment : gCv cX3_commitment mX3_commitment 2 := ⟨q2379, q2380, q90, q2381, ⟨by decide +kernel, by decide +kernel, by decide +kernel⟩, rfl⟩
def xc_commitment (M : TW) (s i : Nat) : Nat := if ¬ s ≤ 3 then 1 else if gOf (M 1) s 0 = 0 then 2 else if i < gOf (M 1) s 1 then 0 else 2
def xv_commitment (M : TW) (s i : Nat) : Nat := gOf (M 1) s (3 + i)
def xm_commitment (M : TW) (s i : Nat) : TW := M
set_option maxHeartbeats 400000 in
theorem ctX3_commitment {E : GE} {h : AH} {A : Nat → Nat} (hA : twA A) (M : TW) (s i : Nat) (hW : tWF M) (hs : s < 4294967296) (hi : i < 4294967296) : Ct E cX3_commitment mX3_commitment [.ref (A 0), .int (nI s), .int (nI i)] (twO E A M h) (pN fun r h' => tEnd E A h (xc_commitment M s i ) (xv_commitment M s i ) (xm_commitment M s i ) r h') noX := by
  refine g_enter (own := "SecretVaultModel") [some (.ref (A 0)), some (.int (nI s)), some (.int (nI i)), none] (by decide +kernel) rfl rfl (Nat.le_of_ble_eq_true rfl) rfl rfl (fun X => ?_)
  have hB := hW.1
  first | refine g_aload0 dX3_commitment_0 ?_ | refine g_aloadQ0 dX3_commitment_0 ?_ | refine g_aloadN0 dX3_commitment_0 ?_
  refine g_iload1 dX3_commitment_1 ?_
  refine g_V1n0 (ctX3_lacks hA _ _ hB (by omega)) kX3_lacks q2277 tw_0 rfl rfl (by decide) ⟨rfl, rfl⟩ ⟨Nat.zero_le _, Nat.zero_le _⟩ (Nat.le_of_ble_eq_true rfl) dX3_commitment_2 (fun r_2 h_2 p_2 => ?_)
  obtain ⟨hi_2, rfl⟩ := p_2
  refine g_istore3 dX3_commitment_5 (by decide) ?_
  refine g_iload3 dX3_commitment_6 ?_
  first | refine g_ifN_eq (tgt := 16) dX3_commitment_7 (by decide) (by first | omega | exact hB _ _ | (split <;> omega)) (fun c_7 => ?_) (fun c_7 => ?_) | refine g_if_eq (tgt := 16) dX3_commitment_7 (by decide) (fun c_7 => ?_) (fun c_7 => ?_)
  · have hsl := hW.2.2.2.2 s (by omega)
    have hk8 := hsl.2.2.1
    refine g_iload2 dX3_commitment_16 ?_
    refine g_iconst (nI 0) dX3_commitment_17 (by decide) ?_
    first | refine g_aload0 dX3_commitment_18 ?_ | refine g_aloadQ0 dX3_commitment_18 ?_ | refine g_aloadN0 dX3_commitment_18 ?_
    refine g_iload1 dX3_commitment_19 ?_
    refine g_iconst (nI 1) dX3_commitment_20 (by decide) ?_
    refine g_V2n0 (ctX3_of hA _ _ _ (by omega) (by omega)) kX3_of q2220 tw_0 rfl rfl (by decide) ⟨rfl, rfl⟩ ⟨Nat.zero_le _, Nat.zero_le _⟩ (Nat.le_of_ble_eq_true rfl) dX3_commitment_21 (fun r_21 h_21 p_21 => ?_)
    obtain ⟨rfl, rfl⟩ := p_21
    refine g_iconst (nI 1) dX3_commitment_24 (by decide) ?_
    refine g_isub dX3_commitment_25 ?_
    rw [nI_dc]
    refine g_S3n0 (ctX3_inS _ _ _ (by first | omega | exact hB _ _) (by omega) (dc_lt (by first | omega | exact hB _ _))) kX3_in q2193 (by decide) ⟨rfl, rfl⟩ ⟨Nat.zero_le _, Nat.zero_le _⟩ (Nat.le_of_ble_eq_true rfl) dX3_commitment_26 (fun r_26 h_26 p_26 => ?_)
    obtain ⟨hr_26, hi_26, rfl⟩ := p_26
    rw [in_dc (by first | omega | exact hB _ _) (by first | omega | exact hB _ _)] at hi_26
    first | refine g_ifN_eq (tgt := 47) dX3_commitment_29 (by decide) (by first | omega | exact hB _ _ | (split <;> omega)) (fun c_29 => ?_) (fun c_29 => ?_) | refine g_if_eq (tgt := 47) dX3_commitment_29 (by decide) (fun c_29 => ?_) (fun c_29 => ?_)
    · first | refine g_aload0 dX3_commitment_47 ?_ | refine g_aloadQ0 dX3_commitment_47 ?_ | refine g_aloadN0 dX3_commitment_47 ?_
      refine g_iconst (nI 2) dX3_commitment_48 (by decide) ?_
      refine g_V1n0 (ctX3_fails hA _ _) kX3_fails q2196 tw_0 rfl rfl (by decide) ⟨rfl, rfl⟩ ⟨Nat.zero_le _, Nat.zero_le _⟩ (Nat.le_of_ble_eq_true rfl) dX3_commitment_49 (fun r_49 h_49 p_49 => ?_)
      obtain ⟨rfl, rfl⟩ := p_49
      exact g_iret dX3_commitment_52 rfl ⟨_, rfl, (by first | exact t_fails (by unfold xc_commitment; (repeat' split) <;> omega) (by omega) (by unfold xm_commitment; exact tSame.rf) | exact t_done (by unfold xc_commitment; (repeat' split) <;> omega) (by unfold xv_commitment; rfl) (by unfold xm_commitment; exact tSame.rf))⟩
    · first | refine g_aload0 dX3_commitment_32 ?_ | refine g_aloadQ0 dX3_commitment_32 ?_ | refine g_aloadN0 dX3_commitment_32 ?_
      first | refine g_aload0 dX3_commitment_33 ?_ | refine g_aloadQ0 dX3_commitment_33 ?_ | refine g_aloadN0 dX3_commitment_33 ?_
      refine g_iload1 dX3_commitment_34 ?_
      refine g_iconst (nI 3) dX3_commitment_35 (by decide) ?_
      refine g_iload2 dX3_commitment_36 ?_
      first | refine g_iaddN dX3_commitment_37 ?_ | refine g_iadd dX3_commitment_37 ?_
      refine g_V2n0 (ctX3_of hA _ _ _ (by omega) (by omega)) kX3_of q2220 tw_0 rfl rfl (by decide) ⟨rfl, rfl⟩ ⟨Nat.zero_le _, Nat.zero_le _⟩ (Nat.le_of_ble_eq_true rfl) dX3_commitment_38 (fun r_38 h_38 p_38 => ?_)
      obtain ⟨rfl, rfl⟩ := p_38
      refine g_V1n0 (ctX3_done hA _ _) kX3_done q2173 tw_0 rfl rfl (by decide) ⟨rfl, rfl⟩ ⟨Nat.zero_le _, Nat.zero_le _⟩ (Nat.le_of_ble_eq_true rfl) dX3_commitment_41 (fun r_41 h_41 p_41 => ?_)
      obtain ⟨rfl, rfl⟩ := p_41
      refine g_goto (tgt := 52) dX3_commitment_44 (by decide) ?_
      exact g_iret dX3_commitment_52 rfl ⟨_, rfl, (by first | exact t_fails (by unfold xc_commitment; (repeat' split) <;> omega) (by omega) (by unfold xm_commitment; exact tSame.rf) | exact t_done (by unfold xc_commitment; (repeat' split) <;> omega) (by unfold xv_commitment; rfl) (by unfold xm_commitment; exact tSame.rf))⟩
  · first | refine g_aload0 dX3_commitment_10 ?_ | refine g_aloadQ0 dX3_commitment_10 ?_ | refine g_aloadN0 dX3_commitment_10 ?_
    refine g_iload3 dX3_commitment_11 ?_
    refine g_V1n0 (ctX3_fails hA _ _) kX3_fails q2196 tw_0 rfl rfl (by decide) ⟨rfl, rfl⟩ ⟨Nat.zero_le _, Nat.zero_le _⟩ (Nat.le_of_ble_eq_true rfl) dX3_commitment_12 (fun r_12 h_12 p_12 => ?_)
    obtain ⟨rfl, rfl⟩ := p_12
    exact g_iret dX3_commitment_15 rfl ⟨_, rfl, (by first | exact t_fails (by unfold xc_commitment; (repeat' split) <;> omega) (by omega) (by unfold xm_commitment; exact tSame.rf) | exact t_done (by unfold xc_commitment; (repeat' split) <;> omega) (by unfold xv_commitment; rfl) (by unfold xm_commitment; exact tSame.rf))⟩
def mbC (g : Nat → Nat) (w s x : Nat) : Prop := gSh g s x 0 = 1 ∧ (w = 2 ∨ ¬ stF g s x = 0)
abbrev mbD (g : Nat → Nat) (w s x : Nat) : Prop := gSh g s x 0 = 1 ∧ (w = 2 ∨ ¬ stF g s x = 0)
/-- a member's shares, slot by slot, up to the t-th place of twelve -/
def mbA (g : Nat → Nat) (m w : Nat) : Nat → Nat
  | 0 => 0
  | t + 1 => mbA g m w t + (if mbD g w (t / 3) (3 * m + 1 + t % 3) then 1 else 0)
abbrev mX3_member : GM := (yX3_member, 6, (some .int), [], { frames := 3, cells := 0, slots := 0, locals := 70 }, 255)
theorem kX3_member : gCv cX3_member mX3_member 2 := ⟨q2209, q2210, q90, q2211, ⟨by decide +kernel, by decide +kernel, by decide +kernel⟩, rfl⟩
def xc_member (M : TW) (m w : Nat) : Nat := if ¬ m ≤ 7 then 1 else if ¬ w ≤ 3 then 2 else 0
def xv_member (M : TW) (m w : Nat) : Nat := if w = 0 then M 1 (1 + m) else if w = 1 then M 1 (9 + m) else mbA (M 1) m w 12
def xm_member (M : TW) (m w : Nat) : TW := M
set_option maxHeartbeats 400000 in
theorem ctX3_member {E : GE} {h : AH} {A : Nat → Nat} (hA : twA A) (M : TW) (m w : Nat) (hW : tWF M) (hm : m < 4294967296) (hw : w < 4294967296) : Ct E cX3_member mX3_member [.ref (A 0), .int (nI m), .int (nI w)] (twO E A M h) (pN fun r h' => tEnd E A h (xc_member M m w ) (xv_member M m w ) (xm_member M m w ) r h') noX := by
  refine g_enter (own := "SecretVaultModel") [some (.ref (A 0)), some (.int (nI m)), some (.int (nI w)), none, none, none] (by decide +kernel) rfl rfl (Nat.le_of_ble_eq_true rfl) rfl rfl (fun X => ?_)
  have hB := hW.1
  have L : ∀ s, 0 ≤ s → s ≤ 4 → m ≤ 7 → 2 ≤ w → w ≤ 3 → ∀ o, V E cX3_member "SecretVaultModel" mX3_member (pN fun r h' => tEnd E A h (xc_member M m w ) (xv_member M m w ) (xm_member M m w ) r h') noX X (twO E A M h) 0 0 60 [some (.ref (A 0)), some (.int (nI m)), some (.int (nI w)), some (.int (nI (mbA (M 1) m w (3 * s)))), some (.int (nI (s))), o] [] := by
    intro s h0 h4 hm7 hw2 hw3
    refine g_for (fun s => ∀ o, V E cX3_member "SecretVaultModel" mX3_member (pN fun r h' => tEnd E A h (xc_member M m w ) (xv_member M m w ) (xm_member M m w ) r h') noX X (twO E A M h) 0 0 60 [some (.ref (A 0)), some (.int (nI m)), some (.int (nI w)), some (.int (nI (mbA (M 1) m w (3 * s)))), some (.int (nI (s))), o] []) 0 4 ?_ ?_ s h0 h4
    · intro o
      refine g_iload4 dX3_member_60 ?_
      refine g_iconst (nI 4) dX3_member_62 (by decide) ?_
      first | refine g_icmpN_ge (tgt := 130) dX3_member_63 (by decide) (by first | omega | exact hB _ _ | (split <;> omega)) (by first | omega | exact hB _ _ | (split <;> omega)) (fun c_63 => ?_) (fun c_63 => ?_) | refine g_icmp_ge (tgt := 130) dX3_member_63 (by decide) (fun c_63 => ?_) (fun c_63 => ?_)
      · first | refine g_aload0 dX3_member_130 ?_ | refine g_aloadQ0 dX3_member_130 ?_ | refine g_aloadN0 dX3_member_130 ?_
        refine g_iload3 dX3_member_131 ?_
        refine g_V1n0 (ctX3_done hA _ _) kX3_done q2173 tw_0 rfl rfl (by decide) ⟨rfl, rfl⟩ ⟨Nat.zero_le _, Nat.zero_le _⟩ (Nat.le_of_ble_eq_true rfl) dX3_member_132 (fun r_132 h_132 p_132 => ?_)
        obtain ⟨rfl, rfl⟩ := p_132
        exact g_iret dX3_member_135 rfl ⟨_, rfl, t_done (by unfold xc_member; (repeat' split) <;> omega) (by unfold xv_member; rw [if_neg (by omega), if_neg (by omega)]) (by unfold xm_member; exact tSame.rf)⟩
      · omega
    · intro s h0 hs4 ih o
      have hsl := hW.2.2.2.2 s hs4
      have L2 : ∀ i, 0 ≤ i → i ≤ 3 → V E cX3_member "SecretVaultModel" mX3_member (pN fun r h' => tEnd E A h (xc_member M m w ) (xv_member M m w ) (xm_member M m w ) r h') noX X (twO E A M h) 0 0 73 [some (.ref (A 0)), some (.int (nI m)), some (.int (nI w)), some (.int (nI (mbA (M 1) m w (3 * s + i)))), some (.int (nI (s))), some (.int (nI (3 * m + 1 + i)))] [] := by
        refine g_for _ 0 3 ?_ ?_
        · refine g_iload5 dX3_member_73 ?_
          refine g_iconst (nI 3) dX3_member_75 (by decide) ?_
          refine g_iload1 dX3_member_76 ?_
          first | refine g_imulN dX3_member_77 ?_ | refine g_imul dX3_member_77 ?_
          refine g_iconst (nI 3) dX3_member_78 (by decide) ?_
          first | refine g_iaddN dX3_member_79 ?_ | refine g_iadd dX3_member_79 ?_
          first | refine g_icmpN_gt (tgt := 124) dX3_member_80 (by decide) (by first | omega | exact hB _ _ | (split <;> omega)) (by first | omega | exact hB _ _ | (split <;> omega)) (fun c_80 => ?_) (fun c_80 => ?_) | refine g_icmp_gt (tgt := 124) dX3_member_80 (by decide) (fun c_80 => ?_) (fun c_80 => ?_)
          · first | refine g_iincN4 1 dX3_member_124 (by decide) (by decide) ?_ | refine g_iinc4 _ dX3_member_124 rfl (by decide) ?_
            refine g_goto (tgt := 60) dX3_member_127 (by decide) ?_
            exact ih _
          · omega
        · intro i h0 hi ih2
          have hst := stF_lt (M 1) s (3 * m + 1 + i)
          refine g_iload5 dX3_member_73 ?_
          refine g_iconst (nI 3) dX3_member_75 (by decide) ?_
          refine g_iload1 dX3_member_76 ?_
          first | refine g_imulN dX3_member_77 ?_ | refine g_imul dX3_member_77 ?_
          refine g_iconst (nI 3) dX3_member_78 (by decide) ?_
          first | refine g_iaddN dX3_member_79 ?_ | refine g_iadd dX3_member_79 ?_
          first | refine g_icmpN_gt (tgt := 124) dX3_member_80 (by decide) (by first | omega | exact hB _ _ | (split <;> omega)) (by first | omega | exact hB _ _ | (split <;> omega)) (fun c_80 => ?_) (fun c_80 => ?_) | refine g_icmp_gt (tgt := 124) dX3_member_80 (by decide) (fun c_80 => ?_) (fun c_80 => ?_)
          · omega
          · refine g_iload3 dX3_member_83 ?_
            first | refine g_aload0 dX3_member_84 ?_ | refine g_aloadQ0 dX3_member_84 ?_ | refine g_aloadN0 dX3_member_84 ?_
            refine g_iload4 dX3_member_85 ?_
            refine g_iload5 dX3_member_87 ?_
            refine g_V2n0 (ctX3_hasShare hA _ _ _ hB (by omega) (by omega)) kX3_hasShare q2212 tw_0 rfl rfl (by decide) ⟨rfl, rfl⟩ ⟨Nat.zero_le _, Nat.zero_le _⟩ (Nat.le_of_ble_eq_true rfl) dX3_member_89 (fun r_89 h_89 p_89 => ?_)
            obtain ⟨hr_89, hi_89, rfl⟩ := p_89
            first | refine g_ifN_eq (tgt := 115) dX3_member_92 (by decide) (by first | omega | exact hB _ _ | (split <;> omega)) (fun c_92 => ?_) (fun c_92 => ?_) | refine g_if_eq (tgt := 115) dX3_member_92 (by decide) (fun c_92 => ?_) (fun c_92 => ?_)
            · refine g_iconst (nI 0) dX3_member_115 (by decide) ?_
              first | refine g_iaddN dX3_member_116 ?_ | refine g_iadd dX3_member_116 ?_
              refine g_istore3 dX3_member_117 (by decide) ?_
              first | refine g_iincN5 1 dX3_member_118 (by decide) (by decide) ?_ | refine g_iinc5 _ dX3_member_118 rfl (by decide) ?_
              refine g_goto (tgt := 73) dX3_member_121 (by decide) ?_
              first | rw [show 3 * s + (i + 1) = (3 * s + i) + 1 by omega, show mbA (M 1) m w (3 * s + i + 1) = mbA (M 1) m w (3 * s + i) + 1 from by rw [mbA, show (3 * s + i) / 3 = s by omega, show (3 * s + i) % 3 = i by omega, if_pos (by omega)]] at ih2 | rw [show 3 * s + (i + 1) = (3 * s + i) + 1 by omega, show mbA (M 1) m w (3 * s + i + 1) = mbA (M 1) m w (3 * s + i) + 0 from by rw [mbA, show (3 * s + i) / 3 = s by omega, show (3 * s + i) % 3 = i by omega, if_neg (by omega)]] at ih2
              exact ih2
            · refine g_iload2 dX3_member_95 ?_
              refine g_iconst (nI 2) dX3_member_96 (by decide) ?_
              first | refine g_icmpN_eq (tgt := 111) dX3_member_97 (by decide) (by first | omega | exact hB _ _ | (split <;> omega)) (by first | omega | exact hB _ _ | (split <;> omega)) (fun c_97 => ?_) (fun c_97 => ?_) | refine g_icmpU_eq (tgt := 111) dX3_member_97 (by decide) (by first | omega | exact hB _ _ | (split <;> omega)) (by first | omega | exact hB _ _ | (split <;> omega)) (fun c_97 => ?_) (fun c_97 => ?_) | refine g_icmp_eq (tgt := 111) dX3_member_97 (by decide) (fun c_97 => ?_) (fun c_97 => ?_)
              · refine g_iconst (nI 1) dX3_member_111 (by decide) ?_
                refine g_goto (tgt := 116) dX3_member_112 (by decide) ?_
                first | refine g_iaddN dX3_member_116 ?_ | refine g_iadd dX3_member_116 ?_
                refine g_istore3 dX3_member_117 (by decide) ?_
                first | refine g_iincN5 1 dX3_member_118 (by decide) (by decide) ?_ | refine g_iinc5 _ dX3_member_118 rfl (by decide) ?_
                refine g_goto (tgt := 73) dX3_member_121 (by decide) ?_
                first | rw [show 3 * s + (i + 1) = (3 * s + i) + 1 by omega, show mbA (M 1) m w (3 * s + i + 1) = mbA (M 1) m w (3 * s + i) + 1 from by rw [mbA, show (3 * s + i) / 3 = s by omega, show (3 * s + i) % 3 = i by omega, if_pos (by omega)]] at ih2 | rw [show 3 * s + (i + 1) = (3 * s + i) + 1 by omega, show mbA (M 1) m w (3 * s + i + 1) = mbA (M 1) m w (3 * s + i) + 0 from by rw [mbA, show (3 * s + i) / 3 = s by omega, show (3 * s + i) % 3 = i by omega, if_neg (by omega)]] at ih2
                exact ih2
              · first | refine g_aload0 dX3_member_100 ?_ | refine g_aloadQ0 dX3_member_100 ?_ | refine g_aloadN0 dX3_member_100 ?_
                refine g_iload4 dX3_member_101 ?_
                refine g_iload5 dX3_member_103 ?_
                refine g_V2n0 (ctX3_stateOf hA _ _ _ hB (by omega) (by omega) hsl.P) kX3_stateOf q2224 tw_0 rfl rfl (by decide) ⟨rfl, rfl⟩ ⟨Nat.zero_le _, Nat.zero_le _⟩ (Nat.le_of_ble_eq_true rfl) dX3_member_105 (fun r_105 h_105 p_105 => ?_)
                obtain ⟨rfl, rfl⟩ := p_105
                first | refine g_ifN_eq (tgt := 115) dX3_member_108 (by decide) (by first | omega | exact hB _ _ | (split <;> omega)) (fun c_108 => ?_) (fun c_108 => ?_) | refine g_if_eq (tgt := 115) dX3_member_108 (by decide) (fun c_108 => ?_) (fun c_108 => ?_)
                · refine g_iconst (nI 0) dX3_member_115 (by decide) ?_
                  first | refine g_iaddN dX3_member_116 ?_ | refine g_iadd dX3_member_116 ?_
                  refine g_istore3 dX3_member_117 (by decide) ?_
                  first | refine g_iincN5 1 dX3_member_118 (by decide) (by decide) ?_ | refine g_iinc5 _ dX3_member_118 rfl (by decide) ?_
                  refine g_goto (tgt := 73) dX3_member_121 (by decide) ?_
                  first | rw [show 3 * s + (i + 1) = (3 * s + i) + 1 by omega, show mbA (M 1) m w (3 * s + i + 1) = mbA (M 1) m w (3 * s + i) + 1 from by rw [mbA, show (3 * s + i) / 3 = s by omega, show (3 * s + i) % 3 = i by omega, if_pos (by omega)]] at ih2 | rw [show 3 * s + (i + 1) = (3 * s + i) + 1 by omega, show mbA (M 1) m w (3 * s + i + 1) = mbA (M 1) m w (3 * s + i) + 0 from by rw [mbA, show (3 * s + i) / 3 = s by omega, show (3 * s + i) % 3 = i by omega, if_neg (by omega)]] at ih2
                  exact ih2
                · refine g_iconst (nI 1) dX3_member_111 (by decide) ?_
                  refine g_goto (tgt := 116) dX3_member_112 (by decide) ?_
                  first | refine g_iaddN dX3_member_116 ?_ | refine g_iadd dX3_member_116 ?_
                  refine g_istore3 dX3_member_117 (by decide) ?_
                  first | refine g_iincN5 1 dX3_member_118 (by decide) (by decide) ?_ | refine g_iinc5 _ dX3_member_118 rfl (by decide) ?_
                  refine g_goto (tgt := 73) dX3_member_121 (by decide) ?_
                  first | rw [show 3 * s + (i + 1) = (3 * s + i) + 1 by omega, show mbA (M 1) m w (3 * s + i + 1) = mbA (M 1) m w (3 * s + i) + 1 from by rw [mbA, show (3 * s + i) / 3 = s by omega, show (3 * s + i) % 3 = i by omega, if_pos (by omega)]] at ih2 | rw [show 3 * s + (i + 1) = (3 * s + i) + 1 by omega, show mbA (M 1) m w (3 * s + i + 1) = mbA (M 1) m w (3 * s + i) + 0 from by rw [mbA, show (3 * s + i) / 3 = s by omega, show (3 * s + i) % 3 = i by omega, if_neg (by omega)]] at ih2
                  exact ih2
      refine g_iload4 dX3_member_60 ?_
      refine g_iconst (nI 4) dX3_member_62 (by decide) ?_
      first | refine g_icmpN_ge (tgt := 130) dX3_member_63 (by decide) (by first | omega | exact hB _ _ | (split <;> omega)) (by first | omega | exact hB _ _ | (split <;> omega)) (fun c_63 => ?_) (fun c_63 => ?_) | refine g_icmp_ge (tgt := 130) dX3_member_63 (by decide) (fun c_63 => ?_) (fun c_63 => ?_)
      · omega
      · refine g_iconst (nI 3) dX3_member_66 (by decide) ?_
        refine g_iload1 dX3_member_67 ?_
        first | refine g_imulN dX3_member_68 ?_ | refine g_imul dX3_member_68 ?_
        refine g_iconst (nI 1) dX3_member_69 (by decide) ?_
        first | refine g_iaddN dX3_member_70 ?_ | refine g_iadd dX3_member_70 ?_
        refine g_istore5 dX3_member_71 (by decide) ?_
        exact L2 0 (by omega) (by omega)
  refine g_iload1 dX3_member_0 ?_
  refine g_S1n0 (ctX3_isMember _ (by omega)) kX3_isMember q2190 (by decide) ⟨rfl, rfl⟩ ⟨Nat.zero_le _, Nat.zero_le _⟩ (Nat.le_of_ble_eq_true rfl) dX3_member_1 (fun r_1 h_1 p_1 => ?_)
  obtain ⟨hr_1, hi_1, rfl⟩ := p_1
  first | refine g_ifN_ne (tgt := 13) dX3_member_4 (by decide) (by first | omega | exact hB _ _ | (split <;> omega)) (fun c_4 => ?_) (fun c_4 => ?_) | refine g_if_ne (tgt := 13) dX3_member_4 (by decide) (fun c_4 => ?_) (fun c_4 => ?_)
  · refine g_iload2 dX3_member_13 ?_
    refine g_iconst (nI 0) dX3_member_14 (by decide) ?_
    refine g_iconst (nI 3) dX3_member_15 (by decide) ?_
    refine g_S3n0 (ctX3_in _ _ _ (by omega) (by omega) (by omega)) kX3_in q2193 (by decide) ⟨rfl, rfl⟩ ⟨Nat.zero_le _, Nat.zero_le _⟩ (Nat.le_of_ble_eq_true rfl) dX3_member_16 (fun r_16 h_16 p_16 => ?_)
    obtain ⟨hr_16, hi_16, rfl⟩ := p_16
    first | refine g_ifN_ne (tgt := 28) dX3_member_19 (by decide) (by first | omega | exact hB _ _ | (split <;> omega)) (fun c_19 => ?_) (fun c_19 => ?_) | refine g_if_ne (tgt := 28) dX3_member_19 (by decide) (fun c_19 => ?_) (fun c_19 => ?_)
    · refine g_iload2 dX3_member_28 ?_
      refine g_iconst (nI 2) dX3_member_29 (by decide) ?_
      first | refine g_icmpN_ge (tgt := 55) dX3_member_30 (by decide) (by first | omega | exact hB _ _ | (split <;> omega)) (by first | omega | exact hB _ _ | (split <;> omega)) (fun c_30 => ?_) (fun c_30 => ?_) | refine g_icmp_ge (tgt := 55) dX3_member_30 (by decide) (fun c_30 => ?_) (fun c_30 => ?_)
      · refine g_iconst (nI 0) dX3_member_55 (by decide) ?_
        refine g_istore3 dX3_member_56 (by decide) ?_
        refine g_iconst (nI 0) dX3_member_57 (by decide) ?_
        refine g_istore4 dX3_member_58 (by decide) ?_
        exact L 0 (by omega) (by omega) (by omega) (by omega) (by omega) _
      · first | refine g_aload0 dX3_member_33 ?_ | refine g_aloadQ0 dX3_member_33 ?_ | refine g_aloadN0 dX3_member_33 ?_
        first | refine g_aload0 dX3_member_34 ?_ | refine g_aloadQ0 dX3_member_34 ?_ | refine g_aloadN0 dX3_member_34 ?_
        refine t_get1 hA q2099 dX3_member_35 ?_
        refine g_iload2 dX3_member_38 ?_
        first | refine g_ifN_ne (tgt := 46) dX3_member_39 (by decide) (by first | omega | exact hB _ _ | (split <;> omega)) (fun c_39 => ?_) (fun c_39 => ?_) | refine g_if_ne (tgt := 46) dX3_member_39 (by decide) (fun c_39 => ?_) (fun c_39 => ?_)
        · refine g_bipush (nI 9) dX3_member_46 (by decide) ?_
          refine g_iload1 dX3_member_48 ?_
          first | refine g_iaddN dX3_member_49 ?_ | refine g_iadd dX3_member_49 ?_
          refine t_ald1 hA (by first | omega | exact hB _ _ | (split <;> omega)) dX3_member_50 ?_
          refine g_V1n0 (ctX3_done hA _ _) kX3_done q2173 tw_0 rfl rfl (by decide) ⟨rfl, rfl⟩ ⟨Nat.zero_le _, Nat.zero_le _⟩ (Nat.le_of_ble_eq_true rfl) dX3_member_51 (fun r_51 h_51 p_51 => ?_)
          obtain ⟨rfl, rfl⟩ := p_51
          exact g_iret dX3_member_54 rfl ⟨_, rfl, (by first | exact t_fails (by unfold xc_member; (repeat' split) <;> omega) (by omega) (by unfold xm_member; exact tSame.rf) | exact t_done (by unfold xc_member; (repeat' split) <;> omega) (by unfold xv_member; first | rw [if_pos (by omega)] | (rw [if_neg (by omega), if_pos (by omega)])) (by unfold xm_member; exact tSame.rf))⟩
        · refine g_iconst (nI 1) dX3_member_42 (by decide) ?_
          refine g_goto (tgt := 48) dX3_member_43 (by decide) ?_
          refine g_iload1 dX3_member_48 ?_
          first | refine g_iaddN dX3_member_49 ?_ | refine g_iadd dX3_member_49 ?_
          refine t_ald1 hA (by first | omega | exact hB _ _ | (split <;> omega)) dX3_member_50 ?_
          refine g_V1n0 (ctX3_done hA _ _) kX3_done q2173 tw_0 rfl rfl (by decide) ⟨rfl, rfl⟩ ⟨Nat.zero_le _, Nat.zero_le _⟩ (Nat.le_of_ble_eq_true rfl) dX3_member_51 (fun r_51 h_51 p_51 => ?_)
          obtain ⟨rfl, rfl⟩ := p_51
          exact g_iret dX3_member_54 rfl ⟨_, rfl, (by first | exact t_fails (by unfold xc_member; (repeat' split) <;> omega) (by omega) (by unfold xm_member; exact tSame.rf) | exact t_done (by unfold xc_member; (repeat' split) <;> omega) (by unfold xv_member; first | rw [if_pos (by omega)] | (rw [if_neg (by omega), if_pos (by omega)])) (by unfold xm_member; exact tSame.rf))⟩
    · first | refine g_aload0 dX3_member_22 ?_ | refine g_aloadQ0 dX3_member_22 ?_ | refine g_aloadN0 dX3_member_22 ?_
      refine g_iconst (nI 2) dX3_member_23 (by decide) ?_
      refine g_V1n0 (ctX3_fails hA _ _) kX3_fails q2196 tw_0 rfl rfl (by decide) ⟨rfl, rfl⟩ ⟨Nat.zero_le _, Nat.zero_le _⟩ (Nat.le_of_ble_eq_true rfl) dX3_member_24 (fun r_24 h_24 p_24 => ?_)
      obtain ⟨rfl, rfl⟩ := p_24
      exact g_iret dX3_member_27 rfl ⟨_, rfl, (by first | exact t_fails (by unfold xc_member; (repeat' split) <;> omega) (by omega) (by unfold xm_member; exact tSame.rf) | exact t_done (by unfold xc_member; (repeat' split) <;> omega) (by unfold xv_member; first | rw [if_pos (by omega)] | (rw [if_neg (by omega), if_pos (by omega)])) (by unfold xm_member; exact tSame.rf))⟩
  · first | refine g_aload0 dX3_member_7 ?_ | refine g_aloadQ0 dX3_member_7 ?_ | refine g_aloadN0 dX3_member_7 ?_
    refine g_iconst (nI 1) dX3_member_8 (by decide) ?_
    refine g_V1n0 (ctX3_fails hA _ _) kX3_fails q2196 tw_0 rfl rfl (by decide) ⟨rfl, rfl⟩ ⟨Nat.zero_le _, Nat.zero_le _⟩ (Nat.le_of_ble_eq_true rfl) dX3_member_9 (fun r_9 h_9 p_9 => ?_)
    obtain ⟨rfl, rfl⟩ := p_9
    exact g_iret dX3_member_12 rfl ⟨_, rfl, (by first | exact t_fails (by unfold xc_member; (repeat' split) <;> omega) (by omega) (by unfold xm_member; exact tSame.rf) | exact t_done (by unfold xc_member; (repeat' split) <;> omega) (by unfold xv_member; first | rw [if_pos (by omega)] | (rw [if_neg (by omega), if_pos (by omega)])) (by unfold xm_member; exact tSame.rf))⟩
abbrev mX3_share : GM := (yX3_share, 4, (some .int), [], { frames := 3, cells := 0, slots := 0, locals := 70 }, 255)
theorem kX3_share : gCv cX3_share mX3_share 3 := ⟨q2383, q2384, q90, q2385, ⟨by decide +kernel, by decide +kernel, by decide +kernel⟩, rfl⟩
def xc_share (M : TW) (s p w : Nat) : Nat := if ¬ s ≤ 3 ∨ ¬ (1 ≤ p ∧ p ≤ 24) then 1 else if ¬ w ≤ 2 then 2 else if ¬ gSh (M 1) s p 0 = 1 then 3 else 0
def xv_share (M : TW) (s p w : Nat) : Nat := if w = 2 then stF (M 1) s p else gSh (M 1) s p (1 + w)
def xm_share (M : TW) (s p w : Nat) : TW := M
set_option maxHeartbeats 400000 in
theorem ctX3_share {E : GE} {h : AH} {A : Nat → Nat} (hA : twA A) (M : TW) (s p w : Nat) (hW : tWF M) (hs : s < 4294967296) (hp : p < 4294967296) (hw : w < 4294967296) : Ct E cX3_share mX3_share [.ref (A 0), .int (nI s), .int (nI p), .int (nI w)] (twO E A M h) (pN fun r h' => tEnd E A h (xc_share M s p w ) (xv_share M s p w ) (xm_share M s p w ) r h') noX := by
  refine g_enter (own := "SecretVaultModel") [some (.ref (A 0)), some (.int (nI s)), some (.int (nI p)), some (.int (nI w))] (by decide +kernel) rfl rfl (Nat.le_of_ble_eq_true rfl) rfl rfl (fun X => ?_)
  have hB := hW.1
  refine g_iload1 dX3_share_0 ?_
  refine g_S1n0 (ctX3_isSlot _ (by omega)) kX3_isSlot q2235 (by decide) ⟨rfl, rfl⟩ ⟨Nat.zero_le _, Nat.zero_le _⟩ (Nat.le_of_ble_eq_true rfl) dX3_share_1 (fun r_1 h_1 p_1 => ?_)
  obtain ⟨hr_1, hi_1, rfl⟩ := p_1
  first | refine g_ifN_eq (tgt := 14) dX3_share_4 (by decide) (by first | omega | exact hB _ _ | (split <;> omega)) (fun c_4 => ?_) (fun c_4 => ?_) | refine g_if_eq (tgt := 14) dX3_share_4 (by decide) (fun c_4 => ?_) (fun c_4 => ?_)
  · first | refine g_aload0 dX3_share_14 ?_ | refine g_aloadQ0 dX3_share_14 ?_ | refine g_aloadN0 dX3_share_14 ?_
    refine g_iconst (nI 1) dX3_share_15 (by decide) ?_
    refine g_V1n0 (ctX3_fails hA _ _) kX3_fails q2196 tw_0 rfl rfl (by decide) ⟨rfl, rfl⟩ ⟨Nat.zero_le _, Nat.zero_le _⟩ (Nat.le_of_ble_eq_true rfl) dX3_share_16 (fun r_16 h_16 p_16 => ?_)
    obtain ⟨rfl, rfl⟩ := p_16
    exact g_iret dX3_share_19 rfl ⟨_, rfl, (by first | exact t_fails (by unfold xc_share; (repeat' split) <;> omega) (by omega) (by unfold xm_share; exact tSame.rf) | exact t_done (by unfold xc_share; (repeat' split) <;> omega) (by unfold xv_share; first | rw [if_pos (by omega)] | rw [if_neg (by omega)]) (by unfold xm_share; exact tSame.rf))⟩
  · refine g_iload2 dX3_share_7 ?_
    refine g_S1n0 (ctX3_isPlace _ (by omega)) kX3_isPlace q2386 (by decide) ⟨rfl, rfl⟩ ⟨Nat.zero_le _, Nat.zero_le _⟩ (Nat.le_of_ble_eq_true rfl) dX3_share_8 (fun r_8 h_8 p_8 => ?_)
    obtain ⟨hr_8, hi_8, rfl⟩ := p_8
    first | refine g_ifN_ne (tgt := 20) dX3_share_11 (by decide) (by first | omega | exact hB _ _ | (split <;> omega)) (fun c_11 => ?_) (fun c_11 => ?_) | refine g_if_ne (tgt := 20) dX3_share_11 (by decide) (fun c_11 => ?_) (fun c_11 => ?_)
    · refine g_iload3 dX3_share_20 ?_
      refine g_iconst (nI 0) dX3_share_21 (by decide) ?_
      refine g_iconst (nI 2) dX3_share_22 (by decide) ?_
      refine g_S3n0 (ctX3_in _ _ _ (by omega) (by omega) (by omega)) kX3_in q2193 (by decide) ⟨rfl, rfl⟩ ⟨Nat.zero_le _, Nat.zero_le _⟩ (Nat.le_of_ble_eq_true rfl) dX3_share_23 (fun r_23 h_23 p_23 => ?_)
      obtain ⟨hr_23, hi_23, rfl⟩ := p_23
      first | refine g_ifN_ne (tgt := 35) dX3_share_26 (by decide) (by first | omega | exact hB _ _ | (split <;> omega)) (fun c_26 => ?_) (fun c_26 => ?_) | refine g_if_ne (tgt := 35) dX3_share_26 (by decide) (fun c_26 => ?_) (fun c_26 => ?_)
      · first | refine g_aload0 dX3_share_35 ?_ | refine g_aloadQ0 dX3_share_35 ?_ | refine g_aloadN0 dX3_share_35 ?_
        refine g_iload1 dX3_share_36 ?_
        refine g_iload2 dX3_share_37 ?_
        refine g_V2n0 (ctX3_hasShare hA _ _ _ hB (by omega) (by omega)) kX3_hasShare q2212 tw_0 rfl rfl (by decide) ⟨rfl, rfl⟩ ⟨Nat.zero_le _, Nat.zero_le _⟩ (Nat.le_of_ble_eq_true rfl) dX3_share_38 (fun r_38 h_38 p_38 => ?_)
        obtain ⟨hr_38, hi_38, rfl⟩ := p_38
        first | refine g_ifN_ne (tgt := 50) dX3_share_41 (by decide) (by first | omega | exact hB _ _ | (split <;> omega)) (fun c_41 => ?_) (fun c_41 => ?_) | refine g_if_ne (tgt := 50) dX3_share_41 (by decide) (fun c_41 => ?_) (fun c_41 => ?_)
        · have hsl := hW.2.2.2.2 s (by omega)
          first | refine g_aload0 dX3_share_50 ?_ | refine g_aloadQ0 dX3_share_50 ?_ | refine g_aloadN0 dX3_share_50 ?_
          refine g_iload3 dX3_share_51 ?_
          refine g_iconst (nI 2) dX3_share_52 (by decide) ?_
          first | refine g_icmpN_ne (tgt := 65) dX3_share_53 (by decide) (by first | omega | exact hB _ _ | (split <;> omega)) (by first | omega | exact hB _ _ | (split <;> omega)) (fun c_53 => ?_) (fun c_53 => ?_) | refine g_icmpU_ne (tgt := 65) dX3_share_53 (by decide) (by first | omega | exact hB _ _ | (split <;> omega)) (by first | omega | exact hB _ _ | (split <;> omega)) (fun c_53 => ?_) (fun c_53 => ?_) | refine g_icmp_ne (tgt := 65) dX3_share_53 (by decide) (fun c_53 => ?_) (fun c_53 => ?_)
          · first | refine g_aload0 dX3_share_65 ?_ | refine g_aloadQ0 dX3_share_65 ?_ | refine g_aloadN0 dX3_share_65 ?_
            refine g_iload1 dX3_share_66 ?_
            refine g_iload2 dX3_share_67 ?_
            refine g_iconst (nI 1) dX3_share_68 (by decide) ?_
            refine g_iload3 dX3_share_69 ?_
            first | refine g_iaddN dX3_share_70 ?_ | refine g_iadd dX3_share_70 ?_
            refine g_V3n0 (ctX3_shareOf hA _ _ _ _ (by omega) (by omega) (by omega)) kX3_shareOf q2216 tw_0 rfl rfl (by decide) ⟨rfl, rfl⟩ ⟨Nat.zero_le _, Nat.zero_le _⟩ (Nat.le_of_ble_eq_true rfl) dX3_share_71 (fun r_71 h_71 p_71 => ?_)
            obtain ⟨rfl, rfl⟩ := p_71
            refine g_V1n0 (ctX3_done hA _ _) kX3_done q2173 tw_0 rfl rfl (by decide) ⟨rfl, rfl⟩ ⟨Nat.zero_le _, Nat.zero_le _⟩ (Nat.le_of_ble_eq_true rfl) dX3_share_74 (fun r_74 h_74 p_74 => ?_)
            obtain ⟨rfl, rfl⟩ := p_74
            exact g_iret dX3_share_77 rfl ⟨_, rfl, (by first | exact t_fails (by unfold xc_share; (repeat' split) <;> omega) (by omega) (by unfold xm_share; exact tSame.rf) | exact t_done (by unfold xc_share; (repeat' split) <;> omega) (by unfold xv_share; first | rw [if_pos (by omega)] | rw [if_neg (by omega)]) (by unfold xm_share; exact tSame.rf))⟩
          · first | refine g_aload0 dX3_share_56 ?_ | refine g_aloadQ0 dX3_share_56 ?_ | refine g_aloadN0 dX3_share_56 ?_
            refine g_iload1 dX3_share_57 ?_
            refine g_iload2 dX3_share_58 ?_
            refine g_V2n0 (ctX3_stateOf hA _ _ _ hB (by omega) (by omega) hsl.P) kX3_stateOf q2224 tw_0 rfl rfl (by decide) ⟨rfl, rfl⟩ ⟨Nat.zero_le _, Nat.zero_le _⟩ (Nat.le_of_ble_eq_true rfl) dX3_share_59 (fun r_59 h_59 p_59 => ?_)
            obtain ⟨rfl, rfl⟩ := p_59
            refine g_goto (tgt := 74) dX3_share_62 (by decide) ?_
            refine g_V1n0 (ctX3_done hA _ _) kX3_done q2173 tw_0 rfl rfl (by decide) ⟨rfl, rfl⟩ ⟨Nat.zero_le _, Nat.zero_le _⟩ (Nat.le_of_ble_eq_true rfl) dX3_share_74 (fun r_74 h_74 p_74 => ?_)
            obtain ⟨rfl, rfl⟩ := p_74
            exact g_iret dX3_share_77 rfl ⟨_, rfl, (by first | exact t_fails (by unfold xc_share; (repeat' split) <;> omega) (by omega) (by unfold xm_share; exact tSame.rf) | exact t_done (by unfold xc_share; (repeat' split) <;> omega) (by unfold xv_share; first | rw [if_pos (by omega)] | rw [if_neg (by omega)]) (by unfold xm_share; exact tSame.rf))⟩
        · first | refine g_aload0 dX3_share_44 ?_ | refine g_aloadQ0 dX3_share_44 ?_ | refine g_aloadN0 dX3_share_44 ?_
          refine g_iconst (nI 3) dX3_share_45 (by decide) ?_
          refine g_V1n0 (ctX3_fails hA _ _) kX3_fails q2196 tw_0 rfl rfl (by decide) ⟨rfl, rfl⟩ ⟨Nat.zero_le _, Nat.zero_le _⟩ (Nat.le_of_ble_eq_true rfl) dX3_share_46 (fun r_46 h_46 p_46 => ?_)
          obtain ⟨rfl, rfl⟩ := p_46
          exact g_iret dX3_share_49 rfl ⟨_, rfl, (by first | exact t_fails (by unfold xc_share; (repeat' split) <;> omega) (by omega) (by unfold xm_share; exact tSame.rf) | exact t_done (by unfold xc_share; (repeat' split) <;> omega) (by unfold xv_share; first | rw [if_pos (by omega)] | rw [if_neg (by omega)]) (by unfold xm_share; exact tSame.rf))⟩
      · first | refine g_aload0 dX3_share_29 ?_ | refine g_aloadQ0 dX3_share_29 ?_ | refine g_aloadN0 dX3_share_29 ?_
        refine g_iconst (nI 2) dX3_share_30 (by decide) ?_
        refine g_V1n0 (ctX3_fails hA _ _) kX3_fails q2196 tw_0 rfl rfl (by decide) ⟨rfl, rfl⟩ ⟨Nat.zero_le _, Nat.zero_le _⟩ (Nat.le_of_ble_eq_true rfl) dX3_share_31 (fun r_31 h_31 p_31 => ?_)
        obtain ⟨rfl, rfl⟩ := p_31
        exact g_iret dX3_share_34 rfl ⟨_, rfl, (by first | exact t_fails (by unfold xc_share; (repeat' split) <;> omega) (by omega) (by unfold xm_share; exact tSame.rf) | exact t_done (by unfold xc_share; (repeat' split) <;> omega) (by unfold xv_share; first | rw [if_pos (by omega)] | rw [if_neg (by omega)]) (by unfold xm_share; exact tSame.rf))⟩
    · first | refine g_aload0 dX3_share_14 ?_ | refine g_aloadQ0 dX3_share_14 ?_ | refine g_aloadN0 dX3_share_14 ?_
      refine g_iconst (nI 1) dX3_share_15 (by decide) ?_
      refine g_V1n0 (ctX3_fails hA _ _) kX3_fails q2196 tw_0 rfl rfl (by decide) ⟨rfl, rfl⟩ ⟨Nat.zero_le _, Nat.zero_le _⟩ (Nat.le_of_ble_eq_true rfl) dX3_share_16 (fun r_16 h_16 p_16 => ?_)
      obtain ⟨rfl, rfl⟩ := p_16
      exact g_iret dX3_share_19 rfl ⟨_, rfl, (by first | exact t_fails (by unfold xc_share; (repeat' split) <;> omega) (by omega) (by unfold xm_share; exact tSame.rf) | exact t_done (by unfold xc_share; (repeat' split) <;> omega) (by unfold xv_share; first | rw [if_pos (by omega)] | rw [if_neg (by omega)]) (by unfold xm_share; exact tSame.rf))⟩
abbrev mX3_setShare : GM := (yX3_setShare, 5, (some .int), [], { frames := 3, cells := 0, slots := 0, locals := 67 }, 255)
theorem kX3_setShare : gCv cX3_setShare mX3_setShare 3 := ⟨q2390, q2391, q90, q2392, ⟨by decide +kernel, by decide +kernel, by decide +kernel⟩, rfl⟩
def xc_setShare (M : TW) (s p v : Nat) : Nat := if ¬ s ≤ 3 ∨ ¬ (1 ≤ p ∧ p ≤ 24) then 1 else if ¬ v ≤ 1018 then 2 else if ¬ gSh (M 1) s p 0 = 1 then 3 else 0
def xv_setShare (M : TW) (s p v : Nat) : Nat := gSh (M 1) s p 1
def xm_setShare (M : TW) (s p v : Nat) : TW := if s ≤ 3 ∧ 1 ≤ p ∧ p ≤ 24 ∧ v ≤ 1018 ∧ gSh (M 1) s p 0 = 1 then tShare M s p v (gSh (M 1) s p 2) else M
set_option maxHeartbeats 400000 in
theorem ctX3_setShare {E : GE} {h : AH} {A : Nat → Nat} (hA : twA A) (M : TW) (s p v : Nat) (hW : tWF M) (hs : s < 4294967296) (hp : p < 4294967296) (hv : v < 4294967296) : Ct E cX3_setShare mX3_setShare [.ref (A 0), .int (nI s), .int (nI p), .int (nI v)] (twO E A M h) (pN fun r h' => tEnd E A h (xc_setShare M s p v ) (xv_setShare M s p v ) (xm_setShare M s p v ) r h') noX := by
  refine g_enter (own := "SecretVaultModel") [some (.ref (A 0)), some (.int (nI s)), some (.int (nI p)), some (.int (nI v)), none] (by decide +kernel) rfl rfl (Nat.le_of_ble_eq_true rfl) rfl rfl (fun X => ?_)
  have hB := hW.1
  refine g_iload1 dX3_setShare_0 ?_
  refine g_S1n0 (ctX3_isSlot _ (by omega)) kX3_isSlot q2235 (by decide) ⟨rfl, rfl⟩ ⟨Nat.zero_le _, Nat.zero_le _⟩ (Nat.le_of_ble_eq_true rfl) dX3_setShare_1 (fun r_1 h_1 p_1 => ?_)
  obtain ⟨hr_1, hi_1, rfl⟩ := p_1
  first | refine g_ifN_eq (tgt := 14) dX3_setShare_4 (by decide) (by first | omega | exact hB _ _ | (split <;> omega)) (fun c_4 => ?_) (fun c_4 => ?_) | refine g_if_eq (tgt := 14) dX3_setShare_4 (by decide) (fun c_4 => ?_) (fun c_4 => ?_)
  · first | refine g_aload0 dX3_setShare_14 ?_ | refine g_aloadQ0 dX3_setShare_14 ?_ | refine g_aloadN0 dX3_setShare_14 ?_
    refine g_iconst (nI 1) dX3_setShare_15 (by decide) ?_
    refine g_V1n0 (ctX3_fails hA _ _) kX3_fails q2196 tw_0 rfl rfl (by decide) ⟨rfl, rfl⟩ ⟨Nat.zero_le _, Nat.zero_le _⟩ (Nat.le_of_ble_eq_true rfl) dX3_setShare_16 (fun r_16 h_16 p_16 => ?_)
    obtain ⟨rfl, rfl⟩ := p_16
    exact g_iret dX3_setShare_19 rfl ⟨_, rfl, (by first | exact t_fails (by unfold xc_setShare; (repeat' split) <;> omega) (by omega) (by unfold xm_setShare; rw [if_neg (by omega)]; exact tSame.rf) | exact t_done (by unfold xc_setShare; (repeat' split) <;> omega) (by unfold xv_setShare; rfl) (by unfold xm_setShare; rw [if_pos (by omega)]; exact tSame.rf))⟩
  · refine g_iload2 dX3_setShare_7 ?_
    refine g_S1n0 (ctX3_isPlace _ (by omega)) kX3_isPlace q2386 (by decide) ⟨rfl, rfl⟩ ⟨Nat.zero_le _, Nat.zero_le _⟩ (Nat.le_of_ble_eq_true rfl) dX3_setShare_8 (fun r_8 h_8 p_8 => ?_)
    obtain ⟨hr_8, hi_8, rfl⟩ := p_8
    first | refine g_ifN_ne (tgt := 20) dX3_setShare_11 (by decide) (by first | omega | exact hB _ _ | (split <;> omega)) (fun c_11 => ?_) (fun c_11 => ?_) | refine g_if_ne (tgt := 20) dX3_setShare_11 (by decide) (fun c_11 => ?_) (fun c_11 => ?_)
    · refine g_iload3 dX3_setShare_20 ?_
      refine g_iconst (nI 0) dX3_setShare_21 (by decide) ?_
      refine g_sipush (nI 1018) dX3_setShare_22 (by decide) ?_
      refine g_S3n0 (ctX3_in _ _ _ (by omega) (by omega) (by omega)) kX3_in q2193 (by decide) ⟨rfl, rfl⟩ ⟨Nat.zero_le _, Nat.zero_le _⟩ (Nat.le_of_ble_eq_true rfl) dX3_setShare_25 (fun r_25 h_25 p_25 => ?_)
      obtain ⟨hr_25, hi_25, rfl⟩ := p_25
      first | refine g_ifN_ne (tgt := 37) dX3_setShare_28 (by decide) (by first | omega | exact hB _ _ | (split <;> omega)) (fun c_28 => ?_) (fun c_28 => ?_) | refine g_if_ne (tgt := 37) dX3_setShare_28 (by decide) (fun c_28 => ?_) (fun c_28 => ?_)
      · first | refine g_aload0 dX3_setShare_37 ?_ | refine g_aloadQ0 dX3_setShare_37 ?_ | refine g_aloadN0 dX3_setShare_37 ?_
        refine g_iload1 dX3_setShare_38 ?_
        refine g_iload2 dX3_setShare_39 ?_
        refine g_V2n0 (ctX3_hasShare hA _ _ _ hB (by omega) (by omega)) kX3_hasShare q2212 tw_0 rfl rfl (by decide) ⟨rfl, rfl⟩ ⟨Nat.zero_le _, Nat.zero_le _⟩ (Nat.le_of_ble_eq_true rfl) dX3_setShare_40 (fun r_40 h_40 p_40 => ?_)
        obtain ⟨hr_40, hi_40, rfl⟩ := p_40
        first | refine g_ifN_ne (tgt := 52) dX3_setShare_43 (by decide) (by first | omega | exact hB _ _ | (split <;> omega)) (fun c_43 => ?_) (fun c_43 => ?_) | refine g_if_ne (tgt := 52) dX3_setShare_43 (by decide) (fun c_43 => ?_) (fun c_43 => ?_)
        · first | refine g_aload0 dX3_setShare_52 ?_ | refine g_aloadQ0 dX3_setShare_52 ?_ | refine g_aloadN0 dX3_setShare_52 ?_
          refine g_iload1 dX3_setShare_53 ?_
          refine g_iload2 dX3_setShare_54 ?_
          refine g_iconst (nI 1) dX3_setShare_55 (by decide) ?_
          refine g_V3n0 (ctX3_shareOf hA _ _ _ _ (by omega) (by omega) (by omega)) kX3_shareOf q2216 tw_0 rfl rfl (by decide) ⟨rfl, rfl⟩ ⟨Nat.zero_le _, Nat.zero_le _⟩ (Nat.le_of_ble_eq_true rfl) dX3_setShare_56 (fun r_56 h_56 p_56 => ?_)
          obtain ⟨rfl, rfl⟩ := p_56
          refine g_istore4 dX3_setShare_59 (by decide) ?_
          first | refine g_aload0 dX3_setShare_61 ?_ | refine g_aloadQ0 dX3_setShare_61 ?_ | refine g_aloadN0 dX3_setShare_61 ?_
          refine g_iload1 dX3_setShare_62 ?_
          refine g_iload2 dX3_setShare_63 ?_
          refine g_iload3 dX3_setShare_64 ?_
          first | refine g_aload0 dX3_setShare_65 ?_ | refine g_aloadQ0 dX3_setShare_65 ?_ | refine g_aloadN0 dX3_setShare_65 ?_
          refine g_iload1 dX3_setShare_66 ?_
          refine g_iload2 dX3_setShare_67 ?_
          refine g_iconst (nI 2) dX3_setShare_68 (by decide) ?_
          refine g_V3n0 (ctX3_shareOf hA _ _ _ _ (by omega) (by omega) (by omega)) kX3_shareOf q2216 tw_0 rfl rfl (by decide) ⟨rfl, rfl⟩ ⟨Nat.zero_le _, Nat.zero_le _⟩ (Nat.le_of_ble_eq_true rfl) dX3_setShare_69 (fun r_69 h_69 p_69 => ?_)
          obtain ⟨rfl, rfl⟩ := p_69
          refine g_V4v0 (ctX3_setsShare hA _ _ _ _ _ (by omega) (by omega)) kX3_setsShare q2265 tw_0 rfl rfl (by decide) ⟨rfl, rfl⟩ ⟨Nat.zero_le _, Nat.zero_le _⟩ (Nat.le_of_ble_eq_true rfl) dX3_setShare_72 (fun h_72 p_72 => ?_)
          subst p_72
          first | refine g_aload0 dX3_setShare_75 ?_ | refine g_aloadQ0 dX3_setShare_75 ?_ | refine g_aloadN0 dX3_setShare_75 ?_
          refine g_iload4 dX3_setShare_76 ?_
          refine g_V1n0 (ctX3_done hA _ _) kX3_done q2173 tw_0 rfl rfl (by decide) ⟨rfl, rfl⟩ ⟨Nat.zero_le _, Nat.zero_le _⟩ (Nat.le_of_ble_eq_true rfl) dX3_setShare_78 (fun r_78 h_78 p_78 => ?_)
          obtain ⟨rfl, rfl⟩ := p_78
          exact g_iret dX3_setShare_81 rfl ⟨_, rfl, (by first | exact t_fails (by unfold xc_setShare; (repeat' split) <;> omega) (by omega) (by unfold xm_setShare; rw [if_neg (by omega)]; exact tSame.rf) | exact t_done (by unfold xc_setShare; (repeat' split) <;> omega) (by unfold xv_setShare; rfl) (by unfold xm_setShare; rw [if_pos (by omega)]; exact tSame.rf))⟩
        · first | refine g_aload0 dX3_setShare_46 ?_ | refine g_aloadQ0 dX3_setShare_46 ?_ | refine g_aloadN0 dX3_setShare_46 ?_
          refine g_iconst (nI 3) dX3_setShare_47 (by decide) ?_
          refine g_V1n0 (ctX3_fails hA _ _) kX3_fails q2196 tw_0 rfl rfl (by decide) ⟨rfl, rfl⟩ ⟨Nat.zero_le _, Nat.zero_le _⟩ (Nat.le_of_ble_eq_true rfl) dX3_setShare_48 (fun r_48 h_48 p_48 => ?_)
          obtain ⟨rfl, rfl⟩ := p_48
          exact g_iret dX3_setShare_51 rfl ⟨_, rfl, (by first | exact t_fails (by unfold xc_setShare; (repeat' split) <;> omega) (by omega) (by unfold xm_setShare; rw [if_neg (by omega)]; exact tSame.rf) | exact t_done (by unfold xc_setShare; (repeat' split) <;> omega) (by unfold xv_setShare; rfl) (by unfold xm_setShare; rw [if_pos (by omega)]; exact tSame.rf))⟩
      · first | refine g_aload0 dX3_setShare_31 ?_ | refine g_aloadQ0 dX3_setShare_31 ?_ | refine g_aloadN0 dX3_setShare_31 ?_
        refine g_iconst (nI 2) dX3_setShare_32 (by decide) ?_
        refine g_V1n0 (ctX3_fails hA _ _) kX3_fails q2196 tw_0 rfl rfl (by decide) ⟨rfl, rfl⟩ ⟨Nat.zero_le _, Nat.zero_le _⟩ (Nat.le_of_ble_eq_true rfl) dX3_setShare_33 (fun r_33 h_33 p_33 => ?_)
        obtain ⟨rfl, rfl⟩ := p_33
        exact g_iret dX3_setShare_36 rfl ⟨_, rfl, (by first | exact t_fails (by unfold xc_setShare; (repeat' split) <;> omega) (by omega) (by unfold xm_setShare; rw [if_neg (by omega)]; exact tSame.rf) | exact t_done (by unfold xc_setShare; (repeat' split) <;> omega) (by unfold xv_setShare; rfl) (by unfold xm_setShare; rw [if_pos (by omega)]; exact tSame.rf))⟩
    · first | refine g_aload0 dX3_setShare_14 ?_ | refine g_aloadQ0 dX3_setShare_14 ?_ | refine g_aloadN0 dX3_setShare_14 ?_
      refine g_iconst (nI 1) dX3_setShare_15 (by decide) ?_
      refine g_V1n0 (ctX3_fails hA _ _) kX3_fails q2196 tw_0 rfl rfl (by decide) ⟨rfl, rfl⟩ ⟨Nat.zero_le _, Nat.zero_le _⟩ (Nat.le_of_ble_eq_true rfl) dX3_setShare_16 (fun r_16 h_16 p_16 => ?_)
      obtain ⟨rfl, rfl⟩ := p_16
      exact g_iret dX3_setShare_19 rfl ⟨_, rfl, (by first | exact t_fails (by unfold xc_setShare; (repeat' split) <;> omega) (by omega) (by unfold xm_setShare; rw [if_neg (by omega)]; exact tSame.rf) | exact t_done (by unfold xc_setShare; (repeat' split) <;> omega) (by unfold xv_setShare; rfl) (by unfold xm_setShare; rw [if_pos (by omega)]; exact tSame.rf))⟩
