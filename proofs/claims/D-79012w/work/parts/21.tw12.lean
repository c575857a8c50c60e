/-! THE TWIN: policies are read -/
set_option maxRecDepth 100000
set_option maxHeartbeats 400000 in
theorem tail_X3_readsAll {E : GE} {A : Nat → Nat} (hA : twA A) (M : TW) (hT : tpW M) {h : AH} {X : GX} (N R P : Nat) (ih : ∀ (k a : Nat), k ≤ N → a ≤ M 0 15 → 4 * M 0 15 + 3 ≤ k + 4 * a + 2 → Ct E cX3_readsPart (mX3_readsPart N) [.ref (A 0)] (twO E A (tset M 0 17 (a)) h) (pN fun r h' => r = (prs (hrF (M 14) (M 0 15)) k 2 (a)).1 ∧ h' = twO E A (tset M 0 17 (prs (hrF (M 14) (M 0 15)) k 2 (a)).2.1) h) noX) : ∀ (k r p : Nat), k ≤ N → p ≤ M 0 15 → r ≤ 1 → 4 * M 0 15 + 3 ≤ k + 4 * (p + 1) + 1 → tl (hrF (M 14) (M 0 15)) k 1 r p = (R, P) → V E cX3_readsAll "SecretVaultModel" (mX3_readsAll (N + 1)) (pN fun r h' => r = R ∧ h' = twO E A (tset M 0 17 P) h) noX X (twO E A (tset M 0 17 p) h) 0 0 5 [some (.ref (A 0)), some (.int (nI (r)))] [] := by
  have hT1 := hT.1
  intro k
  induction k with
  | zero =>
    intro r p hk hp hr hf he
    have hz : ¬ (hrF (M 14) (M 0 15)) p = 38 := fun z => by have := (hrF_nz (t := M 14) (n := M 0 15) (x := p) (by omega)).1; omega
    have he2 : (if r = 1 ∧ (hrF (M 14) (M 0 15)) p = 38 then ((prs (hrF (M 14) (M 0 15)) 0 1 (p + 1)).1, (prs (hrF (M 14) (M 0 15)) 0 1 (p + 1)).2.1) else (r, p)) = (R, P) := he
    rw [if_neg (fun z => hz z.2)] at he2
    injection he2 with e1 e2
    refine g_iload1 dX3_readsAll_5 ?_
    first | refine g_ifN_eq (tgt := 26) dX3_readsAll_6 (by decide) (by omega) (fun c_6 => ?_) (fun c_6 => ?_) | refine g_if_eq (tgt := 26) dX3_readsAll_6 (by decide) (fun c_6 => ?_) (fun c_6 => ?_)
    · refine g_iload1 dX3_readsAll_26 ?_
      first | rw [show p + r_12 = p by omega] | skip
      exact g_zret (hk := Nat.zero_le _) (hn := Nat.zero_le _) dX3_readsAll_27 rfl (nar_zb (by omega)) ⟨_, rfl, e1, by rw [e2]⟩
    · first | refine g_aload0 dX3_readsAll_9 ?_ | refine g_aloadQ0 dX3_readsAll_9 ?_ | refine g_aloadN0 dX3_readsAll_9 ?_
      refine g_bipush (nI 38) dX3_readsAll_10 (by decide) ?_
      refine g_V1n0 (ctX3_eatsA hA _ _ _ hT (by omega) (by decide)) kX3_eats q2432 tw_0 rfl rfl ⟨by show 1 + 1 ≤ (N + 1) + 6; omega, by show 8 + (3 + 11) + (20) ≤ 60 * (N + 1) + 200; omega⟩ ⟨rfl, rfl⟩ ⟨Nat.zero_le _, Nat.zero_le _⟩ (Nat.le_of_ble_eq_true rfl) dX3_readsAll_12 (fun r_12 h_12 p_12 => ?_)
      obtain ⟨hr_12, hi_12, rfl⟩ := p_12
      first | refine g_ifN_eq (tgt := 26) dX3_readsAll_15 (by decide) (by omega) (fun c_15 => ?_) (fun c_15 => ?_) | refine g_if_eq (tgt := 26) dX3_readsAll_15 (by decide) (fun c_15 => ?_) (fun c_15 => ?_)
      · refine g_iload1 dX3_readsAll_26 ?_
        first | rw [show p + r_12 = p by omega] | skip
        exact g_zret (hk := Nat.zero_le _) (hn := Nat.zero_le _) dX3_readsAll_27 rfl (nar_zb (by omega)) ⟨_, rfl, e1, by rw [e2]⟩
      · omega
  | succ k ihk =>
    intro r p hk hp hr hf he
    have hz : (hrF (M 14) (M 0 15)) p = 38 → p < M 0 15 := fun z => (hrF_nz (t := M 14) (n := M 0 15) (x := p) (by omega)).1
    have he2 : (if r = 1 ∧ (hrF (M 14) (M 0 15)) p = 38 then ((prs (hrF (M 14) (M 0 15)) (k + 1) 1 (p + 1)).1, (prs (hrF (M 14) (M 0 15)) (k + 1) 1 (p + 1)).2.1) else (r, p)) = (R, P) := he
    have hA1 : ¬ (r = 1 ∧ (hrF (M 14) (M 0 15)) p = 38) → r = R ∧ p = P := fun z => by
      rw [if_neg z] at he2
      injection he2 with e1 e2
      exact ⟨e1, e2⟩
    have hA2 : r = 1 ∧ (hrF (M 14) (M 0 15)) p = 38 → tl (hrF (M 14) (M 0 15)) k 1 (prs (hrF (M 14) (M 0 15)) k 2 (p + 1)).1 (prs (hrF (M 14) (M 0 15)) k 2 (p + 1)).2.1 = (R, P) := fun z => by
      rw [if_pos z] at he2
      rw [← he2]
      exact (prs_tl (hrF (M 14) (M 0 15)) k 1 (p + 1) (by decide)).symm
    refine g_iload1 dX3_readsAll_5 ?_
    first | refine g_ifN_eq (tgt := 26) dX3_readsAll_6 (by decide) (by omega) (fun c_6 => ?_) (fun c_6 => ?_) | refine g_if_eq (tgt := 26) dX3_readsAll_6 (by decide) (fun c_6 => ?_) (fun c_6 => ?_)
    · refine g_iload1 dX3_readsAll_26 ?_
      have hA3 := hA1 (by omega)
      first | rw [show p + r_12 = p by omega] | skip
      exact g_zret (hk := Nat.zero_le _) (hn := Nat.zero_le _) dX3_readsAll_27 rfl (nar_zb (by omega)) ⟨_, rfl, hA3.1, by rw [hA3.2]⟩
    · first | refine g_aload0 dX3_readsAll_9 ?_ | refine g_aloadQ0 dX3_readsAll_9 ?_ | refine g_aloadN0 dX3_readsAll_9 ?_
      refine g_bipush (nI 38) dX3_readsAll_10 (by decide) ?_
      refine g_V1n0 (ctX3_eatsA hA _ _ _ hT (by omega) (by decide)) kX3_eats q2432 tw_0 rfl rfl ⟨by show 1 + 1 ≤ (N + 1) + 6; omega, by show 8 + (3 + 11) + (20) ≤ 60 * (N + 1) + 200; omega⟩ ⟨rfl, rfl⟩ ⟨Nat.zero_le _, Nat.zero_le _⟩ (Nat.le_of_ble_eq_true rfl) dX3_readsAll_12 (fun r_12 h_12 p_12 => ?_)
      obtain ⟨hr_12, hi_12, rfl⟩ := p_12
      first | refine g_ifN_eq (tgt := 26) dX3_readsAll_15 (by decide) (by omega) (fun c_15 => ?_) (fun c_15 => ?_) | refine g_if_eq (tgt := 26) dX3_readsAll_15 (by decide) (fun c_15 => ?_) (fun c_15 => ?_)
      · refine g_iload1 dX3_readsAll_26 ?_
        have hA3 := hA1 (by omega)
        first | rw [show p + r_12 = p by omega] | skip
        exact g_zret (hk := Nat.zero_le _) (hn := Nat.zero_le _) dX3_readsAll_27 rfl (nar_zb (by omega)) ⟨_, rfl, hA3.1, by rw [hA3.2]⟩
      · have hA3 := hA2 (by omega)
        obtain rfl : r_12 = 1 := by omega
        have hpn := hz (by omega)
        have hg := prs_ge (hrF (M 14) (M 0 15)) k 2 (p + 1)
        have hl := prs_le (t := M 14) (n := M 0 15) (k := k) (q := 2) (a := p + 1) (by omega)
        have h01 := prs_01 (hrF (M 14) (M 0 15)) k 2 (p + 1)
        first | refine g_aload0 dX3_readsAll_18 ?_ | refine g_aloadQ0 dX3_readsAll_18 ?_ | refine g_aloadN0 dX3_readsAll_18 ?_
        refine g_S1n0 (ih k _ (by omega) (by omega) (by omega)) (kX3_readsPart _) q2450 ⟨by show N + 6 + 1 ≤ (N + 1) + 6; omega, by show 8 + (2 + 11) + (60 * N + 200) ≤ 60 * (N + 1) + 200; omega⟩ ⟨rfl, rfl⟩ ⟨Nat.zero_le _, Nat.zero_le _⟩ (Nat.le_of_ble_eq_true rfl) dX3_readsAll_19 (fun r_19 h_19 p_19 => ?_)
        obtain ⟨hi_19, rfl⟩ := p_19
        refine g_istore1 dX3_readsAll_22 (show ¬ 1 = 255 + 1 by decide) ?_
        refine g_goto (tgt := 5) dX3_readsAll_23 (by decide) ?_
        rw [← hi_19] at hA3
        exact ihk _ _ (by omega) (by omega) (by omega) (by omega) hA3
set_option maxHeartbeats 400000 in
theorem step_X3_readsAll {E : GE} {A : Nat → Nat} (hA : twA A) (M : TW) (hT : tpW M) {h : AH} (N : Nat) (ih : ∀ (k a : Nat), k ≤ N → a ≤ M 0 15 → 4 * M 0 15 + 3 ≤ k + 4 * a + 2 → Ct E cX3_readsPart (mX3_readsPart N) [.ref (A 0)] (twO E A (tset M 0 17 (a)) h) (pN fun r h' => r = (prs (hrF (M 14) (M 0 15)) k 2 (a)).1 ∧ h' = twO E A (tset M 0 17 (prs (hrF (M 14) (M 0 15)) k 2 (a)).2.1) h) noX) (k a : Nat) (hk : k ≤ N + 1) (ha : a ≤ M 0 15) (hf : 4 * M 0 15 + 3 ≤ k + 4 * a + 1) : Ct E cX3_readsAll (mX3_readsAll (N + 1)) [.ref (A 0)] (twO E A (tset M 0 17 (a)) h) (pN fun r h' => r = (prs (hrF (M 14) (M 0 15)) k 1 (a)).1 ∧ h' = twO E A (tset M 0 17 (prs (hrF (M 14) (M 0 15)) k 1 (a)).2.1) h) noX := by
  have hT1 := hT.1
  obtain ⟨k, rfl⟩ : ∃ k1, k = k1 + 1 := ⟨k - 1, by omega⟩
  refine g_enter (own := "SecretVaultModel") [some (.ref (A 0)), none] (show plainName yX3_readsAll.cls = true by decide +kernel) rfl rfl (Nat.le_of_ble_eq_true rfl) rfl rfl (fun X => ?_)
  have hg := prs_ge (hrF (M 14) (M 0 15)) k 2 a
  have hl := prs_le (t := M 14) (n := M 0 15) (k := k) (q := 2) (a := a) ha
  have h01 := prs_01 (hrF (M 14) (M 0 15)) k 2 a
  have ht := prs_tl (hrF (M 14) (M 0 15)) k 1 a (by decide)
  first | refine g_aload0 dX3_readsAll_0 ?_ | refine g_aloadQ0 dX3_readsAll_0 ?_ | refine g_aloadN0 dX3_readsAll_0 ?_
  refine g_S1n0 (ih k _ (by omega) (by omega) (by omega)) (kX3_readsPart _) q2450 ⟨by show N + 6 + 1 ≤ (N + 1) + 6; omega, by show 8 + (2 + 11) + (60 * N + 200) ≤ 60 * (N + 1) + 200; omega⟩ ⟨rfl, rfl⟩ ⟨Nat.zero_le _, Nat.zero_le _⟩ (Nat.le_of_ble_eq_true rfl) dX3_readsAll_1 (fun r_1 h_1 p_1 => ?_)
  obtain ⟨hi_1, rfl⟩ := p_1
  refine g_istore1 dX3_readsAll_4 (show ¬ 1 = 255 + 1 by decide) ?_
  rw [hi_1]
  exact tail_X3_readsAll hA M hT N _ _ ih k _ _ (by omega) (by omega) (by omega) (by omega) ht.symm
set_option maxHeartbeats 400000 in
theorem tail_X3_readsPolicy {E : GE} {A : Nat → Nat} (hA : twA A) (M : TW) (hT : tpW M) {h : AH} {X : GX} (N R P : Nat) (ih : ∀ (k a : Nat), k ≤ N → a ≤ M 0 15 → 4 * M 0 15 + 3 ≤ k + 4 * a + 1 → Ct E cX3_readsAll (mX3_readsAll N) [.ref (A 0)] (twO E A (tset M 0 17 (a)) h) (pN fun r h' => r = (prs (hrF (M 14) (M 0 15)) k 1 (a)).1 ∧ h' = twO E A (tset M 0 17 (prs (hrF (M 14) (M 0 15)) k 1 (a)).2.1) h) noX) : ∀ (k r p : Nat), k ≤ N → p ≤ M 0 15 → r ≤ 1 → 4 * M 0 15 + 3 ≤ k + 4 * (p + 1) + 0 → tl (hrF (M 14) (M 0 15)) k 0 r p = (R, P) → V E cX3_readsPolicy "SecretVaultModel" (mX3_readsPolicy (N + 1)) (pN fun r h' => r = R ∧ h' = twO E A (tset M 0 17 P) h) noX X (twO E A (tset M 0 17 p) h) 0 0 5 [some (.ref (A 0)), some (.int (nI (r)))] [] := by
  have hT1 := hT.1
  intro k
  induction k with
  | zero =>
    intro r p hk hp hr hf he
    have hz : ¬ (hrF (M 14) (M 0 15)) p = 124 := fun z => by have := (hrF_nz (t := M 14) (n := M 0 15) (x := p) (by omega)).1; omega
    have he2 : (if r = 1 ∧ (hrF (M 14) (M 0 15)) p = 124 then ((prs (hrF (M 14) (M 0 15)) 0 0 (p + 1)).1, (prs (hrF (M 14) (M 0 15)) 0 0 (p + 1)).2.1) else (r, p)) = (R, P) := he
    rw [if_neg (fun z => hz z.2)] at he2
    injection he2 with e1 e2
    refine g_iload1 dX3_readsPolicy_5 ?_
    first | refine g_ifN_eq (tgt := 26) dX3_readsPolicy_6 (by decide) (by omega) (fun c_6 => ?_) (fun c_6 => ?_) | refine g_if_eq (tgt := 26) dX3_readsPolicy_6 (by decide) (fun c_6 => ?_) (fun c_6 => ?_)
    · refine g_iload1 dX3_readsPolicy_26 ?_
      first | rw [show p + r_12 = p by omega] | skip
      exact g_zret (hk := Nat.zero_le _) (hn := Nat.zero_le _) dX3_readsPolicy_27 rfl (nar_zb (by omega)) ⟨_, rfl, e1, by rw [e2]⟩
    · first | refine g_aload0 dX3_readsPolicy_9 ?_ | refine g_aloadQ0 dX3_readsPolicy_9 ?_ | refine g_aloadN0 dX3_readsPolicy_9 ?_
      refine g_bipush (nI 124) dX3_readsPolicy_10 (by decide) ?_
      refine g_V1n0 (ctX3_eatsA hA _ _ _ hT (by omega) (by decide)) kX3_eats q2432 tw_0 rfl rfl ⟨by show 1 + 1 ≤ (N + 1) + 6; omega, by show 8 + (3 + 11) + (20) ≤ 60 * (N + 1) + 200; omega⟩ ⟨rfl, rfl⟩ ⟨Nat.zero_le _, Nat.zero_le _⟩ (Nat.le_of_ble_eq_true rfl) dX3_readsPolicy_12 (fun r_12 h_12 p_12 => ?_)
      obtain ⟨hr_12, hi_12, rfl⟩ := p_12
      first | refine g_ifN_eq (tgt := 26) dX3_readsPolicy_15 (by decide) (by omega) (fun c_15 => ?_) (fun c_15 => ?_) | refine g_if_eq (tgt := 26) dX3_readsPolicy_15 (by decide) (fun c_15 => ?_) (fun c_15 => ?_)
      · refine g_iload1 dX3_readsPolicy_26 ?_
        first | rw [show p + r_12 = p by omega] | skip
        exact g_zret (hk := Nat.zero_le _) (hn := Nat.zero_le _) dX3_readsPolicy_27 rfl (nar_zb (by omega)) ⟨_, rfl, e1, by rw [e2]⟩
      · omega
  | succ k ihk =>
    intro r p hk hp hr hf he
    have hz : (hrF (M 14) (M 0 15)) p = 124 → p < M 0 15 := fun z => (hrF_nz (t := M 14) (n := M 0 15) (x := p) (by omega)).1
    have he2 : (if r = 1 ∧ (hrF (M 14) (M 0 15)) p = 124 then ((prs (hrF (M 14) (M 0 15)) (k + 1) 0 (p + 1)).1, (prs (hrF (M 14) (M 0 15)) (k + 1) 0 (p + 1)).2.1) else (r, p)) = (R, P) := he
    have hA1 : ¬ (r = 1 ∧ (hrF (M 14) (M 0 15)) p = 124) → r = R ∧ p = P := fun z => by
      rw [if_neg z] at he2
      injection he2 with e1 e2
      exact ⟨e1, e2⟩
    have hA2 : r = 1 ∧ (hrF (M 14) (M 0 15)) p = 124 → tl (hrF (M 14) (M 0 15)) k 0 (prs (hrF (M 14) (M 0 15)) k 1 (p + 1)).1 (prs (hrF (M 14) (M 0 15)) k 1 (p + 1)).2.1 = (R, P) := fun z => by
      rw [if_pos z] at he2
      rw [← he2]
      exact (prs_tl (hrF (M 14) (M 0 15)) k 0 (p + 1) (by decide)).symm
    refine g_iload1 dX3_readsPolicy_5 ?_
    first | refine g_ifN_eq (tgt := 26) dX3_readsPolicy_6 (by decide) (by omega) (fun c_6 => ?_) (fun c_6 => ?_) | refine g_if_eq (tgt := 26) dX3_readsPolicy_6 (by decide) (fun c_6 => ?_) (fun c_6 => ?_)
    · refine g_iload1 dX3_readsPolicy_26 ?_
      have hA3 := hA1 (by omega)
      first | rw [show p + r_12 = p by omega] | skip
      exact g_zret (hk := Nat.zero_le _) (hn := Nat.zero_le _) dX3_readsPolicy_27 rfl (nar_zb (by omega)) ⟨_, rfl, hA3.1, by rw [hA3.2]⟩
    · first | refine g_aload0 dX3_readsPolicy_9 ?_ | refine g_aloadQ0 dX3_readsPolicy_9 ?_ | refine g_aloadN0 dX3_readsPolicy_9 ?_
      refine g_bipush (nI 124) dX3_readsPolicy_10 (by decide) ?_
      refine g_V1n0 (ctX3_eatsA hA _ _ _ hT (by omega) (by decide)) kX3_eats q2432 tw_0 rfl rfl ⟨by show 1 + 1 ≤ (N + 1) + 6; omega, by show 8 + (3 + 11) + (20) ≤ 60 * (N + 1) + 200; omega⟩ ⟨rfl, rfl⟩ ⟨Nat.zero_le _, Nat.zero_le _⟩ (Nat.le_of_ble_eq_true rfl) dX3_readsPolicy_12 (fun r_12 h_12 p_12 => ?_)
      obtain ⟨hr_12, hi_12, rfl⟩ := p_12
      first | refine g_ifN_eq (tgt := 26) dX3_readsPolicy_15 (by decide) (by omega) (fun c_15 => ?_) (fun c_15 => ?_) | refine g_if_eq (tgt := 26) dX3_readsPolicy_15 (by decide) (fun c_15 => ?_) (fun c_15 => ?_)
      · refine g_iload1 dX3_readsPolicy_26 ?_
        have hA3 := hA1 (by omega)
        first | rw [show p + r_12 = p by omega] | skip
        exact g_zret (hk := Nat.zero_le _) (hn := Nat.zero_le _) dX3_readsPolicy_27 rfl (nar_zb (by omega)) ⟨_, rfl, hA3.1, by rw [hA3.2]⟩
      · have hA3 := hA2 (by omega)
        obtain rfl : r_12 = 1 := by omega
        have hpn := hz (by omega)
        have hg := prs_ge (hrF (M 14) (M 0 15)) k 1 (p + 1)
        have hl := prs_le (t := M 14) (n := M 0 15) (k := k) (q := 1) (a := p + 1) (by omega)
        have h01 := prs_01 (hrF (M 14) (M 0 15)) k 1 (p + 1)
        first | refine g_aload0 dX3_readsPolicy_18 ?_ | refine g_aloadQ0 dX3_readsPolicy_18 ?_ | refine g_aloadN0 dX3_readsPolicy_18 ?_
        refine g_S1n0 (ih k _ (by omega) (by omega) (by omega)) (kX3_readsAll _) q2447 ⟨by show N + 6 + 1 ≤ (N + 1) + 6; omega, by show 8 + (2 + 11) + (60 * N + 200) ≤ 60 * (N + 1) + 200; omega⟩ ⟨rfl, rfl⟩ ⟨Nat.zero_le _, Nat.zero_le _⟩ (Nat.le_of_ble_eq_true rfl) dX3_readsPolicy_19 (fun r_19 h_19 p_19 => ?_)
        obtain ⟨hi_19, rfl⟩ := p_19
        refine g_istore1 dX3_readsPolicy_22 (show ¬ 1 = 255 + 1 by decide) ?_
        refine g_goto (tgt := 5) dX3_readsPolicy_23 (by decide) ?_
        rw [← hi_19] at hA3
        exact ihk _ _ (by omega) (by omega) (by omega) (by omega) hA3
set_option maxHeartbeats 400000 in
theorem step_X3_readsPolicy {E : GE} {A : Nat → Nat} (hA : twA A) (M : TW) (hT : tpW M) {h : AH} (N : Nat) (ih : ∀ (k a : Nat), k ≤ N → a ≤ M 0 15 → 4 * M 0 15 + 3 ≤ k + 4 * a + 1 → Ct E cX3_readsAll (mX3_readsAll N) [.ref (A 0)] (twO E A (tset M 0 17 (a)) h) (pN fun r h' => r = (prs (hrF (M 14) (M 0 15)) k 1 (a)).1 ∧ h' = twO E A (tset M 0 17 (prs (hrF (M 14) (M 0 15)) k 1 (a)).2.1) h) noX) (k a : Nat) (hk : k ≤ N + 1) (ha : a ≤ M 0 15) (hf : 4 * M 0 15 + 3 ≤ k + 4 * a + 0) : Ct E cX3_readsPolicy (mX3_readsPolicy (N + 1)) [.ref (A 0)] (twO E A (tset M 0 17 (a)) h) (pN fun r h' => r = (prs (hrF (M 14) (M 0 15)) k 0 (a)).1 ∧ h' = twO E A (tset M 0 17 (prs (hrF (M 14) (M 0 15)) k 0 (a)).2.1) h) noX := by
  have hT1 := hT.1
  obtain ⟨k, rfl⟩ : ∃ k1, k = k1 + 1 := ⟨k - 1, by omega⟩
  refine g_enter (own := "SecretVaultModel") [some (.ref (A 0)), none] (show plainName yX3_readsPolicy.cls = true by decide +kernel) rfl rfl (Nat.le_of_ble_eq_true rfl) rfl rfl (fun X => ?_)
  have hg := prs_ge (hrF (M 14) (M 0 15)) k 1 a
  have hl := prs_le (t := M 14) (n := M 0 15) (k := k) (q := 1) (a := a) ha
  have h01 := prs_01 (hrF (M 14) (M 0 15)) k 1 a
  have ht := prs_tl (hrF (M 14) (M 0 15)) k 0 a (by decide)
  first | refine g_aload0 dX3_readsPolicy_0 ?_ | refine g_aloadQ0 dX3_readsPolicy_0 ?_ | refine g_aloadN0 dX3_readsPolicy_0 ?_
  refine g_S1n0 (ih k _ (by omega) (by omega) (by omega)) (kX3_readsAll _) q2447 ⟨by show N + 6 + 1 ≤ (N + 1) + 6; omega, by show 8 + (2 + 11) + (60 * N + 200) ≤ 60 * (N + 1) + 200; omega⟩ ⟨rfl, rfl⟩ ⟨Nat.zero_le _, Nat.zero_le _⟩ (Nat.le_of_ble_eq_true rfl) dX3_readsPolicy_1 (fun r_1 h_1 p_1 => ?_)
  obtain ⟨hi_1, rfl⟩ := p_1
  refine g_istore1 dX3_readsPolicy_4 (show ¬ 1 = 255 + 1 by decide) ?_
  rw [hi_1]
  exact tail_X3_readsPolicy hA M hT N _ _ ih k _ _ (by omega) (by omega) (by omega) (by omega) ht.symm
set_option maxHeartbeats 400000 in
theorem tail_X3_readsPart {E : GE} {A : Nat → Nat} (hA : twA A) (M : TW) (hT : tpW M) {h : AH} {X : GX} (N R P c : Nat) (ih : ∀ (k a : Nat), k ≤ N → a ≤ M 0 15 → 4 * M 0 15 + 3 ≤ k + 4 * a → Ct E cX3_readsPolicy (mX3_readsPolicy N) [.ref (A 0)] (twO E A (tset M 0 17 (a)) h) (pN fun r h' => r = (prs (hrF (M 14) (M 0 15)) k 0 (a)).1 ∧ h' = twO E A (tset M 0 17 (prs (hrF (M 14) (M 0 15)) k 0 (a)).2.1) h) noX) : ∀ (k p : Nat), k ≤ N → p ≤ M 0 15 → 4 * M 0 15 + 4 ≤ k + 4 * (p + 1) → tl (hrF (M 14) (M 0 15)) k 3 1 p = (R, P) → V E cX3_readsPart "SecretVaultModel" (mX3_readsPart (N + 1)) (pN fun r h' => r = (if R = 1 ∧ (hrF (M 14) (M 0 15)) P = 41 then 1 else 0) ∧ h' = twO E A (tset M 0 17 (P + (if R = 1 ∧ (hrF (M 14) (M 0 15)) P = 41 then 1 else 0))) h) noX X (twO E A (tset M 0 17 p) h) 0 0 123 [some (.ref (A 0)), some (.int (nI (c)))] [] := by
  have hT1 := hT.1
  intro k
  induction k with
  | zero =>
    intro p hk hp hf he
    have hz : ¬ (hrF (M 14) (M 0 15)) p = 44 := fun z => by have := (hrF_nz (t := M 14) (n := M 0 15) (x := p) (by omega)).1; omega
    have he2 : (if 1 = 1 ∧ (hrF (M 14) (M 0 15)) p = 44 then ((prs (hrF (M 14) (M 0 15)) 0 3 (p + 1)).1, (prs (hrF (M 14) (M 0 15)) 0 3 (p + 1)).2.1) else (1, p)) = (R, P) := he
    rw [if_neg (fun z => hz z.2)] at he2
    injection he2 with e1 e2
    subst e1 e2
    first | refine g_aload0 dX3_readsPart_123 ?_ | refine g_aloadQ0 dX3_readsPart_123 ?_ | refine g_aloadN0 dX3_readsPart_123 ?_
    refine g_bipush (nI 44) dX3_readsPart_124 (by decide) ?_
    refine g_V1n0 (ctX3_eatsA hA _ _ _ hT (by omega) (by decide)) kX3_eats q2432 tw_0 rfl rfl ⟨by show 1 + 1 ≤ (N + 1) + 6; omega, by show 8 + (3 + 11) + (20) ≤ 60 * (N + 1) + 200; omega⟩ ⟨rfl, rfl⟩ ⟨Nat.zero_le _, Nat.zero_le _⟩ (Nat.le_of_ble_eq_true rfl) dX3_readsPart_126 (fun r_126 h_126 p_126 => ?_)
    obtain ⟨hr_126, hi_126, rfl⟩ := p_126
    first | refine g_ifN_eq (tgt := 141) dX3_readsPart_129 (by decide) (by omega) (fun c_129 => ?_) (fun c_129 => ?_) | refine g_if_eq (tgt := 141) dX3_readsPart_129 (by decide) (fun c_129 => ?_) (fun c_129 => ?_)
    · rw [show p + r_126 = p by omega]
      first | refine g_aload0 dX3_readsPart_141 ?_ | refine g_aloadQ0 dX3_readsPart_141 ?_ | refine g_aloadN0 dX3_readsPart_141 ?_
      refine g_bipush (nI 41) dX3_readsPart_142 (by decide) ?_
      refine g_V1n0 (ctX3_eatsA hA _ _ _ hT (by omega) (by decide)) kX3_eats q2432 tw_0 rfl rfl ⟨by show 1 + 1 ≤ (N + 1) + 6; omega, by show 8 + (3 + 11) + (20) ≤ 60 * (N + 1) + 200; omega⟩ ⟨rfl, rfl⟩ ⟨Nat.zero_le _, Nat.zero_le _⟩ (Nat.le_of_ble_eq_true rfl) dX3_readsPart_144 (fun r_144 h_144 p_144 => ?_)
      obtain ⟨hr_144, hi_144, rfl⟩ := p_144
      have hr9 : r_144 = (if 1 = 1 ∧ (hrF (M 14) (M 0 15)) p = 41 then 1 else 0) := by (repeat' split) <;> omega
      exact g_zret (hk := Nat.zero_le _) (hn := Nat.zero_le _) dX3_readsPart_147 rfl (nar_zb (by omega)) ⟨_, rfl, hr9, by rw [hr9]⟩
    · omega
  | succ k ihk =>
    intro p hk hp hf he
    have hz : (hrF (M 14) (M 0 15)) p = 44 → p < M 0 15 := fun z => (hrF_nz (t := M 14) (n := M 0 15) (x := p) (by omega)).1
    have he2 : (if 1 = 1 ∧ (hrF (M 14) (M 0 15)) p = 44 then ((prs (hrF (M 14) (M 0 15)) (k + 1) 3 (p + 1)).1, (prs (hrF (M 14) (M 0 15)) (k + 1) 3 (p + 1)).2.1) else (1, p)) = (R, P) := he
    have hA1 : ¬ (hrF (M 14) (M 0 15)) p = 44 → 1 = R ∧ p = P := fun z => by
      rw [if_neg (fun y => z y.2)] at he2
      injection he2 with e1 e2
      exact ⟨e1, e2⟩
    have hA2 : (hrF (M 14) (M 0 15)) p = 44 → tl (hrF (M 14) (M 0 15)) k 3 (prs (hrF (M 14) (M 0 15)) k 0 (p + 1)).1 (prs (hrF (M 14) (M 0 15)) k 0 (p + 1)).2.1 = (R, P) := fun z => by
      rw [if_pos ⟨rfl, z⟩] at he2
      rw [← he2]
      exact (prs_tl (hrF (M 14) (M 0 15)) k 3 (p + 1) (by decide)).symm
    first | refine g_aload0 dX3_readsPart_123 ?_ | refine g_aloadQ0 dX3_readsPart_123 ?_ | refine g_aloadN0 dX3_readsPart_123 ?_
    refine g_bipush (nI 44) dX3_readsPart_124 (by decide) ?_
    refine g_V1n0 (ctX3_eatsA hA _ _ _ hT (by omega) (by decide)) kX3_eats q2432 tw_0 rfl rfl ⟨by show 1 + 1 ≤ (N + 1) + 6; omega, by show 8 + (3 + 11) + (20) ≤ 60 * (N + 1) + 200; omega⟩ ⟨rfl, rfl⟩ ⟨Nat.zero_le _, Nat.zero_le _⟩ (Nat.le_of_ble_eq_true rfl) dX3_readsPart_126 (fun r_126 h_126 p_126 => ?_)
    obtain ⟨hr_126, hi_126, rfl⟩ := p_126
    first | refine g_ifN_eq (tgt := 141) dX3_readsPart_129 (by decide) (by omega) (fun c_129 => ?_) (fun c_129 => ?_) | refine g_if_eq (tgt := 141) dX3_readsPart_129 (by decide) (fun c_129 => ?_) (fun c_129 => ?_)
    · obtain ⟨rfl, rfl⟩ := hA1 (by omega)
      rw [show p + r_126 = p by omega]
      first | refine g_aload0 dX3_readsPart_141 ?_ | refine g_aloadQ0 dX3_readsPart_141 ?_ | refine g_aloadN0 dX3_readsPart_141 ?_
      refine g_bipush (nI 41) dX3_readsPart_142 (by decide) ?_
      refine g_V1n0 (ctX3_eatsA hA _ _ _ hT (by omega) (by decide)) kX3_eats q2432 tw_0 rfl rfl ⟨by show 1 + 1 ≤ (N + 1) + 6; omega, by show 8 + (3 + 11) + (20) ≤ 60 * (N + 1) + 200; omega⟩ ⟨rfl, rfl⟩ ⟨Nat.zero_le _, Nat.zero_le _⟩ (Nat.le_of_ble_eq_true rfl) dX3_readsPart_144 (fun r_144 h_144 p_144 => ?_)
      obtain ⟨hr_144, hi_144, rfl⟩ := p_144
      have hr9 : r_144 = (if 1 = 1 ∧ (hrF (M 14) (M 0 15)) p = 41 then 1 else 0) := by (repeat' split) <;> omega
      exact g_zret (hk := Nat.zero_le _) (hn := Nat.zero_le _) dX3_readsPart_147 rfl (nar_zb (by omega)) ⟨_, rfl, by first | exact hr9 | rw [if_neg (fun z => by have := z.1; omega)], by first | rw [hr9] | (rw [if_neg (fun z => by have := z.1; omega), ← e2]; rfl)⟩
    · have hA3 := hA2 (by omega)
      obtain rfl : r_126 = 1 := by omega
      have hpn := hz (by omega)
      have hg := prs_ge (hrF (M 14) (M 0 15)) k 0 (p + 1)
      have hl := prs_le (t := M 14) (n := M 0 15) (k := k) (q := 0) (a := p + 1) (by omega)
      have h01 := prs_01 (hrF (M 14) (M 0 15)) k 0 (p + 1)
      first | refine g_aload0 dX3_readsPart_132 ?_ | refine g_aloadQ0 dX3_readsPart_132 ?_ | refine g_aloadN0 dX3_readsPart_132 ?_
      refine g_S1n0 (ih k _ (by omega) (by omega) (by omega)) (kX3_readsPolicy _) q2444 ⟨by show N + 6 + 1 ≤ (N + 1) + 6; omega, by show 8 + (2 + 11) + (60 * N + 200) ≤ 60 * (N + 1) + 200; omega⟩ ⟨rfl, rfl⟩ ⟨Nat.zero_le _, Nat.zero_le _⟩ (Nat.le_of_ble_eq_true rfl) dX3_readsPart_133 (fun r_133 h_133 p_133 => ?_)
      obtain ⟨hi_133, rfl⟩ := p_133
      first | refine g_ifN_ne (tgt := 123) dX3_readsPart_136 (by decide) (by omega) (fun c_136 => ?_) (fun c_136 => ?_) | refine g_if_ne (tgt := 123) dX3_readsPart_136 (by decide) (fun c_136 => ?_) (fun c_136 => ?_)
      · rw [show (prs (hrF (M 14) (M 0 15)) k 0 (p + 1)).1 = 1 by omega] at hA3
        exact ihk _ (by omega) (by omega) (by omega) hA3
      · rw [show tl (hrF (M 14) (M 0 15)) k 3 (prs (hrF (M 14) (M 0 15)) k 0 (p + 1)).1 (prs (hrF (M 14) (M 0 15)) k 0 (p + 1)).2.1 = ((prs (hrF (M 14) (M 0 15)) k 0 (p + 1)).1, (prs (hrF (M 14) (M 0 15)) k 0 (p + 1)).2.1) from if_neg (fun z => by have := z.1; omega)] at hA3
        injection hA3 with e1 e2
        refine g_iconst (nI 0) dX3_readsPart_139 (by decide) ?_
        exact g_zret (hk := Nat.zero_le _) (hn := Nat.zero_le _) dX3_readsPart_140 rfl (nar_zb (by omega)) ⟨_, rfl, by first | exact hr9 | rw [if_neg (fun z => by have := z.1; omega)], by first | rw [hr9] | (rw [if_neg (fun z => by have := z.1; omega), ← e2]; rfl)⟩
