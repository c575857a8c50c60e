/-! THE TWIN: whether a policy is fulfilled; reading policies -/
set_option maxRecDepth 100000
def plR (g : Nat → Nat) (s : Nat) : Nat × Nat × List Att := prs (hrF (pT g s) (gOf g s 11)) 200 0 0
/-- a slot's policy is none, or a text that is read to its end -/
def plW (g : Nat → Nat) (s : Nat) : Prop := gOf g s 11 ≤ 40 ∧ (gOf g s 11 = 0 ∨ ((plR g s).1 = 1 ∧ (plR g s).2.1 = gOf g s 11))
def plA (g : Nat → Nat) (s : Nat) : Att := mkAny (plR g s).2.2
theorem plW.seg {g : Nat → Nat} {s : Nat} (h : plW g s) (hn : 0 < gOf g s 11) : Seg (pT g s) 200 0 0 (gOf g s 11) (plR g s).2.2 := by
  rcases h.2 with z | ⟨z1, z2⟩
  · omega
  · obtain ⟨o, hr⟩ : ∃ o, plR g s = o := ⟨_, rfl⟩
    obtain ⟨o1, o2, o3⟩ := o
    rw [hr] at z1 z2
    dsimp only at z1 z2
    subst z1
    obtain ⟨l, e1, -, e2⟩ := prs_seg (Nat.zero_le _) hr
    rw [hr, ← z2, e1, Nat.zero_add]
    rw [e1, Nat.zero_add] at z2
    rw [z2]
    rw [z2] at e2
    exact e2
def flF (g : Nat → Nat) (s x : Nat) : Nat := if gOf g s 11 = 0 then 1 else aE (plA g s) x
theorem flF_le {g : Nat → Nat} {s : Nat} (h : plW g s) (x : Nat) : flF g s x ≤ 1 := by
  unfold flF
  split
  · exact Nat.le_refl _
  · exact le1_any (h.seg (by omega)).le1 x

abbrev mX3_hasPolicy : GM := (yX3_hasPolicy, 2, (some .boolean), [], { frames := 1, cells := 0, slots := 0, locals := 22 }, 255)
theorem kX3_hasPolicy : gCv cX3_hasPolicy mX3_hasPolicy 1 := ⟨q2314, qs46, q90, q2315, ⟨by decide +kernel, by decide +kernel, by decide +kernel⟩, rfl⟩
set_option maxHeartbeats 400000 in
theorem ctX3_hasPolicy {E : GE} {h : AH} {A : Nat → Nat} (hA : twA A) (M : TW) (s : Nat) (hs : s < 4) (hp : gOf (M 1) s 11 ≤ 40) : Ct E cX3_hasPolicy mX3_hasPolicy [.ref (A 0), .int (nI s)] (twO E A M h) (pN fun r h' => r < 2 ∧ (r = 1 ↔ 0 < gOf (M 1) s 11) ∧ h' = twO E A M h) noX := by
  refine g_enter (own := "SecretVaultModel") [some (.ref (A 0)), some (.int (nI s))] (by decide +kernel) rfl rfl (Nat.le_of_ble_eq_true rfl) rfl rfl (fun X => ?_)
  first | refine g_aload0 dX3_hasPolicy_0 ?_ | refine g_aloadQ0 dX3_hasPolicy_0 ?_ | refine g_aloadN0 dX3_hasPolicy_0 ?_
  refine g_iload1 dX3_hasPolicy_1 ?_
  refine g_bipush (nI 11) dX3_hasPolicy_2 (by decide) ?_
  refine g_V2n0 (ctX3_of hA _ _ _ (by omega) (by omega)) kX3_of q2220 tw_0 rfl rfl (by decide) ⟨rfl, rfl⟩ ⟨Nat.zero_le _, Nat.zero_le _⟩ (Nat.le_of_ble_eq_true rfl) dX3_hasPolicy_4 (fun r_4 h_4 p_4 => ?_)
  obtain ⟨rfl, rfl⟩ := p_4
  first | refine g_ifN_le (tgt := 14) dX3_hasPolicy_7 (by decide) (by omega) (fun c_7 => ?_) (fun c_7 => ?_) | refine g_if_le (tgt := 14) dX3_hasPolicy_7 (by decide) (fun c_7 => ?_) (fun c_7 => ?_)
  · refine g_iconst (nI 0) dX3_hasPolicy_14 (by decide) ?_
    exact g_zret dX3_hasPolicy_15 rfl (nar_zb (by omega)) ⟨_, rfl, by omega, by omega, rfl⟩
  · refine g_iconst (nI 1) dX3_hasPolicy_10 (by decide) ?_
    refine g_goto (tgt := 15) dX3_hasPolicy_11 (by decide) ?_
    exact g_zret dX3_hasPolicy_15 rfl (nar_zb (by omega)) ⟨_, rfl, by omega, by omega, rfl⟩
theorem ctX3_holdsE {E : GE} {A : Nat → Nat} (hA : twA A) (M : TW) (s x n : Nat) (hB : twB M) (hs : s < 4) (hx : x < 2147483648) {h : AH} (hP : plW (M 1) s) (hn : n = gOf (M 1) s 11) (h0 : 0 < n) : Ct E cX3_holds (mX3_holds 40) [.ref (A 0), .int (nI s), .int (nI 0), .int (nI n), .int (nI x)] (twO E A M h) (pN fun r h' => r = aE (plA (M 1) s) x ∧ h' = twO E A M h) noX := by
  subst hn
  exact ctX3_holds hA M s x hB hs hx 40 0 _ _ _ 200 (Nat.zero_add _).symm hP.1 hP.1 (hP.seg h0)
abbrev mX3_fulfilled : GM := (yX3_fulfilled, 3, (some .boolean), [], { frames := 46, cells := 0, slots := 0, locals := 2630 }, 255)
theorem kX3_fulfilled : gCv cX3_fulfilled mX3_fulfilled 2 := ⟨q2310, qs45, q90, q2311, ⟨by decide +kernel, by decide +kernel, by decide +kernel⟩, rfl⟩
set_option maxHeartbeats 400000 in
theorem ctX3_fulfilled {E : GE} {h : AH} {A : Nat → Nat} (hA : twA A) (M : TW) (s x : Nat) (hB : twB M) (hs : s < 4) (hx : x < 2147483648) (hP : plW (M 1) s) : Ct E cX3_fulfilled mX3_fulfilled [.ref (A 0), .int (nI s), .int (nI x)] (twO E A M h) (pN fun r h' => r = (flF (M 1) s x) ∧ h' = twO E A M h) noX := by
  refine g_enter (own := "SecretVaultModel") [some (.ref (A 0)), some (.int (nI s)), some (.int (nI x))] (by decide +kernel) rfl rfl (Nat.le_of_ble_eq_true rfl) rfl rfl (fun X => ?_)
  have hp := hP.1
  have h1 := flF_le hP x
  have e0 : gOf (M 1) s 11 = 0 → flF (M 1) s x = 1 := fun z => if_pos z
  have e1 : ¬ gOf (M 1) s 11 = 0 → flF (M 1) s x = aE (plA (M 1) s) x := fun z => if_neg z
  first | refine g_aload0 dX3_fulfilled_0 ?_ | refine g_aloadQ0 dX3_fulfilled_0 ?_ | refine g_aloadN0 dX3_fulfilled_0 ?_
  refine g_iload1 dX3_fulfilled_1 ?_
  refine g_V1n0 (ctX3_hasPolicy hA _ _ (by omega) (by omega)) kX3_hasPolicy q2312 tw_0 rfl rfl (by decide) ⟨rfl, rfl⟩ ⟨Nat.zero_le _, Nat.zero_le _⟩ (Nat.le_of_ble_eq_true rfl) dX3_fulfilled_2 (fun r_2 h_2 p_2 => ?_)
  obtain ⟨hr_2, hi_2, rfl⟩ := p_2
  first | refine g_ifN_eq (tgt := 25) dX3_fulfilled_5 (by decide) (by first | omega | exact hB _ _) (fun c_5 => ?_) (fun c_5 => ?_) | refine g_if_eq (tgt := 25) dX3_fulfilled_5 (by decide) (fun c_5 => ?_) (fun c_5 => ?_)
  · refine g_iconst (nI 1) dX3_fulfilled_25 (by decide) ?_
    refine g_goto (tgt := 30) dX3_fulfilled_26 (by decide) ?_
    exact g_zret dX3_fulfilled_30 rfl (nar_zb (by first | omega | exact hB _ _)) ⟨_, rfl, by omega, rfl⟩
  · first | refine g_aload0 dX3_fulfilled_8 ?_ | refine g_aloadQ0 dX3_fulfilled_8 ?_ | refine g_aloadN0 dX3_fulfilled_8 ?_
    refine g_iload1 dX3_fulfilled_9 ?_
    refine g_iconst (nI 0) dX3_fulfilled_10 (by decide) ?_
    first | refine g_aload0 dX3_fulfilled_11 ?_ | refine g_aloadQ0 dX3_fulfilled_11 ?_ | refine g_aloadN0 dX3_fulfilled_11 ?_
    refine g_iload1 dX3_fulfilled_12 ?_
    refine g_bipush (nI 11) dX3_fulfilled_13 (by decide) ?_
    refine g_V2n0 (ctX3_of hA _ _ _ (by omega) (by omega)) kX3_of q2220 tw_0 rfl rfl (by decide) ⟨rfl, rfl⟩ ⟨Nat.zero_le _, Nat.zero_le _⟩ (Nat.le_of_ble_eq_true rfl) dX3_fulfilled_15 (fun r_15 h_15 p_15 => ?_)
    obtain ⟨rfl, rfl⟩ := p_15
    refine g_iload2 dX3_fulfilled_18 ?_
    refine g_S5n0 (ctX3_holdsE hA _ _ _ _ hB (by omega) (by omega) hP rfl (by omega)) (kX3_holds _) q2316 (by decide) ⟨rfl, rfl⟩ ⟨Nat.zero_le _, Nat.zero_le _⟩ (Nat.le_of_ble_eq_true rfl) dX3_fulfilled_19 (fun r_19 h_19 p_19 => ?_)
    obtain ⟨rfl, rfl⟩ := p_19
    first | refine g_ifN_eq (tgt := 29) dX3_fulfilled_22 (by decide) (by first | omega | exact hB _ _) (fun c_22 => ?_) (fun c_22 => ?_) | refine g_if_eq (tgt := 29) dX3_fulfilled_22 (by decide) (fun c_22 => ?_) (fun c_22 => ?_)
    · refine g_iconst (nI 0) dX3_fulfilled_29 (by decide) ?_
      exact g_zret dX3_fulfilled_30 rfl (nar_zb (by first | omega | exact hB _ _)) ⟨_, rfl, by omega, rfl⟩
    · refine g_iconst (nI 1) dX3_fulfilled_25 (by decide) ?_
      refine g_goto (tgt := 30) dX3_fulfilled_26 (by decide) ?_
      exact g_zret dX3_fulfilled_30 rfl (nar_zb (by first | omega | exact hB _ _)) ⟨_, rfl, by omega, rfl⟩
theorem tset_tt (M : TW) (k i x y : Nat) : tset (tset M k i x) k i y = tset M k i y := by
  funext b j
  unfold tset nup
  split
  · rename_i hb
    subst hb
    simp only [if_true]
    split <;> rfl
  · rfl
theorem hrF_c {M : TW} (hT : tpW M) {a c : Nat} (hc : 0 < c) : (a < M 0 15 ∧ M 14 a = c) ↔ hrF (M 14) (M 0 15) a = c := by
  unfold hrF
  split
  · exact ⟨fun z => z.2, fun z => ⟨by assumption, z⟩⟩
  · exact ⟨fun z => absurd z.1 (by assumption), fun z => by omega⟩
theorem ctX3_eatsA {E : GE} {h : AH} {A : Nat → Nat} (hA : twA A) (M : TW) (a c : Nat) (hT : tpW M) (ha : a ≤ M 0 15) (hc : 0 < c ∧ c < 4294967296) : Ct E cX3_eats mX3_eats [.ref (A 0), .int (nI c)] (twO E A (tset M 0 17 a) h) (pN fun r h' => r < 2 ∧ (r = 1 ↔ hrF (M 14) (M 0 15) a = c) ∧ h' = twO E A (tset M 0 17 (a + r)) h) noX := by
  have hT1 := hT.1
  refine (ctX3_eats hA (tset M 0 17 a) c hT (by rw [tset_ss]; omega) hc.2).impN (fun r h' z => ?_)
  obtain ⟨z1, z2, rfl⟩ := z
  rw [tset_ss] at z2
  refine ⟨z1, z2.trans (hrF_c hT hc.1), ?_⟩
  rw [tset_ss, tset_tt]
theorem ctX3_hereA {E : GE} {h : AH} {A : Nat → Nat} (hA : twA A) (M : TW) (a : Nat) (hT : tpW M) (ha : a ≤ M 0 15) : Ct E cX3_here mX3_here [.ref (A 0)] (twO E A (tset M 0 17 a) h) (pN fun r h' => r = hrF (M 14) (M 0 15) a ∧ h' = twO E A (tset M 0 17 a) h) noX := by
  have hT1 := hT.1
  exact ctX3_here hA (tset M 0 17 a) hT (by rw [tset_ss]; omega)
abbrev mX3_readsPart (N : Nat) : GM := (yX3_readsPart, 2, (some .boolean), [], { frames := N + 6, cells := 0, slots := 0, locals := 60 * N + 200 }, 255)
theorem kX3_readsPart (N : Nat) : gCs cX3_readsPart (mX3_readsPart N) 1 := ⟨q2451, q90, q2452, (show gDs yX3_readsPart 1 from ⟨by decide +kernel, by decide +kernel, by decide +kernel⟩), rfl⟩
abbrev mX3_readsAll (N : Nat) : GM := (yX3_readsAll, 2, (some .boolean), [], { frames := N + 6, cells := 0, slots := 0, locals := 60 * N + 200 }, 255)
theorem kX3_readsAll (N : Nat) : gCs cX3_readsAll (mX3_readsAll N) 1 := ⟨q2448, q90, q2449, (show gDs yX3_readsAll 1 from ⟨by decide +kernel, by decide +kernel, by decide +kernel⟩), rfl⟩
abbrev mX3_readsPolicy (N : Nat) : GM := (yX3_readsPolicy, 2, (some .boolean), [], { frames := N + 6, cells := 0, slots := 0, locals := 60 * N + 200 }, 255)
theorem kX3_readsPolicy (N : Nat) : gCs cX3_readsPolicy (mX3_readsPolicy N) 1 := ⟨q2445, q90, q2446, (show gDs yX3_readsPolicy 1 from ⟨by decide +kernel, by decide +kernel, by decide +kernel⟩), rfl⟩
