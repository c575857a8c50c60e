/-! THE TWIN: shares that are read -/
set_option maxRecDepth 100000
theorem Ct.imp {E : GE} {cc : ByteArray} {M : GM} {av : List Value} {h : AH} {Po Po' : Option Value → AH → Prop} {Px : String → Nat → AH → Prop} (H : Ct E cc M av h Po Px) (f : ∀ v h', Po v h' → Po' v h') : Ct E cc M av h Po' Px := by
  intro hE p e hl hc hk s m args below hf ha hp hK
  obtain ⟨n, o, h1, h2, h3, h4⟩ := H hE p e hl hc hk s m args below hf ha hp hK
  refine ⟨n, o, h1, h2, h3, ?_⟩
  rcases h4 with ⟨⟨⟨v, h', e1, e2, e3⟩, e4⟩, e5⟩ | h4
  · exact Or.inl ⟨⟨⟨v, h', e1, f v h' e2, e3⟩, e4⟩, e5⟩
  · exact Or.inr h4
/-- an int's contract, weakened -/
theorem Ct.impN {E : GE} {cc : ByteArray} {M : GM} {av : List Value} {h : AH} {Q Q' : Nat → AH → Prop} {Px : String → Nat → AH → Prop} (H : Ct E cc M av h (pN Q) Px) (f : ∀ r h', Q r h' → Q' r h') : Ct E cc M av h (pN Q') Px := H.imp (fun v h' z => by
  obtain ⟨r, e1, e2⟩ := z
  exact ⟨r, e1, f r h' e2⟩)
/-- while a share is read: the tape as in M0, place, number, the share's numbers so far -/
def rdS (M0 M : TW) (a v p b e : Nat) : Prop := tSame M0 M ∧ M 0 17 = a ∧ M 0 18 = v ∧ M 0 19 = p ∧ M 0 20 = b ∧ M 0 21 = e
theorem rdS.p {M0 M : TW} {a v p b e : Nat} (h : rdS M0 M a v p b e) : rdS M0 (tset M 0 19 (M 0 18)) a v v b e := ⟨h.1.f 19 _ (by decide), h.2.1, h.2.2.1, by rw [tset_ss, h.2.2.1], h.2.2.2.2.1, h.2.2.2.2.2⟩
theorem rdS.b {M0 M : TW} {a v p b e : Nat} (h : rdS M0 M a v p b e) : rdS M0 (tset M 0 20 (M 0 18)) a v p v e := ⟨h.1.f 20 _ (by decide), h.2.1, h.2.2.1, h.2.2.2.1, by rw [tset_ss, h.2.2.1], h.2.2.2.2.2⟩
theorem rdS.e {M0 M : TW} {a v p b e : Nat} (h : rdS M0 M a v p b e) : rdS M0 (tset M 0 21 (M 0 18)) a v p b v := ⟨h.1.f 21 _ (by decide), h.2.1, h.2.2.1, h.2.2.2.1, h.2.2.2.2.1, by rw [tset_ss, h.2.2.1]⟩
theorem rdS.a {M0 M : TW} {a v p b e : Nat} (h : rdS M0 M a v p b e) (x : Nat) : rdS M0 (tset M 0 17 x) x v p b e := ⟨h.1.f 17 _ (by decide), tset_ss _ _ _ _, h.2.2.1, h.2.2.2.1, h.2.2.2.2.1, h.2.2.2.2.2⟩
theorem tpW.of {M0 M : TW} (h : tSame M0 M) (hT : tpW M0) : tpW M := by
  obtain ⟨-, -, -, -, h14, -, -, h15, -⟩ := h
  unfold tpW
  rw [h14, h15]
  exact hT
theorem tRN_S (M : TW) (v a : Nat) : tSame M (tRN M v a) := ⟨rfl, rfl, rfl, rfl, rfl, rfl, rfl, rfl, rfl⟩
theorem rnA_le {M : TW} (lo hi : Nat) (hT : tpW M) {a : Nat} (ha : a ≤ M 0 15) : rnA (M 14) (M 0 15) a lo hi ≤ M 0 15 := by
  unfold rnA
  by_cases hq : rnOk (M 14) (M 0 15) a lo hi
  · rw [if_pos hq]
    unfold rnK
    have hk : ∀ u k v, a + k ≤ M 0 15 → a + (rnS (M 14) (M 0 15) a u k v).1 ≤ M 0 15 := by
      intro u
      induction u with
      | zero => intro k v h; exact h
      | succ u ih =>
        intro k v h
        rw [rnS]
        split
        · rename_i hc
          refine ih (k + 1) _ ?_
          have h1 := hc.1.1
          unfold hrF at h1
          split at h1 <;> omega
        · exact h
    exact hk 4 0 0 (by omega)
  · rw [if_neg hq]
    exact ha

set_option maxHeartbeats 400000 in
theorem ctX3_eatsR {E : GE} {h : AH} {A : Nat → Nat} (hA : twA A) (M0 M : TW) (a v p b e c : Nat) (hS : rdS M0 M a v p b e) (hT : tpW M0) (ha : a ≤ M0 0 15) (hc : c < 4294967296) : Ct E cX3_eats mX3_eats [.ref (A 0), .int (nI c)] (twO E A M h) (pN fun r h' => r < 2 ∧ (r = 1 ↔ a < M0 0 15 ∧ M0 14 a = c) ∧ ∃ M2, h' = twO E A M2 h ∧ rdS M0 M2 (a + r) v p b e) noX := by
  have h14 : M 14 = M0 14 := hS.1.2.2.2.2.1
  have h15 : M 0 15 = M0 0 15 := hS.1.2.2.2.2.2.2.2.1
  have h17 : M 0 17 = a := hS.2.1
  have hT1 := hT.1
  refine (ctX3_eats hA M c (hT.of hS.1) (by omega) hc).impN (fun r h' z => ?_)
  obtain ⟨z1, z2, rfl⟩ := z
  rw [h14, h15, h17] at z2
  refine ⟨z1, z2, _, rfl, ?_⟩
  rw [h17]
  exact hS.a (a + r)
set_option maxHeartbeats 400000 in
theorem ctX3_readsNumberR {E : GE} {h : AH} {A : Nat → Nat} (hA : twA A) (M0 M : TW) (a v p b e lo hi : Nat) (hS : rdS M0 M a v p b e) (hT : tpW M0) (ha : a ≤ M0 0 15) (hlo : lo < 2147483648) (hhi : hi < 2147483648) : Ct E cX3_readsNumber mX3_readsNumber [.ref (A 0), .int (nI lo), .int (nI hi)] (twO E A M h) (pN fun r h' => r < 2 ∧ (r = 1 ↔ rnOk (M0 14) (M0 0 15) a lo hi) ∧ ∃ M2, h' = twO E A M2 h ∧ rdS M0 M2 (rnA (M0 14) (M0 0 15) a lo hi) (rnV (M0 14) (M0 0 15) a) p b e) noX := by
  have h14 : M 14 = M0 14 := hS.1.2.2.2.2.1
  have h15 : M 0 15 = M0 0 15 := hS.1.2.2.2.2.2.2.2.1
  have h17 : M 0 17 = a := hS.2.1
  refine (ctX3_readsNumber hA M lo hi (hT.of hS.1) (by omega) hlo hhi).impN (fun r h' z => ?_)
  obtain ⟨z1, z2, rfl⟩ := z
  rw [h14, h15, h17] at z2
  refine ⟨z1, z2, _, rfl, ?_⟩
  rw [h14, h15, h17]
  exact ⟨hS.1.tr (tRN_S M _ _), rfl, rfl, hS.2.2.2.1, hS.2.2.2.2.1, hS.2.2.2.2.2⟩
/-- places, number by number, in a share's text -/
def ps1 (t : Nat → Nat) (n : Nat) : Nat := rnK t n 0
def ps2 (t : Nat → Nat) (n : Nat) : Nat := ps1 t n + 1 + rnK t n (ps1 t n + 1)
def ps3 (t : Nat → Nat) (n : Nat) : Nat := ps2 t n + 1 + rnK t n (ps2 t n + 1)
def psP (t : Nat → Nat) (n : Nat) : Nat := rnV t n 0
def psV (t : Nat → Nat) (n : Nat) : Nat := rnV t n (ps1 t n + 1)
def psE (t : Nat → Nat) (n : Nat) : Nat := rnV t n (ps2 t n + 1)
abbrev etc (t : Nat → Nat) (n a c : Nat) : Prop := a < n ∧ t a = c
/-- is it a share (1: yes), and where it was come to -/
def psR (t : Nat → Nat) (n : Nat) : Nat × Nat :=
  if ¬ rnOk t n 0 1 24 then (0, 0) else
  if ¬ etc t n (ps1 t n) 58 then (0, ps1 t n) else
  if ¬ rnOk t n (ps1 t n + 1) 0 1018 then (0, ps1 t n + 1) else
  if ¬ etc t n (ps2 t n) 64 then (0, ps2 t n) else
  if ¬ rnOk t n (ps2 t n + 1) 1 9999 then (0, ps2 t n + 1) else
  if ¬ etc t n (ps3 t n) 35 then (0, ps3 t n) else
  if ¬ etc t n (ps3 t n + 1) (48 + (7 * psP t n + 3 * psV t n + psE t n) % 10) then (0, ps3 t n + 1) else
  if ps3 t n + 2 = n then (1, ps3 t n + 2) else (0, ps3 t n + 2)
theorem psR_eq (t : Nat → Nat) (n : Nat) : psR t n = (
  if ¬ rnOk t n 0 1 24 then (0, 0) else
  if ¬ etc t n (ps1 t n) 58 then (0, ps1 t n) else
  if ¬ rnOk t n (ps1 t n + 1) 0 1018 then (0, ps1 t n + 1) else
  if ¬ etc t n (ps2 t n) 64 then (0, ps2 t n) else
  if ¬ rnOk t n (ps2 t n + 1) 1 9999 then (0, ps2 t n + 1) else
  if ¬ etc t n (ps3 t n) 35 then (0, ps3 t n) else
  if ¬ etc t n (ps3 t n + 1) (48 + (7 * psP t n + 3 * psV t n + psE t n) % 10) then (0, ps3 t n + 1) else
  if ps3 t n + 2 = n then (1, ps3 t n + 2) else (0, ps3 t n + 2)) := rfl
abbrev mX3_readsShare : GM := (yX3_readsShare, 1, (some .boolean), [], { frames := 2, cells := 0, slots := 0, locals := 45 }, 255)
theorem kX3_readsShare : gCv cX3_readsShare mX3_readsShare 0 := ⟨q2422, qs58, q90, q2423, ⟨by decide +kernel, by decide +kernel, by decide +kernel⟩, rfl⟩
set_option maxHeartbeats 400000 in
theorem ctX3_readsShare {E : GE} {h : AH} {A : Nat → Nat} (hA : twA A) (M0 : TW) (hT : tpW M0) (h17 : M0 0 17 = 0) : Ct E cX3_readsShare mX3_readsShare [.ref (A 0)] (twO E A M0 h) (pN fun r h' => r < 2 ∧ (r = 1 ↔ (psR (M0 14) (M0 0 15)).1 = 1) ∧ ∃ M2, h' = twO E A M2 h ∧ tSame M0 M2 ∧ M2 0 17 = (psR (M0 14) (M0 0 15)).2 ∧ (r = 1 → M2 0 19 = psP (M0 14) (M0 0 15) ∧ M2 0 20 = psV (M0 14) (M0 0 15) ∧ M2 0 21 = psE (M0 14) (M0 0 15) ∧ 1 ≤ M2 0 19 ∧ M2 0 19 ≤ 24 ∧ M2 0 20 < 1019 ∧ M2 0 21 ≤ 9999)) noX := by
  have hS0 : rdS M0 M0 0 (M0 0 18) (M0 0 19) (M0 0 20) (M0 0 21) := ⟨tSame.rf, h17, rfl, rfl, rfl, rfl⟩
  have hT1 := hT.1
  refine g_enter (own := "SecretVaultModel") [some (.ref (A 0))] (by decide +kernel) rfl rfl (Nat.le_of_ble_eq_true rfl) rfl rfl (fun X => ?_)
  first | refine g_aload0 dX3_readsShare_0 ?_ | refine g_aloadQ0 dX3_readsShare_0 ?_ | refine g_aloadN0 dX3_readsShare_0 ?_
  refine g_iconst (nI 1) dX3_readsShare_1 (by decide) ?_
  refine g_bipush (nI 24) dX3_readsShare_2 (by decide) ?_
  refine g_V2n0 (ctX3_readsNumberR hA M0 _ _ _ _ _ _ _ _ hS0 hT (by first | exact Nat.zero_le _ | omega) (by decide) (by decide)) kX3_readsNumber q2424 tw_0 rfl rfl (by decide) ⟨rfl, rfl⟩ ⟨Nat.zero_le _, Nat.zero_le _⟩ (Nat.le_of_ble_eq_true rfl) dX3_readsShare_4 (fun r_4 h_4 p_4 => ?_)
  obtain ⟨hr_4, hi_4, M4, rfl, hS4⟩ := p_4
  first | refine g_ifN_ne (tgt := 12) dX3_readsShare_7 (by decide) (by omega) (fun c_7 => ?_) (fun c_7 => ?_) | refine g_if_ne (tgt := 12) dX3_readsShare_7 (by decide) (fun c_7 => ?_) (fun c_7 => ?_)
  · have ok4 := hi_4.mp (by omega)
    have ea4 : rnA (M0 14) (M0 0 15) (0) 1 24 = ps1 (M0 14) (M0 0 15) := (if_pos ok4).trans (Nat.zero_add _)
    rw [ea4] at hS4
    have le4 : ps1 (M0 14) (M0 0 15) ≤ M0 0 15 := by rw [← ea4]; exact rnA_le _ _ hT (by omega)
    first | refine g_aload0 dX3_readsShare_12 ?_ | refine g_aloadQ0 dX3_readsShare_12 ?_ | refine g_aloadN0 dX3_readsShare_12 ?_
    first | refine g_aload0 dX3_readsShare_13 ?_ | refine g_aloadQ0 dX3_readsShare_13 ?_ | refine g_aloadN0 dX3_readsShare_13 ?_
    refine t_get18 hA q2115 dX3_readsShare_14 ?_
    refine t_put19 hA q2116 dX3_readsShare_17 ?_
    first | refine g_aload0 dX3_readsShare_20 ?_ | refine g_aloadQ0 dX3_readsShare_20 ?_ | refine g_aloadN0 dX3_readsShare_20 ?_
    refine g_bipush (nI 58) dX3_readsShare_21 (by decide) ?_
    refine g_V1n0 (ctX3_eatsR hA M0 _ _ _ _ _ _ _ (rdS.p hS4) hT (by first | exact Nat.zero_le _ | omega) (by omega)) kX3_eats q2432 tw_0 rfl rfl (by decide) ⟨rfl, rfl⟩ ⟨Nat.zero_le _, Nat.zero_le _⟩ (Nat.le_of_ble_eq_true rfl) dX3_readsShare_23 (fun r_23 h_23 p_23 => ?_)
    obtain ⟨hr_23, hi_23, M23, rfl, hS23⟩ := p_23
    first | refine g_ifN_eq (tgt := 40) dX3_readsShare_26 (by decide) (by omega) (fun c_26 => ?_) (fun c_26 => ?_) | refine g_if_eq (tgt := 40) dX3_readsShare_26 (by decide) (fun c_26 => ?_) (fun c_26 => ?_)
    · obtain rfl : r_23 = 0 := by omega
      have no23 := mt hi_23.mpr (show ¬ ((0 : Nat) = 1) by decide)
      rw [Nat.add_zero] at hS23
      have eR := psR_eq (M0 14) (M0 0 15)
      rw [if_neg (fun z => z ok4), if_pos no23] at eR
      have hM := hS23
      refine g_iconst (nI 0) dX3_readsShare_40 (by decide) ?_
      exact g_zret dX3_readsShare_41 rfl (nar_zb (by omega)) ⟨_, rfl, by omega, by first | (rw [eR]; done) | (rw [eR]; exact ⟨fun z => absurd z (by decide), fun z => absurd z (by decide)⟩) | (rw [eR]; exact ⟨fun _ => rfl, fun _ => rfl⟩), _, rfl, hM.1, by rw [eR]; exact hM.2.1, (by first | exact fun z => absurd z (by decide) | exact fun _ => ⟨hM.2.2.2.1, hM.2.2.2.2.1, hM.2.2.2.2.2, by rw [hM.2.2.2.1]; exact ok4.2.1, by rw [hM.2.2.2.1]; exact ok4.2.2, by rw [hM.2.2.2.2.1]; exact Nat.lt_succ_of_le ok34.2.2, by rw [hM.2.2.2.2.2]; exact ok64.2.2⟩)⟩
    · obtain rfl : r_23 = 1 := by omega
      have ok23 := hi_23.mp rfl
      have le23 := ok23.1
      first | refine g_aload0 dX3_readsShare_29 ?_ | refine g_aloadQ0 dX3_readsShare_29 ?_ | refine g_aloadN0 dX3_readsShare_29 ?_
      refine g_iconst (nI 0) dX3_readsShare_30 (by decide) ?_
      refine g_sipush (nI 1018) dX3_readsShare_31 (by decide) ?_
      refine g_V2n0 (ctX3_readsNumberR hA M0 _ _ _ _ _ _ _ _ hS23 hT (by first | exact Nat.zero_le _ | omega) (by decide) (by decide)) kX3_readsNumber q2424 tw_0 rfl rfl (by decide) ⟨rfl, rfl⟩ ⟨Nat.zero_le _, Nat.zero_le _⟩ (Nat.le_of_ble_eq_true rfl) dX3_readsShare_34 (fun r_34 h_34 p_34 => ?_)
      obtain ⟨hr_34, hi_34, M34, rfl, hS34⟩ := p_34
      first | refine g_ifN_ne (tgt := 42) dX3_readsShare_37 (by decide) (by omega) (fun c_37 => ?_) (fun c_37 => ?_) | refine g_if_ne (tgt := 42) dX3_readsShare_37 (by decide) (fun c_37 => ?_) (fun c_37 => ?_)
      · have ok34 := hi_34.mp (by omega)
        have ea34 : rnA (M0 14) (M0 0 15) (ps1 (M0 14) (M0 0 15) + 1) 0 1018 = ps2 (M0 14) (M0 0 15) := if_pos ok34
        rw [ea34] at hS34
        have le34 : ps2 (M0 14) (M0 0 15) ≤ M0 0 15 := by rw [← ea34]; exact rnA_le _ _ hT (by omega)
        first | refine g_aload0 dX3_readsShare_42 ?_ | refine g_aloadQ0 dX3_readsShare_42 ?_ | refine g_aloadN0 dX3_readsShare_42 ?_
        first | refine g_aload0 dX3_readsShare_43 ?_ | refine g_aloadQ0 dX3_readsShare_43 ?_ | refine g_aloadN0 dX3_readsShare_43 ?_
        refine t_get18 hA q2115 dX3_readsShare_44 ?_
        refine t_put20 hA q2117 dX3_readsShare_47 ?_
        first | refine g_aload0 dX3_readsShare_50 ?_ | refine g_aloadQ0 dX3_readsShare_50 ?_ | refine g_aloadN0 dX3_readsShare_50 ?_
        refine g_bipush (nI 64) dX3_readsShare_51 (by decide) ?_
        refine g_V1n0 (ctX3_eatsR hA M0 _ _ _ _ _ _ _ (rdS.b hS34) hT (by first | exact Nat.zero_le _ | omega) (by omega)) kX3_eats q2432 tw_0 rfl rfl (by decide) ⟨rfl, rfl⟩ ⟨Nat.zero_le _, Nat.zero_le _⟩ (Nat.le_of_ble_eq_true rfl) dX3_readsShare_53 (fun r_53 h_53 p_53 => ?_)
        obtain ⟨hr_53, hi_53, M53, rfl, hS53⟩ := p_53
        first | refine g_ifN_eq (tgt := 70) dX3_readsShare_56 (by decide) (by omega) (fun c_56 => ?_) (fun c_56 => ?_) | refine g_if_eq (tgt := 70) dX3_readsShare_56 (by decide) (fun c_56 => ?_) (fun c_56 => ?_)
        · obtain rfl : r_53 = 0 := by omega
          have no53 := mt hi_53.mpr (show ¬ ((0 : Nat) = 1) by decide)
          rw [Nat.add_zero] at hS53
          have eR := psR_eq (M0 14) (M0 0 15)
          rw [if_neg (fun z => z ok4), if_neg (fun z => z ok23), if_neg (fun z => z ok34), if_pos no53] at eR
          have hM := hS53
          refine g_iconst (nI 0) dX3_readsShare_70 (by decide) ?_
          exact g_zret dX3_readsShare_71 rfl (nar_zb (by omega)) ⟨_, rfl, by omega, by first | (rw [eR]; done) | (rw [eR]; exact ⟨fun z => absurd z (by decide), fun z => absurd z (by decide)⟩) | (rw [eR]; exact ⟨fun _ => rfl, fun _ => rfl⟩), _, rfl, hM.1, by rw [eR]; exact hM.2.1, (by first | exact fun z => absurd z (by decide) | exact fun _ => ⟨hM.2.2.2.1, hM.2.2.2.2.1, hM.2.2.2.2.2, by rw [hM.2.2.2.1]; exact ok4.2.1, by rw [hM.2.2.2.1]; exact ok4.2.2, by rw [hM.2.2.2.2.1]; exact Nat.lt_succ_of_le ok34.2.2, by rw [hM.2.2.2.2.2]; exact ok64.2.2⟩)⟩
        · obtain rfl : r_53 = 1 := by omega
          have ok53 := hi_53.mp rfl
          have le53 := ok53.1
          first | refine g_aload0 dX3_readsShare_59 ?_ | refine g_aloadQ0 dX3_readsShare_59 ?_ | refine g_aloadN0 dX3_readsShare_59 ?_
          refine g_iconst (nI 1) dX3_readsShare_60 (by decide) ?_
          refine g_sipush (nI 9999) dX3_readsShare_61 (by decide) ?_
          refine g_V2n0 (ctX3_readsNumberR hA M0 _ _ _ _ _ _ _ _ hS53 hT (by first | exact Nat.zero_le _ | omega) (by decide) (by decide)) kX3_readsNumber q2424 tw_0 rfl rfl (by decide) ⟨rfl, rfl⟩ ⟨Nat.zero_le _, Nat.zero_le _⟩ (Nat.le_of_ble_eq_true rfl) dX3_readsShare_64 (fun r_64 h_64 p_64 => ?_)
          obtain ⟨hr_64, hi_64, M64, rfl, hS64⟩ := p_64
          first | refine g_ifN_ne (tgt := 72) dX3_readsShare_67 (by decide) (by omega) (fun c_67 => ?_) (fun c_67 => ?_) | refine g_if_ne (tgt := 72) dX3_readsShare_67 (by decide) (fun c_67 => ?_) (fun c_67 => ?_)
          · have ok64 := hi_64.mp (by omega)
            have ea64 : rnA (M0 14) (M0 0 15) (ps2 (M0 14) (M0 0 15) + 1) 1 9999 = ps3 (M0 14) (M0 0 15) := if_pos ok64
            rw [ea64] at hS64
            have le64 : ps3 (M0 14) (M0 0 15) ≤ M0 0 15 := by rw [← ea64]; exact rnA_le _ _ hT (by omega)
            first | refine g_aload0 dX3_readsShare_72 ?_ | refine g_aloadQ0 dX3_readsShare_72 ?_ | refine g_aloadN0 dX3_readsShare_72 ?_
            first | refine g_aload0 dX3_readsShare_73 ?_ | refine g_aloadQ0 dX3_readsShare_73 ?_ | refine g_aloadN0 dX3_readsShare_73 ?_
            refine t_get18 hA q2115 dX3_readsShare_74 ?_
            refine t_put21 hA q2118 dX3_readsShare_77 ?_
            first | refine g_aload0 dX3_readsShare_80 ?_ | refine g_aloadQ0 dX3_readsShare_80 ?_ | refine g_aloadN0 dX3_readsShare_80 ?_
            refine g_bipush (nI 35) dX3_readsShare_81 (by decide) ?_
            refine g_V1n0 (ctX3_eatsR hA M0 _ _ _ _ _ _ _ (rdS.e hS64) hT (by first | exact Nat.zero_le _ | omega) (by omega)) kX3_eats q2432 tw_0 rfl rfl (by decide) ⟨rfl, rfl⟩ ⟨Nat.zero_le _, Nat.zero_le _⟩ (Nat.le_of_ble_eq_true rfl) dX3_readsShare_83 (fun r_83 h_83 p_83 => ?_)
            obtain ⟨hr_83, hi_83, M83, rfl, hS83⟩ := p_83
            first | refine g_ifN_eq (tgt := 129) dX3_readsShare_86 (by decide) (by omega) (fun c_86 => ?_) (fun c_86 => ?_) | refine g_if_eq (tgt := 129) dX3_readsShare_86 (by decide) (fun c_86 => ?_) (fun c_86 => ?_)
            · obtain rfl : r_83 = 0 := by omega
              have no83 := mt hi_83.mpr (show ¬ ((0 : Nat) = 1) by decide)
              rw [Nat.add_zero] at hS83
              have eR := psR_eq (M0 14) (M0 0 15)
              rw [if_neg (fun z => z ok4), if_neg (fun z => z ok23), if_neg (fun z => z ok34), if_neg (fun z => z ok53), if_neg (fun z => z ok64), if_pos no83] at eR
              have hM := hS83
              refine g_iconst (nI 0) dX3_readsShare_129 (by decide) ?_
              exact g_zret dX3_readsShare_130 rfl (nar_zb (by omega)) ⟨_, rfl, by omega, by first | (rw [eR]; done) | (rw [eR]; exact ⟨fun z => absurd z (by decide), fun z => absurd z (by decide)⟩) | (rw [eR]; exact ⟨fun _ => rfl, fun _ => rfl⟩), _, rfl, hM.1, by rw [eR]; exact hM.2.1, (by first | exact fun z => absurd z (by decide) | exact fun _ => ⟨hM.2.2.2.1, hM.2.2.2.2.1, hM.2.2.2.2.2, by rw [hM.2.2.2.1]; exact ok4.2.1, by rw [hM.2.2.2.1]; exact ok4.2.2, by rw [hM.2.2.2.2.1]; exact Nat.lt_succ_of_le ok34.2.2, by rw [hM.2.2.2.2.2]; exact ok64.2.2⟩)⟩
            · obtain rfl : r_83 = 1 := by omega
              have ok83 := hi_83.mp rfl
              have le83 := ok83.1
              first | refine g_aload0 dX3_readsShare_89 ?_ | refine g_aloadQ0 dX3_readsShare_89 ?_ | refine g_aloadN0 dX3_readsShare_89 ?_
              refine g_bipush (nI 48) dX3_readsShare_90 (by decide) ?_
              first | refine g_aload0 dX3_readsShare_92 ?_ | refine g_aloadQ0 dX3_readsShare_92 ?_ | refine g_aloadN0 dX3_readsShare_92 ?_
              refine t_get19 hA q2116 dX3_readsShare_93 ?_
              first | refine g_aload0 dX3_readsShare_96 ?_ | refine g_aloadQ0 dX3_readsShare_96 ?_ | refine g_aloadN0 dX3_readsShare_96 ?_
              refine t_get20 hA q2117 dX3_readsShare_97 ?_
              first | refine g_aload0 dX3_readsShare_100 ?_ | refine g_aloadQ0 dX3_readsShare_100 ?_ | refine g_aloadN0 dX3_readsShare_100 ?_
              refine t_get21 hA q2118 dX3_readsShare_101 ?_
              rw [hS83.2.2.2.1, hS83.2.2.2.2.1, hS83.2.2.2.2.2]
              refine g_S3n0 (ctX3_lastDigit _ _ _ (by omega) (by omega) (by omega)) kX3_lastDigit q2405 (by decide) ⟨rfl, rfl⟩ ⟨Nat.zero_le _, Nat.zero_le _⟩ (Nat.le_of_ble_eq_true rfl) dX3_readsShare_104 (fun r_104 h_104 p_104 => ?_)
              obtain ⟨rfl, rfl⟩ := p_104
              first | refine g_iaddN dX3_readsShare_107 ?_ | refine g_iadd dX3_readsShare_107 ?_
              refine g_V1n0 (ctX3_eatsR hA M0 _ _ _ _ _ _ _ hS83 hT (by first | exact Nat.zero_le _ | omega) (by omega)) kX3_eats q2432 tw_0 rfl rfl (by decide) ⟨rfl, rfl⟩ ⟨Nat.zero_le _, Nat.zero_le _⟩ (Nat.le_of_ble_eq_true rfl) dX3_readsShare_108 (fun r_108 h_108 p_108 => ?_)
              obtain ⟨hr_108, hi_108, M108, rfl, hS108⟩ := p_108
              first | refine g_ifN_eq (tgt := 129) dX3_readsShare_111 (by decide) (by omega) (fun c_111 => ?_) (fun c_111 => ?_) | refine g_if_eq (tgt := 129) dX3_readsShare_111 (by decide) (fun c_111 => ?_) (fun c_111 => ?_)
              · obtain rfl : r_108 = 0 := by omega
                have no108 : ¬ etc (M0 14) (M0 0 15) (ps3 (M0 14) (M0 0 15) + 1) (48 + (7 * psP (M0 14) (M0 0 15) + 3 * psV (M0 14) (M0 0 15) + psE (M0 14) (M0 0 15)) % 10) := mt hi_108.mpr (show ¬ ((0 : Nat) = 1) by decide)
                rw [Nat.add_zero] at hS108
                have eR := psR_eq (M0 14) (M0 0 15)
                rw [if_neg (fun z => z ok4), if_neg (fun z => z ok23), if_neg (fun z => z ok34), if_neg (fun z => z ok53), if_neg (fun z => z ok64), if_neg (fun z => z ok83), if_pos no108] at eR
                have hM := hS108
                refine g_iconst (nI 0) dX3_readsShare_129 (by decide) ?_
                exact g_zret dX3_readsShare_130 rfl (nar_zb (by omega)) ⟨_, rfl, by omega, by first | (rw [eR]; done) | (rw [eR]; exact ⟨fun z => absurd z (by decide), fun z => absurd z (by decide)⟩) | (rw [eR]; exact ⟨fun _ => rfl, fun _ => rfl⟩), _, rfl, hM.1, by rw [eR]; exact hM.2.1, (by first | exact fun z => absurd z (by decide) | exact fun _ => ⟨hM.2.2.2.1, hM.2.2.2.2.1, hM.2.2.2.2.2, by rw [hM.2.2.2.1]; exact ok4.2.1, by rw [hM.2.2.2.1]; exact ok4.2.2, by rw [hM.2.2.2.2.1]; exact Nat.lt_succ_of_le ok34.2.2, by rw [hM.2.2.2.2.2]; exact ok64.2.2⟩)⟩
              · obtain rfl : r_108 = 1 := by omega
                have ok108 : etc (M0 14) (M0 0 15) (ps3 (M0 14) (M0 0 15) + 1) (48 + (7 * psP (M0 14) (M0 0 15) + 3 * psV (M0 14) (M0 0 15) + psE (M0 14) (M0 0 15)) % 10) := hi_108.mp rfl
                have le108 := ok108.1
                first | refine g_aload0 dX3_readsShare_114 ?_ | refine g_aloadQ0 dX3_readsShare_114 ?_ | refine g_aloadN0 dX3_readsShare_114 ?_
                refine t_get17 hA q2114 dX3_readsShare_115 ?_
                first | refine g_aload0 dX3_readsShare_118 ?_ | refine g_aloadQ0 dX3_readsShare_118 ?_ | refine g_aloadN0 dX3_readsShare_118 ?_
                refine t_get15 hA q2112 dX3_readsShare_119 ?_
                have e15 : M108 0 15 = M0 0 15 := hS108.1.2.2.2.2.2.2.2.1
                have e17 := hS108.2.1
                first | refine g_icmpN_ne (tgt := 129) dX3_readsShare_122 (by decide) (by omega) (by omega) (fun c_122 => ?_) (fun c_122 => ?_) | refine g_icmpU_ne (tgt := 129) dX3_readsShare_122 (by decide) (by omega) (by omega) (fun c_122 => ?_) (fun c_122 => ?_) | refine g_icmp_ne (tgt := 129) dX3_readsShare_122 (by decide) (fun c_122 => ?_) (fun c_122 => ?_)
                · have c122 : ¬ ps3 (M0 14) (M0 0 15) + 2 = M0 0 15 := by omega
                  have eR := psR_eq (M0 14) (M0 0 15)
                  rw [if_neg (fun z => z ok4), if_neg (fun z => z ok23), if_neg (fun z => z ok34), if_neg (fun z => z ok53), if_neg (fun z => z ok64), if_neg (fun z => z ok83), if_neg (fun z => z ok108), if_neg c122] at eR
                  have hM := hS108
                  refine g_iconst (nI 0) dX3_readsShare_129 (by decide) ?_
                  exact g_zret dX3_readsShare_130 rfl (nar_zb (by omega)) ⟨_, rfl, by omega, by first | (rw [eR]; done) | (rw [eR]; exact ⟨fun z => absurd z (by decide), fun z => absurd z (by decide)⟩) | (rw [eR]; exact ⟨fun _ => rfl, fun _ => rfl⟩), _, rfl, hM.1, by rw [eR]; exact hM.2.1, (by first | exact fun z => absurd z (by decide) | exact fun _ => ⟨hM.2.2.2.1, hM.2.2.2.2.1, hM.2.2.2.2.2, by rw [hM.2.2.2.1]; exact ok4.2.1, by rw [hM.2.2.2.1]; exact ok4.2.2, by rw [hM.2.2.2.2.1]; exact Nat.lt_succ_of_le ok34.2.2, by rw [hM.2.2.2.2.2]; exact ok64.2.2⟩)⟩
                · have c122 : ps3 (M0 14) (M0 0 15) + 2 = M0 0 15 := by omega
                  have eR := psR_eq (M0 14) (M0 0 15)
                  rw [if_neg (fun z => z ok4), if_neg (fun z => z ok23), if_neg (fun z => z ok34), if_neg (fun z => z ok53), if_neg (fun z => z ok64), if_neg (fun z => z ok83), if_neg (fun z => z ok108), if_pos c122] at eR
                  have hM := hS108
                  refine g_iconst (nI 1) dX3_readsShare_125 (by decide) ?_
                  refine g_goto (tgt := 130) dX3_readsShare_126 (by decide) ?_
                  exact g_zret dX3_readsShare_130 rfl (nar_zb (by omega)) ⟨_, rfl, by omega, by first | (rw [eR]; done) | (rw [eR]; exact ⟨fun z => absurd z (by decide), fun z => absurd z (by decide)⟩) | (rw [eR]; exact ⟨fun _ => rfl, fun _ => rfl⟩), _, rfl, hM.1, by rw [eR]; exact hM.2.1, (by first | exact fun z => absurd z (by decide) | exact fun _ => ⟨hM.2.2.2.1, hM.2.2.2.2.1, hM.2.2.2.2.2, by rw [hM.2.2.2.1]; exact ok4.2.1, by rw [hM.2.2.2.1]; exact ok4.2.2, by rw [hM.2.2.2.2.1]; exact Nat.lt_succ_of_le ok34.2.2, by rw [hM.2.2.2.2.2]; exact ok64.2.2⟩)⟩
          · have no64 : ¬ rnOk (M0 14) (M0 0 15) (ps2 (M0 14) (M0 0 15) + 1) 1 9999 := fun z => by have := hi_64.mpr z; omega
            have ea64 : rnA (M0 14) (M0 0 15) (ps2 (M0 14) (M0 0 15) + 1) 1 9999 = ps2 (M0 14) (M0 0 15) + 1 := if_neg no64
            rw [ea64] at hS64
            have eR := psR_eq (M0 14) (M0 0 15)
            rw [if_neg (fun z => z ok4), if_neg (fun z => z ok23), if_neg (fun z => z ok34), if_neg (fun z => z ok53), if_pos no64] at eR
            have hM := hS64
            refine g_iconst (nI 0) dX3_readsShare_70 (by decide) ?_
            exact g_zret dX3_readsShare_71 rfl (nar_zb (by omega)) ⟨_, rfl, by omega, by first | (rw [eR]; done) | (rw [eR]; exact ⟨fun z => absurd z (by decide), fun z => absurd z (by decide)⟩) | (rw [eR]; exact ⟨fun _ => rfl, fun _ => rfl⟩), _, rfl, hM.1, by rw [eR]; exact hM.2.1, (by first | exact fun z => absurd z (by decide) | exact fun _ => ⟨hM.2.2.2.1, hM.2.2.2.2.1, hM.2.2.2.2.2, by rw [hM.2.2.2.1]; exact ok4.2.1, by rw [hM.2.2.2.1]; exact ok4.2.2, by rw [hM.2.2.2.2.1]; exact Nat.lt_succ_of_le ok34.2.2, by rw [hM.2.2.2.2.2]; exact ok64.2.2⟩)⟩
      · have no34 : ¬ rnOk (M0 14) (M0 0 15) (ps1 (M0 14) (M0 0 15) + 1) 0 1018 := fun z => by have := hi_34.mpr z; omega
        have ea34 : rnA (M0 14) (M0 0 15) (ps1 (M0 14) (M0 0 15) + 1) 0 1018 = ps1 (M0 14) (M0 0 15) + 1 := if_neg no34
        rw [ea34] at hS34
        have eR := psR_eq (M0 14) (M0 0 15)
        rw [if_neg (fun z => z ok4), if_neg (fun z => z ok23), if_pos no34] at eR
        have hM := hS34
        refine g_iconst (nI 0) dX3_readsShare_40 (by decide) ?_
        exact g_zret dX3_readsShare_41 rfl (nar_zb (by omega)) ⟨_, rfl, by omega, by first | (rw [eR]; done) | (rw [eR]; exact ⟨fun z => absurd z (by decide), fun z => absurd z (by decide)⟩) | (rw [eR]; exact ⟨fun _ => rfl, fun _ => rfl⟩), _, rfl, hM.1, by rw [eR]; exact hM.2.1, (by first | exact fun z => absurd z (by decide) | exact fun _ => ⟨hM.2.2.2.1, hM.2.2.2.2.1, hM.2.2.2.2.2, by rw [hM.2.2.2.1]; exact ok4.2.1, by rw [hM.2.2.2.1]; exact ok4.2.2, by rw [hM.2.2.2.2.1]; exact Nat.lt_succ_of_le ok34.2.2, by rw [hM.2.2.2.2.2]; exact ok64.2.2⟩)⟩
  · have no4 : ¬ rnOk (M0 14) (M0 0 15) (0) 1 24 := fun z => by have := hi_4.mpr z; omega
    have ea4 : rnA (M0 14) (M0 0 15) (0) 1 24 = 0 := if_neg no4
    rw [ea4] at hS4
    have eR := psR_eq (M0 14) (M0 0 15)
    rw [if_pos no4] at eR
    have hM := hS4
    refine g_iconst (nI 0) dX3_readsShare_10 (by decide) ?_
    exact g_zret dX3_readsShare_11 rfl (nar_zb (by omega)) ⟨_, rfl, by omega, by first | (rw [eR]; done) | (rw [eR]; exact ⟨fun z => absurd z (by decide), fun z => absurd z (by decide)⟩) | (rw [eR]; exact ⟨fun _ => rfl, fun _ => rfl⟩), _, rfl, hM.1, by rw [eR]; exact hM.2.1, (by first | exact fun z => absurd z (by decide) | exact fun _ => ⟨hM.2.2.2.1, hM.2.2.2.2.1, hM.2.2.2.2.2, by rw [hM.2.2.2.1]; exact ok4.2.1, by rw [hM.2.2.2.1]; exact ok4.2.2, by rw [hM.2.2.2.2.1]; exact Nat.lt_succ_of_le ok34.2.2, by rw [hM.2.2.2.2.2]; exact ok64.2.2⟩)⟩
theorem tSame.w {M M1 : TW} (h : tSame M M1) (k x : Nat) (hk : k = 3 ∨ k = 10 ∨ k = 15 ∨ k = 16) : tSame (tset M 0 k x) (tset M1 0 k x) := by
  obtain ⟨h1, h2, h3, h4, h5, h6, h7, h8, h9⟩ := h
  refine ⟨h1, h2, h3, h4, h5, ?_, ?_, ?_, ?_⟩ <;> (rw [tset_s, tset_s]; unfold nup; split <;> first | rfl | assumption)
theorem tSame.share {M M1 : TW} (h : tSame M M1) (s x v e : Nat) : tSame (tShare M s x v e) (tShare M1 s x v e) := ((h.up 1 _ _ (Or.inl rfl)).up 1 _ _ (Or.inl rfl)).up 1 _ _ (Or.inl rfl)
/-- importing: wrongAt, the tape emptied, the share set -/
def imM (M : TW) : TW := tset (tset M 0 16 (if (psR (M 14) (M 0 15)).1 = 1 then 4294967295 else (psR (M 14) (M 0 15)).2)) 0 15 0
abbrev mX3_importShare : GM := (yX3_importShare, 4, (some .int), [], { frames := 3, cells := 0, slots := 0, locals := 65 }, 255)
theorem kX3_importShare : gCv cX3_importShare mX3_importShare 1 := ⟨q2417, q2418, q90, q2419, ⟨by decide +kernel, by decide +kernel, by decide +kernel⟩, rfl⟩
def xc_importShare (M : TW) (s : Nat) : Nat := if ¬ s ≤ 3 then 1 else if gOf (M 1) s 0 = 0 then 2 else if (psR (M 14) (M 0 15)).1 = 1 then 0 else 3
def xv_importShare (M : TW) (s : Nat) : Nat := psP (M 14) (M 0 15)
def xm_importShare (M : TW) (s : Nat) : TW := if s ≤ 3 ∧ ¬ gOf (M 1) s 0 = 0 then (if (psR (M 14) (M 0 15)).1 = 1 then tShare (imM M) s (psP (M 14) (M 0 15)) (psV (M 14) (M 0 15)) (psE (M 14) (M 0 15)) else imM M) else M
set_option maxHeartbeats 400000 in
theorem ctX3_importShare {E : GE} {h : AH} {A : Nat → Nat} (hA : twA A) (M : TW) (s : Nat) (hW : tWF M) (hT : tpW M) (hs : s < 4294967296) : Ct E cX3_importShare mX3_importShare [.ref (A 0), .int (nI s)] (twO E A M h) (pN fun r h' => tEnd E A h (xc_importShare M s ) (xv_importShare M s ) (xm_importShare M s ) r h') noX := by
  refine g_enter (own := "SecretVaultModel") [some (.ref (A 0)), some (.int (nI s)), none, none] (by decide +kernel) rfl rfl (Nat.le_of_ble_eq_true rfl) rfl rfl (fun X => ?_)
  have hB := hW.1
  have hT1 := hT.1
  first | refine g_aload0 dX3_importShare_0 ?_ | refine g_aloadQ0 dX3_importShare_0 ?_ | refine g_aloadN0 dX3_importShare_0 ?_
  refine g_iload1 dX3_importShare_1 ?_
  refine g_V1n0 (ctX3_lacks hA _ _ hB (by omega)) kX3_lacks q2277 tw_0 rfl rfl (by decide) ⟨rfl, rfl⟩ ⟨Nat.zero_le _, Nat.zero_le _⟩ (Nat.le_of_ble_eq_true rfl) dX3_importShare_2 (fun r_2 h_2 p_2 => ?_)
  obtain ⟨hi_2, rfl⟩ := p_2
  refine g_istore2 dX3_importShare_5 (by decide) ?_
  refine g_iload2 dX3_importShare_6 ?_
  first | refine g_ifN_eq (tgt := 16) dX3_importShare_7 (by decide) (by first | omega | exact hB _ _ | (split <;> omega)) (fun c_7 => ?_) (fun c_7 => ?_) | refine g_if_eq (tgt := 16) dX3_importShare_7 (by decide) (fun c_7 => ?_) (fun c_7 => ?_)
  · first | refine g_aload0 dX3_importShare_16 ?_ | refine g_aloadQ0 dX3_importShare_16 ?_ | refine g_aloadN0 dX3_importShare_16 ?_
    refine g_iconst (nI 0) dX3_importShare_17 (by decide) ?_
    refine t_put17 hA q2114 dX3_importShare_18 ?_
    first | refine g_aload0 dX3_importShare_21 ?_ | refine g_aloadQ0 dX3_importShare_21 ?_ | refine g_aloadN0 dX3_importShare_21 ?_
    refine g_V0n0 (ctX3_readsShare hA (tset M 0 17 0) hT (tset_ss _ _ _ _)) kX3_readsShare q2420 tw_0 rfl rfl (by decide) ⟨rfl, rfl⟩ ⟨Nat.zero_le _, Nat.zero_le _⟩ (Nat.le_of_ble_eq_true rfl) dX3_importShare_22 (fun r_22 h_22 p_22 => ?_)
    obtain ⟨hr_22, hi_22, M22, rfl, hM22, h17_22, hp_22⟩ := p_22
    refine g_istore3 dX3_importShare_25 (by decide) ?_
    first | refine g_aload0 dX3_importShare_26 ?_ | refine g_aloadQ0 dX3_importShare_26 ?_ | refine g_aloadN0 dX3_importShare_26 ?_
    refine g_iload3 dX3_importShare_27 ?_
    first | refine g_ifN_eq (tgt := 35) dX3_importShare_28 (by decide) (by first | omega | exact hB _ _ | (split <;> omega)) (fun c_28 => ?_) (fun c_28 => ?_) | refine g_if_eq (tgt := 35) dX3_importShare_28 (by decide) (fun c_28 => ?_) (fun c_28 => ?_)
    · have eg : ¬ (psR (M 14) (M 0 15)).1 = 1 := fun z => by have := hi_22.mpr z; omega
      first | refine g_aload0 dX3_importShare_35 ?_ | refine g_aloadQ0 dX3_importShare_35 ?_ | refine g_aloadN0 dX3_importShare_35 ?_
      refine t_get17 hA q2114 dX3_importShare_36 ?_
      rw [h17_22]
      have e9 : tSame (imM M) (tset (tset M22 0 16 (psR (M 14) (M 0 15)).2) 0 15 0) := by unfold imM; rw [if_neg eg]; exact (((tSame.rf.f 17 0 (by decide)).tr hM22).w 16 _ (by decide)).w 15 _ (by decide)
      refine t_put16 hA q2113 dX3_importShare_39 ?_
      first | refine g_aload0 dX3_importShare_42 ?_ | refine g_aloadQ0 dX3_importShare_42 ?_ | refine g_aloadN0 dX3_importShare_42 ?_
      refine g_iconst (nI 0) dX3_importShare_43 (by decide) ?_
      refine t_put15 hA q2112 dX3_importShare_44 ?_
      refine g_iload3 dX3_importShare_47 ?_
      first | refine g_ifN_ne (tgt := 57) dX3_importShare_48 (by decide) (by first | omega | exact hB _ _ | (split <;> omega)) (fun c_48 => ?_) (fun c_48 => ?_) | refine g_if_ne (tgt := 57) dX3_importShare_48 (by decide) (fun c_48 => ?_) (fun c_48 => ?_)
      · omega
      · first | refine g_aload0 dX3_importShare_51 ?_ | refine g_aloadQ0 dX3_importShare_51 ?_ | refine g_aloadN0 dX3_importShare_51 ?_
        refine g_iconst (nI 3) dX3_importShare_52 (by decide) ?_
        refine g_V1n0 (ctX3_fails hA _ _) kX3_fails q2196 tw_0 rfl rfl (by decide) ⟨rfl, rfl⟩ ⟨Nat.zero_le _, Nat.zero_le _⟩ (Nat.le_of_ble_eq_true rfl) dX3_importShare_53 (fun r_53 h_53 p_53 => ?_)
        obtain ⟨rfl, rfl⟩ := p_53
        exact g_iret dX3_importShare_56 rfl ⟨_, rfl, (by first | exact t_fails (by unfold xc_importShare; (repeat' split) <;> omega) (by omega) (by unfold xm_importShare; rw [if_neg (by omega)]; exact tSame.rf) | exact t_fails (by unfold xc_importShare; (repeat' split) <;> omega) (by omega) (by unfold xm_importShare; rw [if_pos (by omega), if_neg (by omega)]; exact e9) | exact t_done (by unfold xc_importShare; (repeat' split) <;> omega) (by unfold xv_importShare; exact pa) (by unfold xm_importShare; rw [if_pos (by omega), if_pos eg, ← (show _ = psP (M 14) (M 0 15) from pa), ← (show _ = psV (M 14) (M 0 15) from pb), ← (show _ = psE (M 14) (M 0 15) from pc)]; exact e9.share _ _ _ _))⟩
    · have eg : (psR (M 14) (M 0 15)).1 = 1 := hi_22.mp (by omega)
      obtain ⟨pa, pb, pc, pd⟩ := hp_22 (by omega)
      have hp1 : 1 ≤ M22 0 19 ∧ M22 0 19 ≤ 24 := ⟨pd.1, pd.2.1⟩
      refine g_iconst (nI 4294967295) dX3_importShare_31 (by decide) ?_
      refine g_goto (tgt := 39) dX3_importShare_32 (by decide) ?_
      have e9 : tSame (imM M) (tset (tset M22 0 16 4294967295) 0 15 0) := by unfold imM; rw [if_pos eg]; exact (((tSame.rf.f 17 0 (by decide)).tr hM22).w 16 _ (by decide)).w 15 _ (by decide)
      refine t_put16 hA q2113 dX3_importShare_39 ?_
      first | refine g_aload0 dX3_importShare_42 ?_ | refine g_aloadQ0 dX3_importShare_42 ?_ | refine g_aloadN0 dX3_importShare_42 ?_
      refine g_iconst (nI 0) dX3_importShare_43 (by decide) ?_
      refine t_put15 hA q2112 dX3_importShare_44 ?_
      refine g_iload3 dX3_importShare_47 ?_
      first | refine g_ifN_ne (tgt := 57) dX3_importShare_48 (by decide) (by first | omega | exact hB _ _ | (split <;> omega)) (fun c_48 => ?_) (fun c_48 => ?_) | refine g_if_ne (tgt := 57) dX3_importShare_48 (by decide) (fun c_48 => ?_) (fun c_48 => ?_)
      · first | refine g_aload0 dX3_importShare_57 ?_ | refine g_aloadQ0 dX3_importShare_57 ?_ | refine g_aloadN0 dX3_importShare_57 ?_
        refine g_iload1 dX3_importShare_58 ?_
        first | refine g_aload0 dX3_importShare_59 ?_ | refine g_aloadQ0 dX3_importShare_59 ?_ | refine g_aloadN0 dX3_importShare_59 ?_
        refine t_get19 hA q2116 dX3_importShare_60 ?_
        first | refine g_aload0 dX3_importShare_63 ?_ | refine g_aloadQ0 dX3_importShare_63 ?_ | refine g_aloadN0 dX3_importShare_63 ?_
        refine t_get20 hA q2117 dX3_importShare_64 ?_
        first | refine g_aload0 dX3_importShare_67 ?_ | refine g_aloadQ0 dX3_importShare_67 ?_ | refine g_aloadN0 dX3_importShare_67 ?_
        refine t_get21 hA q2118 dX3_importShare_68 ?_
        refine g_V4v0 (ctX3_setsShare hA _ _ _ _ _ (by omega) hp1) kX3_setsShare q2265 tw_0 rfl rfl (by decide) ⟨rfl, rfl⟩ ⟨Nat.zero_le _, Nat.zero_le _⟩ (Nat.le_of_ble_eq_true rfl) dX3_importShare_71 (fun h_71 p_71 => ?_)
        subst p_71
        first | refine g_aload0 dX3_importShare_74 ?_ | refine g_aloadQ0 dX3_importShare_74 ?_ | refine g_aloadN0 dX3_importShare_74 ?_
        first | refine g_aload0 dX3_importShare_75 ?_ | refine g_aloadQ0 dX3_importShare_75 ?_ | refine g_aloadN0 dX3_importShare_75 ?_
        refine t_get19 hA q2116 dX3_importShare_76 ?_
        refine g_V1n0 (ctX3_done hA _ _) kX3_done q2173 tw_0 rfl rfl (by decide) ⟨rfl, rfl⟩ ⟨Nat.zero_le _, Nat.zero_le _⟩ (Nat.le_of_ble_eq_true rfl) dX3_importShare_79 (fun r_79 h_79 p_79 => ?_)
        obtain ⟨rfl, rfl⟩ := p_79
        exact g_iret dX3_importShare_82 rfl ⟨_, rfl, (by first | exact t_fails (by unfold xc_importShare; (repeat' split) <;> omega) (by omega) (by unfold xm_importShare; rw [if_neg (by omega)]; exact tSame.rf) | exact t_fails (by unfold xc_importShare; (repeat' split) <;> omega) (by omega) (by unfold xm_importShare; rw [if_pos (by omega), if_neg (by omega)]; exact e9) | exact t_done (by unfold xc_importShare; (repeat' split) <;> omega) (by unfold xv_importShare; exact pa) (by unfold xm_importShare; rw [if_pos (by omega), if_pos eg, ← (show _ = psP (M 14) (M 0 15) from pa), ← (show _ = psV (M 14) (M 0 15) from pb), ← (show _ = psE (M 14) (M 0 15) from pc)]; exact e9.share _ _ _ _))⟩
      · omega
  · first | refine g_aload0 dX3_importShare_10 ?_ | refine g_aloadQ0 dX3_importShare_10 ?_ | refine g_aloadN0 dX3_importShare_10 ?_
    refine g_iload2 dX3_importShare_11 ?_
    refine g_V1n0 (ctX3_fails hA _ _) kX3_fails q2196 tw_0 rfl rfl (by decide) ⟨rfl, rfl⟩ ⟨Nat.zero_le _, Nat.zero_le _⟩ (Nat.le_of_ble_eq_true rfl) dX3_importShare_12 (fun r_12 h_12 p_12 => ?_)
    obtain ⟨rfl, rfl⟩ := p_12
    exact g_iret dX3_importShare_15 rfl ⟨_, rfl, (by first | exact t_fails (by unfold xc_importShare; (repeat' split) <;> omega) (by omega) (by unfold xm_importShare; rw [if_neg (by omega)]; exact tSame.rf) | exact t_fails (by unfold xc_importShare; (repeat' split) <;> omega) (by omega) (by unfold xm_importShare; rw [if_pos (by omega), if_neg (by omega)]; exact e9) | exact t_done (by unfold xc_importShare; (repeat' split) <;> omega) (by unfold xv_importShare; exact pa) (by unfold xm_importShare; rw [if_pos (by omega), if_pos eg, ← (show _ = psP (M 14) (M 0 15) from pa), ← (show _ = psV (M 14) (M 0 15) from pb), ← (show _ = psE (M 14) (M 0 15) from pc)]; exact e9.share _ _ _ _))⟩
