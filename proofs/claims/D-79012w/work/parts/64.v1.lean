/-! THE VAULT: what it is, told by the twin's memory; operations that change nothing -/
set_option maxRecDepth 100000
/-- temporaries -/
abbrev tP : Nat → Prop := fun u => 1000 ≤ u
/-- the report's chain of failures, from level i on -/
def chO (h : AH) (c d : Nat → Nat) : Nat → List Nat → Prop
  | _, [] => True
  | i, a :: L => (∃ ci, (ci = 21 ∨ ci = 22 ∨ ci = 23) ∧ FO h a ci (c i) (d i) L.head?) ∧ chO h c d (i + 1) L
theorem chO.fr {h h' : AH} {c d : Nat → Nat} {P : Nat → Prop} (hf : Fr P h h') (h9 : ¬ P 9) : ∀ {L : List Nat} {i : Nat}, chO h c d i L → chO h' c d i L
  | [], _, _ => trivial
  | a :: L, i, hc => by
    obtain ⟨⟨ci, h1, u, w, h2⟩, h3⟩ := hc
    exact ⟨⟨ci, h1, u, w, hf _ _ _ h2 h9⟩, chO.fr hf h9 h3⟩
def svO (E : GE) (M : TW) (sv : Option Nat) (h : AH) : Prop := (M 0 3 = 1 ∧ ∃ a, sv = some a ∧ WO E 300 (M 2) a h) ∨ (M 0 3 = 0 ∧ sv = none)
/-- the vault at v: its cells told -/
def VX9 (E : GE) (M : TW) (v : Nat) (L : List Nat) (w b : Nat) (sv : Option Nat) (h : AH) : Prop := h v = some (10, gO 0 [.ref w, va_rf sv, .ref b, .int (nI (M 0 16)), va_rf L.head?]) ∧ WO E 100 (M 1) w h ∧ svO E M sv h ∧ SB E 11 h b (tL (M 14) (M 0 15)) ∧ L.length = M 0 10 ∧ chO h (M 8) (M 9) 0 L
/-- the vault at v, as the twin's memory M says; L: its report's failures -/
def VO (E : GE) (M : TW) (v : Nat) (L : List Nat) (h : AH) : Prop := ∃ w b sv, VX9 E M v L w b sv h
theorem svO.fr {E : GE} {M : TW} {sv : Option Nat} {h h' : AH} {P : Nat → Prop} (hs : svO E M sv h) (hf : Fr P h h') (hp : ∀ u, P u → 1000 ≤ u) : svO E M sv h' := hs.imp (fun z => ⟨z.1, z.2.choose, z.2.choose_spec.1, z.2.choose_spec.2.fr hf (fun t ht z => absurd (hp _ z) (by omega)) (fun z => absurd (hp _ z) (by decide)) (fun z => absurd (hp _ z) (by decide))⟩) id
theorem VX9.fr {E : GE} {M : TW} {v w b : Nat} {sv : Option Nat} {L : List Nat} {h h' : AH} {P : Nat → Prop} (hV : VX9 E M v L w b sv h) (hf : Fr P h h') (hp : ∀ u, P u → 1000 ≤ u) : VX9 E M v L w b sv h' := by
  obtain ⟨h1, h2, h3, h4, h5, h6⟩ := hV
  exact ⟨hf _ _ _ h1 (fun z => absurd (hp _ z) (by decide)), h2.fr hf (fun t ht z => absurd (hp _ z) (by omega)) (fun z => absurd (hp _ z) (by decide)) (fun z => absurd (hp _ z) (by decide)), h3.fr hf hp, h4.fr hf (fun z => absurd (hp _ z) (by decide)) (fun z => absurd (hp _ z) (by decide)), h5, h6.fr hf (fun z => absurd (hp _ z) (by decide))⟩
theorem VO.fr {E : GE} {M : TW} {v : Nat} {L : List Nat} {h h' : AH} (hV : VO E M v L h) (hf : Fr tP h h') : VO E M v L h' := by
  obtain ⟨w, b, sv, z⟩ := hV
  exact ⟨w, b, sv, z.fr hf (fun _ z => z)⟩
theorem VO.at {E : GE} {M : TW} {v : Nat} {L : List Nat} {h : AH} (hV : VO E M v L h) : ∃ fs, h v = some (10, gO 0 fs) := by
  obtain ⟨w, b, sv, h1, -⟩ := hV
  exact ⟨_, h1⟩
theorem VO.rv {E : GE} {M : TW} {v : Nat} {L : List Nat} {h : AH} (hV : VO E M v L h) : gRv E h v "SecretVault" := by
  obtain ⟨w, b, sv, h1, -⟩ := hV
  exact gRv.g h1 rfl rfl
/-- what always holds of the memory -/
def vW (M : TW) : Prop := tWF M ∧ tpW M ∧ (∀ s, s < 4 → plW (M 1) s) ∧ (M 0 3 = 1 → gWF (M 2) ∧ ∀ s, s < 4 → plW (M 2) s) ∧ M 0 3 ≤ 1 ∧ (∀ e ∈ evL (M 1), e < 1000) ∧ ∀ e ∈ evL (M 2), e < 1000
theorem vW.sl {M : TW} (hW : vW M) {s : Nat} (hs : s < 4) : slW (M 1) s := hW.1.2.2.2.2 s hs
theorem vW.wb {M : TW} (hW : vW M) : wB (M 1) := ⟨hW.1.2.1, hW.1.2.2.1⟩
theorem vW.le {M : TW} (hW : vW M) {s : Nat} (hs : s < 4) : gOf (M 1) s 0 ≤ 1 := (hW.sl hs).1
/-- the exception of a code -/
def cX (L : List String) (C : String) (c : Nat) : Prop := 0 < c ∧ L[c - 1]? = some C
theorem Fr.t0 {h h' : AH} (f : Fr F0r h h') : Fr tP h h' := f.mono (fun u z => z.elim)
theorem Fr.tm {h h' : AH} {P : Nat → Prop} (f : Fr P h h') (hp : ∀ u, P u → 1000 ≤ u) : Fr tP h h' := f.mono hp
abbrev mX1_secretIn : GM := (yX1_secretIn, 2, (some (.object "SecretVault$Secret")), [], { frames := 7, cells := 1, slots := 6, locals := 110 }, 255)
theorem kX1_secretIn : gCv cX1_secretIn mX1_secretIn 1 := ⟨q1137, qs8, q67, q1138, ⟨by decide +kernel, by decide +kernel, by decide +kernel⟩, rfl⟩
theorem uX1_secretIn : gCu cX1_secretIn mX1_secretIn 1 := ⟨q1137, q67, q1138, ⟨by decide +kernel, by decide +kernel, by decide +kernel⟩, rfl⟩
set_option maxHeartbeats 400000 in
theorem ctX1_secretIn {E : GE} {h : AH} {v : Nat} {L9 : List Nat} {M : TW} (hV : VO E M v L9 h) (hW : vW M) (s : Nat) (hs : s < 4) : Ct E cX1_secretIn mX1_secretIn [.ref v, .int (nI s)] (h) (pR fun r h' => gOf (M 1) s 0 = 1 ∧ seO E (110 + 30 * s) (M 1) s r h ∧ h' = h) (fun C _ h' => C = "java/util/NoSuchElementException" ∧ gOf (M 1) s 0 = 0 ∧ h' = h) := by
  refine g_enter (own := "SecretVault") [some (.ref v), some (.int (nI s))] (by decide +kernel) rfl rfl (Nat.le_of_ble_eq_true rfl) rfl rfl (fun X => ?_)
  obtain ⟨w, b, sv, hv, ⟨aw, ap, az, ad, fw, fp, fz, x1, x2, x3, x4, x5, x6, x7, x8⟩, hsv, hsb, hlen, hch⟩ := id hV
  have hle := hW.le hs
  rcases x7 s hs with ⟨g1, a, ha, hse⟩ | ⟨g1, hn⟩
  · skip
    first | refine g_aload0 dX1_secretIn_0 ?_ | refine g_aloadQ0 dX1_secretIn_0 ?_ | refine g_aloadN0 dX1_secretIn_0 ?_
    refine g_get (k0 := 0) (by first | assumption | exact g_up_self _ _ _ | (refine g_upf ?_ ?_ <;> assumption) | (refine g_upt ?_ ?_ (by decide) <;> assumption)) in_X1 q577 rfl (by decide) rfl dX1_secretIn_1 ?_
    refine g_getN (k0 := 2) (by first | assumption | exact g_up_self _ _ _ | (refine g_upf ?_ ?_ <;> assumption) | (refine g_upt ?_ ?_ (by decide) <;> assumption)) in_X2 q176 rfl (by decide) rfl dX1_secretIn_4 ?_
    refine g_iload1 dX1_secretIn_7 ?_
    refine g_aald (by first | assumption | exact g_up_self _ _ _ | (refine g_upf ?_ ?_ <;> assumption) | (refine g_upt ?_ ?_ (by decide) <;> assumption)) rfl (by omega) (by omega) dX1_secretIn_8 ?_
    rw [ha]
    refine g_ifnullR dX1_secretIn_9 ?_
    refine g_iconst (nI 1) dX1_secretIn_12 (by decide) ?_
    refine g_goto (tgt := 17) dX1_secretIn_13 (by decide) ?_
    refine g_callS (ctX1_requireElement 1 (by decide)) kX1_requireElement q1139 (by decide) ⟨Nat.le_of_ble_eq_true rfl, Nat.le_of_ble_eq_true rfl⟩ rfl (Nat.le_of_ble_eq_true rfl) dX1_secretIn_17 (fun C_ q_ h2_ px => by obtain ⟨rfl, c_17, rfl⟩ := px; exact absurd c_17 (by decide)) (k_v (fun h_17 p_17 => ?_))
    obtain ⟨b_17, z_17⟩ := p_17
    rw [z_17]
    first | refine g_aload0 dX1_secretIn_20 ?_ | refine g_aloadQ0 dX1_secretIn_20 ?_ | refine g_aloadN0 dX1_secretIn_20 ?_
    refine g_get (k0 := 0) (by first | assumption | exact g_up_self _ _ _ | (refine g_upf ?_ ?_ <;> assumption) | (refine g_upt ?_ ?_ (by decide) <;> assumption)) in_X1 q577 rfl (by decide) rfl dX1_secretIn_21 ?_
    refine g_getN (k0 := 2) (by first | assumption | exact g_up_self _ _ _ | (refine g_upf ?_ ?_ <;> assumption) | (refine g_upt ?_ ?_ (by decide) <;> assumption)) in_X2 q176 rfl (by decide) rfl dX1_secretIn_24 ?_
    refine g_iload1 dX1_secretIn_27 ?_
    refine g_aald (by first | assumption | exact g_up_self _ _ _ | (refine g_upf ?_ ?_ <;> assumption) | (refine g_upt ?_ ?_ (by decide) <;> assumption)) rfl (by omega) (by omega) dX1_secretIn_28 ?_
    rw [ha]
    change V _ _ _ _ _ _ _ _ _ _ _ _ [.ref a]
    exact g_aret dX1_secretIn_29 rfl (Or.inl ⟨_, rfl⟩) ⟨_, rfl, g1, hse, rfl⟩
  · skip
    first | refine g_aload0 dX1_secretIn_0 ?_ | refine g_aloadQ0 dX1_secretIn_0 ?_ | refine g_aloadN0 dX1_secretIn_0 ?_
    refine g_get (k0 := 0) (by first | assumption | exact g_up_self _ _ _ | (refine g_upf ?_ ?_ <;> assumption) | (refine g_upt ?_ ?_ (by decide) <;> assumption)) in_X1 q577 rfl (by decide) rfl dX1_secretIn_1 ?_
    refine g_getN (k0 := 2) (by first | assumption | exact g_up_self _ _ _ | (refine g_upf ?_ ?_ <;> assumption) | (refine g_upt ?_ ?_ (by decide) <;> assumption)) in_X2 q176 rfl (by decide) rfl dX1_secretIn_4 ?_
    refine g_iload1 dX1_secretIn_7 ?_
    refine g_aald (by first | assumption | exact g_up_self _ _ _ | (refine g_upf ?_ ?_ <;> assumption) | (refine g_upt ?_ ?_ (by decide) <;> assumption)) rfl (by omega) (by omega) dX1_secretIn_8 ?_
    rw [hn]
    refine g_ifnullN (tgt := 16) dX1_secretIn_9 (by decide) ?_
    refine g_iconst (nI 0) dX1_secretIn_16 (by decide) ?_
    refine g_callS (ctX1_requireElement 0 (by decide)) kX1_requireElement q1139 (by decide) ⟨Nat.le_of_ble_eq_true rfl, Nat.le_of_ble_eq_true rfl⟩ rfl (Nat.le_of_ble_eq_true rfl) dX1_secretIn_17 (fun C_ q_ h2_ px => by obtain ⟨rfl, c_17, rfl⟩ := px; exact gx_out0 rfl ⟨rfl, by omega, rfl⟩ (Nat.le_of_ble_eq_true rfl) (Nat.le_of_ble_eq_true rfl)) (k_v (fun h_17 p_17 => ?_))
    obtain ⟨b_17, z_17⟩ := p_17
    exact absurd b_17 (by decide)
    
abbrev mX1_errorPosition : GM := (yX1_errorPosition, 1, (some .int), [], { frames := 0, cells := 900, slots := 90000, locals := 0 }, 255)
theorem kX1_errorPosition : gCv cX1_errorPosition mX1_errorPosition 0 := ⟨q607, q608, q67, q609, ⟨by decide +kernel, by decide +kernel, by decide +kernel⟩, rfl⟩
theorem uX1_errorPosition : gCu cX1_errorPosition mX1_errorPosition 0 := ⟨q607, q67, q609, ⟨by decide +kernel, by decide +kernel, by decide +kernel⟩, rfl⟩
set_option maxHeartbeats 400000 in
theorem ctX1_errorPosition {E : GE} {h : AH} {v : Nat} {L9 : List Nat} (M : TW)  (hV : VO E M v L9 h) (hW : vW M)   : Ct E cX1_errorPosition mX1_errorPosition [.ref v] (h) (pN fun r h' => xc_errorPosition M  = 0 ∧ r = xv_errorPosition M  ∧ Fr tP h h') (fun C _ h' => cX [] C (xc_errorPosition M ) ∧ Fr tP h h') := by
  refine g_enter (own := "SecretVault") [some (.ref v)] (by decide +kernel) rfl rfl (Nat.le_of_ble_eq_true rfl) rfl rfl (fun X => ?_)
  obtain ⟨w, b, sv, hv, ⟨aw, ap, az, ad, fw, fp, fz, x1, x2, x3, x4, x5, x6, x7, x8⟩, hsv, hsb, hlen, hch⟩ := id hV
  first | refine g_aload0 dX1_errorPosition_0 ?_ | refine g_aloadQ0 dX1_errorPosition_0 ?_ | refine g_aloadN0 dX1_errorPosition_0 ?_
  refine g_get (k0 := 3) (by first | assumption | exact g_up_self _ _ _ | (refine g_upf ?_ ?_ <;> assumption) | (refine g_upt ?_ ?_ (by decide) <;> assumption)) in_X1 q580 rfl (by decide) rfl dX1_errorPosition_1 ?_
  exact g_iret dX1_errorPosition_4 rfl ⟨_, rfl, rfl, rfl, Fr.rf⟩
abbrev mX1_fulfils : GM := (yX1_fulfils, 3, (some .boolean), [], { frames := 421, cells := 900, slots := 90000, locals := 9221 }, 255)
theorem kX1_fulfils : gCv cX1_fulfils mX1_fulfils 2 := ⟨q1892, q1893, q67, q1894, ⟨by decide +kernel, by decide +kernel, by decide +kernel⟩, rfl⟩
theorem uX1_fulfils : gCu cX1_fulfils mX1_fulfils 2 := ⟨q1892, q67, q1894, ⟨by decide +kernel, by decide +kernel, by decide +kernel⟩, rfl⟩
set_option maxHeartbeats 400000 in
theorem ctX1_fulfils {E : GE} {h : AH} {v : Nat} {L9 : List Nat} (M : TW) (s : Nat) (mem : Nat) (hV : VO E M v L9 h) (hW : vW M) (hs : s < 4294967296) (hmem : mem < 4294967296)  : Ct E cX1_fulfils mX1_fulfils [.ref v, .int (nI s), .int (nI mem)] (h) (pN fun r h' => xc_fulfils M s mem = 0 ∧ r = xv_fulfils M s mem ∧ Fr tP h h') (fun C _ h' => cX ["java/lang/IndexOutOfBoundsException", "java/lang/IllegalArgumentException", "java/util/NoSuchElementException"] C (xc_fulfils M s mem) ∧ Fr tP h h') := by
  refine g_enter (own := "SecretVault") [some (.ref v), some (.int (nI s)), some (.int (nI mem))] (by decide +kernel) rfl rfl (Nat.le_of_ble_eq_true rfl) rfl rfl (fun X => ?_)
  refine g_iload1 dX1_fulfils_0 ?_
  refine g_iconst (nI 4) dX1_fulfils_1 (by decide) ?_
  refine g_callS (ctX1_requireIndex s 4 (by omega) (by decide)) kX1_requireIndex q917 (by decide) ⟨Nat.le_of_ble_eq_true rfl, Nat.le_of_ble_eq_true rfl⟩ rfl (Nat.le_of_ble_eq_true rfl) dX1_fulfils_2 (fun C_ q_ h2_ px => by obtain ⟨rfl, c_2, rfl⟩ := px; exact gx_out0 rfl ⟨(by unfold cX xc_fulfils; (repeat' split) <;> first | exact ⟨Nat.zero_lt_succ _, rfl⟩ | (exfalso; omega)), Fr.rf⟩ (Nat.le_of_ble_eq_true rfl) (Nat.le_of_ble_eq_true rfl)) (k_v (fun h_2 p_2 => ?_))
  obtain ⟨i_2, z_2⟩ := p_2
  rw [z_2]
  refine g_iload2 dX1_fulfils_5 ?_
  refine g_callS (ctX1_requireMembers mem (by omega)) kX1_requireMembers q1164 (by decide) ⟨Nat.le_of_ble_eq_true rfl, Nat.le_of_ble_eq_true rfl⟩ rfl (Nat.le_of_ble_eq_true rfl) dX1_fulfils_6 (fun C_ q_ h2_ px => by obtain ⟨rfl, c_6, rfl⟩ := px; exact gx_out0 rfl ⟨(by unfold cX xc_fulfils; (repeat' split) <;> first | exact ⟨Nat.zero_lt_succ _, rfl⟩ | (exfalso; omega)), Fr.rf⟩ (Nat.le_of_ble_eq_true rfl) (Nat.le_of_ble_eq_true rfl)) (k_v (fun h_6 p_6 => ?_))
  obtain ⟨i_6, z_6⟩ := p_6
  rw [z_6]
  first | refine g_aload0 dX1_fulfils_9 ?_ | refine g_aloadQ0 dX1_fulfils_9 ?_ | refine g_aloadN0 dX1_fulfils_9 ?_
  refine g_iload1 dX1_fulfils_10 ?_
  refine g_callVR (ctX1_secretIn hV hW s (by omega)) kX1_secretIn q1135 hV.rv (by decide) ⟨Nat.le_of_ble_eq_true rfl, Nat.le_of_ble_eq_true rfl⟩ rfl (Nat.le_of_ble_eq_true rfl) dX1_fulfils_11 (fun C_ q_ h2_ px => by obtain ⟨rfl, c_11, rfl⟩ := px; exact gx_out0 rfl ⟨(by unfold cX xc_fulfils; (repeat' split) <;> first | exact ⟨Nat.zero_lt_succ _, rfl⟩ | (exfalso; omega)), Fr.rf⟩ (Nat.le_of_ble_eq_true rfl) (Nat.le_of_ble_eq_true rfl)) (k_r (fun r_11 h_11 p_11 => ?_))
  obtain ⟨g1, hse, z_11⟩ := p_11
  rw [z_11]
  refine g_iload2 dX1_fulfils_14 ?_
  refine g_callVR (ctX5_isFulfilled hse (by omega)) kX5_isFulfilled q1895 hse.rv (by decide) ⟨Nat.le_of_ble_eq_true rfl, Nat.le_of_ble_eq_true rfl⟩ rfl (Nat.le_of_ble_eq_true rfl) dX1_fulfils_15 k_x (k_n (fun r_15 h_15 p_15 => ?_))
  obtain ⟨rfl, z_15⟩ := p_15
  rw [z_15]
  have hfl := flF_le (hW.2.2.1 s (by omega)) mem
  exact g_zret dX1_fulfils_18 rfl (nar_zb (by omega)) ⟨_, rfl, (by unfold xc_fulfils; (repeat' split) <;> first | rfl | (exfalso; omega)), rfl, Fr.rf⟩
theorem gO_1 {M : TW} (hW : vW M) {s : Nat} (hs : s < 4) : gOf (M 1) s 0 = 1 ∨ gOf (M 1) s 0 = 0 := by
  have := hW.le hs
  omega
abbrev mX1_commitment : GM := (yX1_commitment, 4, (some .int), [], { frames := 8, cells := 900, slots := 90000, locals := 131 }, 255)
theorem kX1_commitment : gCv cX1_commitment mX1_commitment 2 := ⟨q1525, q1526, q67, q1527, ⟨by decide +kernel, by decide +kernel, by decide +kernel⟩, rfl⟩
theorem uX1_commitment : gCu cX1_commitment mX1_commitment 2 := ⟨q1525, q67, q1527, ⟨by decide +kernel, by decide +kernel, by decide +kernel⟩, rfl⟩
set_option maxHeartbeats 400000 in
theorem ctX1_commitment {E : GE} {h : AH} {v : Nat} {L9 : List Nat} (M : TW) (s : Nat) (i : Nat) (hV : VO E M v L9 h) (hW : vW M) (hs : s < 4294967296) (hi : i < 4294967296)  : Ct E cX1_commitment mX1_commitment [.ref v, .int (nI s), .int (nI i)] (h) (pN fun r h' => xc_commitment M s i = 0 ∧ r = xv_commitment M s i ∧ Fr tP h h') (fun C _ h' => cX ["java/lang/IndexOutOfBoundsException", "java/util/NoSuchElementException", "java/util/NoSuchElementException"] C (xc_commitment M s i) ∧ Fr tP h h') := by
  refine g_enter (own := "SecretVault") [some (.ref v), some (.int (nI s)), some (.int (nI i)), none] (by decide +kernel) rfl rfl (Nat.le_of_ble_eq_true rfl) rfl rfl (fun X => ?_)
  refine g_iload1 dX1_commitment_0 ?_
  refine g_iconst (nI 4) dX1_commitment_1 (by decide) ?_
  refine g_callS (ctX1_requireIndex s 4 (by omega) (by decide)) kX1_requireIndex q917 (by decide) ⟨Nat.le_of_ble_eq_true rfl, Nat.le_of_ble_eq_true rfl⟩ rfl (Nat.le_of_ble_eq_true rfl) dX1_commitment_2 (fun C_ q_ h2_ px => by obtain ⟨rfl, c_2, rfl⟩ := px; exact gx_out0 rfl ⟨(by unfold cX xc_commitment; (repeat' split) <;> first | exact ⟨Nat.zero_lt_succ _, rfl⟩ | (exfalso; omega)), Fr.rf⟩ (Nat.le_of_ble_eq_true rfl) (Nat.le_of_ble_eq_true rfl)) (k_v (fun h_2 p_2 => ?_))
  obtain ⟨i_2, z_2⟩ := p_2
  rw [z_2]
  first | refine g_aload0 dX1_commitment_5 ?_ | refine g_aloadQ0 dX1_commitment_5 ?_ | refine g_aloadN0 dX1_commitment_5 ?_
  refine g_iload1 dX1_commitment_6 ?_
  refine g_callVR (ctX1_secretIn hV hW s (by omega)) kX1_secretIn q1135 hV.rv (by decide) ⟨Nat.le_of_ble_eq_true rfl, Nat.le_of_ble_eq_true rfl⟩ rfl (Nat.le_of_ble_eq_true rfl) dX1_commitment_7 (fun C_ q_ h2_ px => by obtain ⟨rfl, c_7, rfl⟩ := px; exact gx_out0 rfl ⟨(by unfold cX xc_commitment; (repeat' split) <;> first | exact ⟨Nat.zero_lt_succ _, rfl⟩ | (exfalso; omega)), Fr.rf⟩ (Nat.le_of_ble_eq_true rfl) (Nat.le_of_ble_eq_true rfl)) (k_r (fun r_7 h_7 p_7 => ?_))
  obtain ⟨g1, hse, z_7⟩ := p_7
  rw [z_7]
  first | refine g_astore3 dX1_commitment_10 (by decide) ?_ | refine g_astoreQ3 dX1_commitment_10 (by decide) ?_ | refine g_astoreN3 dX1_commitment_10 (by decide) ?_
  obtain ⟨cc_, bb_, pp_, fc, fs_, y1, y2, y3, y4, y5, y6⟩ := id hse
  have hsl := hW.sl (show s < 4 by omega)
  have hk1 := hsl.2.1 g1
  have hk8 := hsl.2.2.1
  refine g_iload2 dX1_commitment_11 ?_
  refine g_iconst (nI 0) dX1_commitment_12 (by decide) ?_
  first | refine g_aload3 dX1_commitment_13 ?_ | refine g_aloadQ3 dX1_commitment_13 ?_ | refine g_aloadN3 dX1_commitment_13 ?_
  refine g_getN (k0 := 0) (by first | assumption | exact g_up_self _ _ _ | (refine g_upf ?_ ?_ <;> assumption) | (refine g_upt ?_ ?_ (by decide) <;> assumption)) in_X5 q657 rfl (by decide) rfl dX1_commitment_14 ?_
  refine g_iconst (nI 1) dX1_commitment_17 (by decide) ?_
  first | refine g_isubN dX1_commitment_18 (by omega) ?_ | refine g_isub dX1_commitment_18 ?_
  refine g_callS (ctX1_in i 0 (gOf (M 1) s 1 - 1) (by omega) (by omega) (by omega)) kX1_in q935 (by decide) ⟨Nat.le_of_ble_eq_true rfl, Nat.le_of_ble_eq_true rfl⟩ rfl (Nat.le_of_ble_eq_true rfl) dX1_commitment_19 k_x (k_n (fun r_19 h_19 p_19 => ?_))
  obtain ⟨b_19, i_19, z_19⟩ := p_19
  rw [z_19]
  refine g_callS (ctX1_requireElement _ (by omega)) kX1_requireElement q1139 (by decide) ⟨Nat.le_of_ble_eq_true rfl, Nat.le_of_ble_eq_true rfl⟩ rfl (Nat.le_of_ble_eq_true rfl) dX1_commitment_22 (fun C_ q_ h2_ px => by obtain ⟨rfl, c_22, rfl⟩ := px; exact gx_out0 rfl ⟨(by unfold cX xc_commitment; (repeat' split) <;> first | exact ⟨Nat.zero_lt_succ _, rfl⟩ | (exfalso; omega)), Fr.rf⟩ (Nat.le_of_ble_eq_true rfl) (Nat.le_of_ble_eq_true rfl)) (k_v (fun h_22 p_22 => ?_))
  obtain ⟨b_22, z_22⟩ := p_22
  rw [z_22]
  first | refine g_aload3 dX1_commitment_25 ?_ | refine g_aloadQ3 dX1_commitment_25 ?_ | refine g_aloadN3 dX1_commitment_25 ?_
  refine g_getN (k0 := 2) (by first | assumption | exact g_up_self _ _ _ | (refine g_upf ?_ ?_ <;> assumption) | (refine g_upt ?_ ?_ (by decide) <;> assumption)) in_X5 q666 rfl (by decide) rfl dX1_commitment_26 ?_
  refine g_iload2 dX1_commitment_29 ?_
  refine g_ialdN (by first | assumption | exact g_up_self _ _ _ | (refine g_upf ?_ ?_ <;> assumption) | (refine g_upt ?_ ?_ (by decide) <;> assumption)) (by omega) (by omega) dX1_commitment_30 ?_
  exact g_iret dX1_commitment_31 rfl ⟨_, rfl, (by unfold xc_commitment; (repeat' split) <;> first | rfl | (exfalso; omega)), y3 i (by omega), Fr.rf⟩
theorem PT.li {E : GE} {S s t l : Nat} {g : Nat → Nat} {h : AH} {nd : List Nat} (hp : PT E S g s t h l nd) : LI E t h l hp.choose := hp.choose_spec.2.1
theorem PT.sz {E : GE} {S s t l : Nat} {g : Nat → Nat} {h : AH} {nd : List Nat} (hp : PT E S g s t h l nd) : hp.choose.length = nd.length := hp.choose_spec.1
theorem tNd_v (M : TW) (L : List Nat) : ∀ i, i < L.length → L[i]? = some (tNd M L 5 i) := fun i hi => by
  rw [tNd_at M L i hi]
  exact List.getElem?_eq_getElem hi
theorem TT {T : Nat} (h : 1000 ≤ T) : ∀ u, (u = T ∨ u = T + 1) → 1000 ≤ u := fun u z => by omega
abbrev mX1_combine : GM := (yX1_combine, 5, (some .int), [], { frames := 8, cells := 900, slots := 90000, locals := 214 }, 255)
theorem kX1_combine : gCv cX1_combine mX1_combine 2 := ⟨q1488, q1489, q67, q1490, ⟨by decide +kernel, by decide +kernel, by decide +kernel⟩, rfl⟩
theorem uX1_combine : gCu cX1_combine mX1_combine 2 := ⟨q1488, q67, q1490, ⟨by decide +kernel, by decide +kernel, by decide +kernel⟩, rfl⟩
set_option maxHeartbeats 400000 in
theorem ctX1_combine {E : GE} {h : AH} {v : Nat} {L9 : List Nat} (M : TW) (s : Nat) (mem : Nat) (hV : VO E M v L9 h) (hW : vW M) (hs : s < 4294967296) (hmem : mem < 4294967296)  : Ct E cX1_combine mX1_combine [.ref v, .int (nI s), .int (nI mem)] (h) (pN fun r h' => xc_combine M s mem = 0 ∧ r = xv_combine M s mem ∧ Fr tP h h') (fun C _ h' => cX ["java/lang/IndexOutOfBoundsException", "java/lang/IllegalArgumentException", "java/util/NoSuchElementException", "java/lang/IllegalStateException"] C (xc_combine M s mem) ∧ Fr tP h h') := by
  refine g_enter (own := "SecretVault") [some (.ref v), some (.int (nI s)), some (.int (nI mem)), none, none] (by decide +kernel) rfl rfl (Nat.le_of_ble_eq_true rfl) rfl rfl (fun X => ?_)
  refine g_iload1 dX1_combine_0 ?_
  refine g_iconst (nI 4) dX1_combine_1 (by decide) ?_
  refine g_callS (ctX1_requireIndex s 4 (by omega) (by decide)) kX1_requireIndex q917 (by decide) ⟨Nat.le_of_ble_eq_true rfl, Nat.le_of_ble_eq_true rfl⟩ rfl (Nat.le_of_ble_eq_true rfl) dX1_combine_2 (fun C_ q_ h2_ px => by obtain ⟨rfl, c_2, rfl⟩ := px; exact gx_out0 rfl ⟨(by unfold cX xc_combine; (repeat' split) <;> first | exact ⟨Nat.zero_lt_succ _, rfl⟩ | (exfalso; omega)), Fr.rf⟩ (Nat.le_of_ble_eq_true rfl) (Nat.le_of_ble_eq_true rfl)) (k_v (fun h_2 p_2 => ?_))
  obtain ⟨i_2, z_2⟩ := p_2
  rw [z_2]
  refine g_iload2 dX1_combine_5 ?_
  refine g_callS (ctX1_requireMembers mem (by omega)) kX1_requireMembers q1164 (by decide) ⟨Nat.le_of_ble_eq_true rfl, Nat.le_of_ble_eq_true rfl⟩ rfl (Nat.le_of_ble_eq_true rfl) dX1_combine_6 (fun C_ q_ h2_ px => by obtain ⟨rfl, c_6, rfl⟩ := px; exact gx_out0 rfl ⟨(by unfold cX xc_combine; (repeat' split) <;> first | exact ⟨Nat.zero_lt_succ _, rfl⟩ | (exfalso; omega)), Fr.rf⟩ (Nat.le_of_ble_eq_true rfl) (Nat.le_of_ble_eq_true rfl)) (k_v (fun h_6 p_6 => ?_))
  obtain ⟨i_6, z_6⟩ := p_6
  rw [z_6]
  first | refine g_aload0 dX1_combine_9 ?_ | refine g_aloadQ0 dX1_combine_9 ?_ | refine g_aloadN0 dX1_combine_9 ?_
  refine g_iload1 dX1_combine_10 ?_
  refine g_callVR (ctX1_secretIn hV hW s (by omega)) kX1_secretIn q1135 hV.rv (by decide) ⟨Nat.le_of_ble_eq_true rfl, Nat.le_of_ble_eq_true rfl⟩ rfl (Nat.le_of_ble_eq_true rfl) dX1_combine_11 (fun C_ q_ h2_ px => by obtain ⟨rfl, c_11, rfl⟩ := px; exact gx_out0 rfl ⟨(by unfold cX xc_combine; (repeat' split) <;> first | exact ⟨Nat.zero_lt_succ _, rfl⟩ | (exfalso; omega)), Fr.rf⟩ (Nat.le_of_ble_eq_true rfl) (Nat.le_of_ble_eq_true rfl)) (k_r (fun r_11 h_11 p_11 => ?_))
  obtain ⟨g1, hse, z_11⟩ := p_11
  rw [z_11]
  first | refine g_astore3 dX1_combine_14 (by decide) ?_ | refine g_astoreQ3 dX1_combine_14 (by decide) ?_ | refine g_astoreN3 dX1_combine_14 (by decide) ?_
  first | refine g_aload3 dX1_combine_15 ?_ | refine g_aloadQ3 dX1_combine_15 ?_ | refine g_aloadN3 dX1_combine_15 ?_
  refine g_iload2 dX1_combine_16 ?_
  refine g_callVR (ctX5_sharesOf 1000 mem hse (hW.sl (by omega)) g1 (by omega) (by omega) (by decide)) kX5_sharesOf q960 hse.rv (by decide) ⟨Nat.le_of_ble_eq_true rfl, Nat.le_of_ble_eq_true rfl⟩ rfl (Nat.le_of_ble_eq_true rfl) dX1_combine_17 k_x (k_r (fun r_17 h_17 p_17 => ?_))
  obtain ⟨hp_, f_17⟩ := p_17
  have F_17 : Fr tP h h_17 := f_17.tm (TT (Nat.le_refl _))
  have hse2 := hse.fr f_17 (fun t ht => by omega) (by decide) (by decide)
  obtain ⟨cc_, bb_, pp_, fc, fs_, y1, y2, y3, y4, y5, y6⟩ := id hse2
  have hsz := hp_.sz
  have hsl := hW.sl (show s < 4 by omega)
  have hk8 := hsl.2.2.1
  first | refine g_astore4 dX1_combine_20 (by decide) ?_ | refine g_astoreQ4 dX1_combine_20 (by decide) ?_ | refine g_astoreN4 dX1_combine_20 (by decide) ?_
  first | refine g_aload4 dX1_combine_22 ?_ | refine g_aloadQ4 dX1_combine_22 ?_ | refine g_aloadN4 dX1_combine_22 ?_
  refine g_callF (ctJ21_size _ hp_.li) uJ21_size q1017 q1020 ⟨q1019, q1018, q1023, q1021, q994⟩ ⟨⟨by decide, by decide⟩, rfl⟩ (LI.at hp_.li).choose_spec rfl (by decide) ⟨Nat.le_of_ble_eq_true rfl, Nat.le_of_ble_eq_true rfl⟩ rfl (Nat.le_of_ble_eq_true rfl) dX1_combine_24 k_x (k_n (fun r_24 h_24 p_24 => ?_))
  obtain ⟨rfl, z_24⟩ := p_24
  rw [z_24]
  have hl32 := hp_.li.1
  first | refine g_aload3 dX1_combine_29 ?_ | refine g_aloadQ3 dX1_combine_29 ?_ | refine g_aloadN3 dX1_combine_29 ?_
  refine g_getN (k0 := 0) (by first | assumption | exact g_up_self _ _ _ | (refine g_upf ?_ ?_ <;> assumption) | (refine g_upt ?_ ?_ (by decide) <;> assumption)) in_X5 q657 rfl (by decide) rfl dX1_combine_30 ?_
  first | refine g_icmpN_lt (tgt := 40) dX1_combine_33 (by decide) (by omega) (by omega) (fun c_33 => ?_) (fun c_33 => ?_) | refine g_icmp_lt (tgt := 40) dX1_combine_33 (by decide) (fun c_33 => ?_) (fun c_33 => ?_)
  · refine g_iconst (nI 0) dX1_combine_40 (by decide) ?_
    refine g_callS (ctX1_requireState _ (by omega)) kX1_requireState q1080 (by decide) ⟨Nat.le_of_ble_eq_true rfl, Nat.le_of_ble_eq_true rfl⟩ rfl (Nat.le_of_ble_eq_true rfl) dX1_combine_41 (fun C_ q_ h2_ px => by obtain ⟨rfl, c_41, rfl⟩ := px; exact gx_out0 rfl ⟨(by unfold cX xc_combine; (repeat' split) <;> first | exact ⟨Nat.zero_lt_succ _, rfl⟩ | (exfalso; omega)), F_17⟩ (Nat.le_of_ble_eq_true rfl) (Nat.le_of_ble_eq_true rfl)) (k_v (fun h_41 p_41 => ?_))
    obtain ⟨b_41, z_41⟩ := p_41
    rw [z_41]
    first | refine g_aload3 dX1_combine_44 ?_ | refine g_aloadQ3 dX1_combine_44 ?_ | refine g_aloadN3 dX1_combine_44 ?_
    first | refine g_aload4 dX1_combine_45 ?_ | refine g_aloadQ4 dX1_combine_45 ?_ | refine g_aloadN4 dX1_combine_45 ?_
    refine g_iconst (nI 0) dX1_combine_47 (by decide) ?_
    refine g_callVR (ctX5_interpolated (tNd M (tlL (M 1) s mem 0 24) 5) 0 hse2 (hW.sl (by omega)) g1 hp_ (tNd_v M _) (by omega) (by decide)) kX5_interpolated q1440 hse2.rv (by decide) ⟨Nat.le_of_ble_eq_true rfl, Nat.le_of_ble_eq_true rfl⟩ rfl (Nat.le_of_ble_eq_true rfl) dX1_combine_48 k_x (k_n (fun r_48 h_48 p_48 => ?_))
    obtain ⟨rfl, z_48⟩ := p_48
    rw [z_48]
    exact g_iret dX1_combine_51 rfl ⟨_, rfl, (by unfold xc_combine; (repeat' split) <;> first | rfl | (exfalso; omega)), rfl, F_17⟩
  · refine g_iconst (nI 1) dX1_combine_36 (by decide) ?_
    refine g_goto (tgt := 41) dX1_combine_37 (by decide) ?_
    refine g_callS (ctX1_requireState _ (by omega)) kX1_requireState q1080 (by decide) ⟨Nat.le_of_ble_eq_true rfl, Nat.le_of_ble_eq_true rfl⟩ rfl (Nat.le_of_ble_eq_true rfl) dX1_combine_41 (fun C_ q_ h2_ px => by obtain ⟨rfl, c_41, rfl⟩ := px; exact gx_out0 rfl ⟨(by unfold cX xc_combine; (repeat' split) <;> first | exact ⟨Nat.zero_lt_succ _, rfl⟩ | (exfalso; omega)), F_17⟩ (Nat.le_of_ble_eq_true rfl) (Nat.le_of_ble_eq_true rfl)) (k_v (fun h_41 p_41 => ?_))
    obtain ⟨b_41, z_41⟩ := p_41
    rw [z_41]
    first | refine g_aload3 dX1_combine_44 ?_ | refine g_aloadQ3 dX1_combine_44 ?_ | refine g_aloadN3 dX1_combine_44 ?_
    first | refine g_aload4 dX1_combine_45 ?_ | refine g_aloadQ4 dX1_combine_45 ?_ | refine g_aloadN4 dX1_combine_45 ?_
    refine g_iconst (nI 0) dX1_combine_47 (by decide) ?_
    refine g_callVR (ctX5_interpolated (tNd M (tlL (M 1) s mem 0 24) 5) 0 hse2 (hW.sl (by omega)) g1 hp_ (tNd_v M _) (by omega) (by decide)) kX5_interpolated q1440 hse2.rv (by decide) ⟨Nat.le_of_ble_eq_true rfl, Nat.le_of_ble_eq_true rfl⟩ rfl (Nat.le_of_ble_eq_true rfl) dX1_combine_48 k_x (k_n (fun r_48 h_48 p_48 => ?_))
    obtain ⟨rfl, z_48⟩ := p_48
    rw [z_48]
    exact g_iret dX1_combine_51 rfl ⟨_, rfl, (by unfold xc_combine; (repeat' split) <;> first | rfl | (exfalso; omega)), rfl, F_17⟩
abbrev mX1_agree : GM := (yX1_agree, 4, (some .boolean), [], { frames := 8, cells := 900, slots := 90000, locals := 214 }, 255)
theorem kX1_agree : gCv cX1_agree mX1_agree 2 := ⟨q1495, q1496, q67, q1497, ⟨by decide +kernel, by decide +kernel, by decide +kernel⟩, rfl⟩
theorem uX1_agree : gCu cX1_agree mX1_agree 2 := ⟨q1495, q67, q1497, ⟨by decide +kernel, by decide +kernel, by decide +kernel⟩, rfl⟩
set_option maxHeartbeats 400000 in
theorem ctX1_agree {E : GE} {h : AH} {v : Nat} {L9 : List Nat} (M : TW) (s : Nat) (mem : Nat) (hV : VO E M v L9 h) (hW : vW M) (hs : s < 4294967296) (hmem : mem < 4294967296)  : Ct E cX1_agree mX1_agree [.ref v, .int (nI s), .int (nI mem)] (h) (pN fun r h' => xc_agree M s mem = 0 ∧ r = xv_agree M s mem ∧ Fr tP h h') (fun C _ h' => cX ["java/lang/IndexOutOfBoundsException", "java/lang/IllegalArgumentException", "java/util/NoSuchElementException"] C (xc_agree M s mem) ∧ Fr tP h h') := by
  refine g_enter (own := "SecretVault") [some (.ref v), some (.int (nI s)), some (.int (nI mem)), none] (by decide +kernel) rfl rfl (Nat.le_of_ble_eq_true rfl) rfl rfl (fun X => ?_)
  refine g_iload1 dX1_agree_0 ?_
  refine g_iconst (nI 4) dX1_agree_1 (by decide) ?_
  refine g_callS (ctX1_requireIndex s 4 (by omega) (by decide)) kX1_requireIndex q917 (by decide) ⟨Nat.le_of_ble_eq_true rfl, Nat.le_of_ble_eq_true rfl⟩ rfl (Nat.le_of_ble_eq_true rfl) dX1_agree_2 (fun C_ q_ h2_ px => by obtain ⟨rfl, c_2, rfl⟩ := px; exact gx_out0 rfl ⟨(by unfold cX xc_agree; (repeat' split) <;> first | exact ⟨Nat.zero_lt_succ _, rfl⟩ | (exfalso; omega)), Fr.rf⟩ (Nat.le_of_ble_eq_true rfl) (Nat.le_of_ble_eq_true rfl)) (k_v (fun h_2 p_2 => ?_))
  obtain ⟨i_2, z_2⟩ := p_2
  rw [z_2]
  refine g_iload2 dX1_agree_5 ?_
  refine g_callS (ctX1_requireMembers mem (by omega)) kX1_requireMembers q1164 (by decide) ⟨Nat.le_of_ble_eq_true rfl, Nat.le_of_ble_eq_true rfl⟩ rfl (Nat.le_of_ble_eq_true rfl) dX1_agree_6 (fun C_ q_ h2_ px => by obtain ⟨rfl, c_6, rfl⟩ := px; exact gx_out0 rfl ⟨(by unfold cX xc_agree; (repeat' split) <;> first | exact ⟨Nat.zero_lt_succ _, rfl⟩ | (exfalso; omega)), Fr.rf⟩ (Nat.le_of_ble_eq_true rfl) (Nat.le_of_ble_eq_true rfl)) (k_v (fun h_6 p_6 => ?_))
  obtain ⟨i_6, z_6⟩ := p_6
  rw [z_6]
  first | refine g_aload0 dX1_agree_9 ?_ | refine g_aloadQ0 dX1_agree_9 ?_ | refine g_aloadN0 dX1_agree_9 ?_
  refine g_iload1 dX1_agree_10 ?_
  refine g_callVR (ctX1_secretIn hV hW s (by omega)) kX1_secretIn q1135 hV.rv (by decide) ⟨Nat.le_of_ble_eq_true rfl, Nat.le_of_ble_eq_true rfl⟩ rfl (Nat.le_of_ble_eq_true rfl) dX1_agree_11 (fun C_ q_ h2_ px => by obtain ⟨rfl, c_11, rfl⟩ := px; exact gx_out0 rfl ⟨(by unfold cX xc_agree; (repeat' split) <;> first | exact ⟨Nat.zero_lt_succ _, rfl⟩ | (exfalso; omega)), Fr.rf⟩ (Nat.le_of_ble_eq_true rfl) (Nat.le_of_ble_eq_true rfl)) (k_r (fun r_11 h_11 p_11 => ?_))
  obtain ⟨g1, hse, z_11⟩ := p_11
  rw [z_11]
  first | refine g_astore3 dX1_agree_14 (by decide) ?_ | refine g_astoreQ3 dX1_agree_14 (by decide) ?_ | refine g_astoreN3 dX1_agree_14 (by decide) ?_
  first | refine g_aload3 dX1_agree_15 ?_ | refine g_aloadQ3 dX1_agree_15 ?_ | refine g_aloadN3 dX1_agree_15 ?_
  first | refine g_aload3 dX1_agree_16 ?_ | refine g_aloadQ3 dX1_agree_16 ?_ | refine g_aloadN3 dX1_agree_16 ?_
  refine g_iload2 dX1_agree_17 ?_
  refine g_callVR (ctX5_sharesOf 1000 mem hse (hW.sl (by omega)) g1 (by omega) (by omega) (by decide)) kX5_sharesOf q960 hse.rv (by decide) ⟨Nat.le_of_ble_eq_true rfl, Nat.le_of_ble_eq_true rfl⟩ rfl (Nat.le_of_ble_eq_true rfl) dX1_agree_18 k_x (k_r (fun r_18 h_18 p_18 => ?_))
  obtain ⟨hp_, f_18⟩ := p_18
  have F_18 : Fr tP h h_18 := f_18.tm (TT (Nat.le_refl _))
  have hse2 := hse.fr f_18 (fun t ht => by omega) (by decide) (by decide)
  refine g_callVR (ctX5_agrees (tNd M (tlL (M 1) s mem 0 24) 5) hse2 (hW.sl (by omega)) g1 hp_ (tNd_v M _)) kX5_agrees q1498 hse2.rv (by decide) ⟨Nat.le_of_ble_eq_true rfl, Nat.le_of_ble_eq_true rfl⟩ rfl (Nat.le_of_ble_eq_true rfl) dX1_agree_21 k_x (k_n (fun r_21 h_21 p_21 => ?_))
  obtain ⟨rfl, z_21⟩ := p_21
  rw [z_21]
  have hag := agF_lt (M 1) s (tNd M (tlL (M 1) s mem 0 24) 5) (gOf (M 1) s 1) ((tlL (M 1) s mem 0 24).length - gOf (M 1) s 1)
  exact g_zret dX1_agree_24 rfl (nar_zb (by omega)) ⟨_, rfl, (by unfold xc_agree; (repeat' split) <;> first | rfl | (exfalso; omega)), rfl, F_18⟩
theorem VX9.wm {E : GE} {M : TW} {v w b : Nat} {sv : Option Nat} {L : List Nat} {h : AH} (hV : VX9 E M v L w b sv h) : WM E 100 (M 1) w h := hV.2.1.m
abbrev mX1_groups : GM := (yX1_groups, 2, (some .int), [], { frames := 422, cells := 900, slots := 90000, locals := 9247 }, 255)
theorem kX1_groups : gCv cX1_groups mX1_groups 1 := ⟨q1972, q1973, q67, q1974, ⟨by decide +kernel, by decide +kernel, by decide +kernel⟩, rfl⟩
theorem uX1_groups : gCu cX1_groups mX1_groups 1 := ⟨q1972, q67, q1974, ⟨by decide +kernel, by decide +kernel, by decide +kernel⟩, rfl⟩
set_option maxHeartbeats 400000 in
theorem ctX1_groups {E : GE} {h : AH} {v : Nat} {L9 : List Nat} (M : TW) (s : Nat) (hV : VO E M v L9 h) (hW : vW M) (hs : s < 4294967296)  : Ct E cX1_groups mX1_groups [.ref v, .int (nI s)] (h) (pN fun r h' => xc_groups M s = 0 ∧ r = xv_groups M s ∧ Fr tP h h') (fun C _ h' => cX ["java/lang/IndexOutOfBoundsException", "java/util/NoSuchElementException"] C (xc_groups M s) ∧ Fr tP h h') := by
  refine g_enter (own := "SecretVault") [some (.ref v), some (.int (nI s))] (by decide +kernel) rfl rfl (Nat.le_of_ble_eq_true rfl) rfl rfl (fun X => ?_)
  obtain ⟨w, b, sv, hv, ⟨aw, ap, az, ad, fw, fp, fz, x1, x2, x3, x4, x5, x6, x7, x8⟩, hsv, hsb, hlen, hch⟩ := id hV
  refine g_iload1 dX1_groups_0 ?_
  refine g_iconst (nI 4) dX1_groups_1 (by decide) ?_
  refine g_callS (ctX1_requireIndex s 4 (by omega) (by decide)) kX1_requireIndex q917 (by decide) ⟨Nat.le_of_ble_eq_true rfl, Nat.le_of_ble_eq_true rfl⟩ rfl (Nat.le_of_ble_eq_true rfl) dX1_groups_2 (fun C_ q_ h2_ px => by obtain ⟨rfl, c_2, rfl⟩ := px; exact gx_out0 rfl ⟨(by unfold cX xc_groups; (repeat' split) <;> first | exact ⟨Nat.zero_lt_succ _, rfl⟩ | (exfalso; omega)), Fr.rf⟩ (Nat.le_of_ble_eq_true rfl) (Nat.le_of_ble_eq_true rfl)) (k_v (fun h_2 p_2 => ?_))
  obtain ⟨i_2, z_2⟩ := p_2
  rw [z_2]
  refine g_new 20 (1010) [.null] in_X22 tyX22_ok q1975 q1976 q118 rfl nwX22 (Nat.le_of_ble_eq_true rfl) (Nat.le_of_ble_eq_true rfl) dX1_groups_5 (fun q_5 f_5 => ?_)
  have F0 : Fr tP h (g_up h q_5 (1010, gO 20 [.null])) := Fr.new f_5
  have hV2 : VX9 E M v L9 w b sv (g_up h q_5 (1010, gO 20 [.null])) := VX9.fr ⟨hv, ⟨aw, ap, az, ad, fw, fp, fz, x1, x2, x3, x4, x5, x6, x7, x8⟩, hsv, hsb, hlen, hch⟩ F0 (fun _ z => z)
  have hv3 := g_upf (z := (1010, gO 20 [.null])) hv f_5
  have hV3 : VO E M v L9 (g_up h q_5 (1010, gO 20 [.null])) := ⟨w, b, sv, hV2⟩
  refine g_dup dX1_groups_8 rfl ?_
  first | refine g_aload0 dX1_groups_9 ?_ | refine g_aloadQ0 dX1_groups_9 ?_ | refine g_aloadN0 dX1_groups_9 ?_
  refine g_get (k0 := 0) (by first | assumption | exact g_up_self _ _ _ | (refine g_upf ?_ ?_ <;> assumption) | (refine g_upt ?_ ?_ (by decide) <;> assumption)) in_X1 q577 rfl (by decide) rfl dX1_groups_10 ?_
  first | refine g_aload0 dX1_groups_13 ?_ | refine g_aloadQ0 dX1_groups_13 ?_ | refine g_aloadN0 dX1_groups_13 ?_
  refine g_iload1 dX1_groups_14 ?_
  refine g_callVR (ctX1_secretIn hV3 hW s (by omega)) kX1_secretIn q1135 hV3.rv (by decide) ⟨Nat.le_of_ble_eq_true rfl, Nat.le_of_ble_eq_true rfl⟩ rfl (Nat.le_of_ble_eq_true rfl) dX1_groups_15 (fun C_ q_ h2_ px => by obtain ⟨rfl, c_15, rfl⟩ := px; exact gx_out0 rfl ⟨(by unfold cX xc_groups; (repeat' split) <;> first | exact ⟨Nat.zero_lt_succ _, rfl⟩ | (exfalso; omega)), F0⟩ (Nat.le_of_ble_eq_true rfl) (Nat.le_of_ble_eq_true rfl)) (k_r (fun r_15 h_15 p_15 => ?_))
  obtain ⟨g1, hse, z_15⟩ := p_15
  rw [z_15]
  refine g_callI (ctX22_init (s := s) (g := M 1) (B := 100) (S := 110 + 30 * s) (g_up_self _ _ _) hV2.wm hW.wb hse (hW.sl (by omega)) g1 ⟨by decide, by omega, by omega⟩) kX22_init q1977 (by decide) ⟨Nat.le_of_ble_eq_true rfl, Nat.le_of_ble_eq_true rfl⟩ rfl (Nat.le_of_ble_eq_true rfl) dX1_groups_18 k_x (k_v (fun h_18 p_18 => ?_))
  obtain ⟨hgr, G_18⟩ := p_18
  have F_18 : Fr tP h h_18 := Fa.frN f_5 G_18
  refine g_callVR (ctX22_count hgr) kX22_count q1988 (gRv.g hgr.choose_spec.choose_spec.1 rfl rfl) (by decide) ⟨Nat.le_of_ble_eq_true rfl, Nat.le_of_ble_eq_true rfl⟩ rfl (Nat.le_of_ble_eq_true rfl) dX1_groups_21 k_x (k_n (fun r_21 h_21 p_21 => ?_))
  obtain ⟨rfl, z_21⟩ := p_21
  rw [z_21]
  exact g_iret dX1_groups_24 rfl ⟨_, rfl, (by unfold xc_groups; (repeat' split) <;> first | rfl | (exfalso; omega)), rfl, F_18⟩
theorem sub_eq0 {k j : Nat} (hk : k < 4294967296) (hj : j < 1000) : (nI k - nI j = 0) ↔ k = j := by
  constructor
  · intro z
    have e : nI k = nI j := by
      have := congrArg (· + nI j) z
      simpa [Int32.sub_add_cancel] using this
    have := congrArg Int32.toUInt32 e
    have z2 : (nI k).toUInt32.toNat = (nI j).toUInt32.toNat := by rw [this]
    simpa [nI, Nat.mod_eq_of_lt hk, Nat.mod_eq_of_lt (show j < 4294967296 by omega)] using z2
  · intro z
    rw [z]
    exact Int32.sub_self _
theorem sub_m1 (k j : Nat) : nI k - nI j + Int32.ofInt (-1) = nI k - nI (j + 1) := by
  rw [show Int32.ofInt (-1) = -1 from rfl, show nI (j + 1) = nI j + 1 from Int32.ofNat_add j 1, Int32.sub_eq_add_neg, Int32.sub_eq_add_neg, Int32.neg_add, Int32.sub_eq_add_neg, Int32.add_assoc]
theorem sub_z (k : Nat) : nI k - nI 0 = nI k := Int32.sub_zero _
abbrev mX1_bad : GM := (yX1_bad, 6, (some .int), [], { frames := 8, cells := 900, slots := 90000, locals := 131 }, 255)
theorem kX1_bad : gCv cX1_bad mX1_bad 2 := ⟨q1696, q1697, q67, q1698, ⟨by decide +kernel, by decide +kernel, by decide +kernel⟩, rfl⟩
theorem uX1_bad : gCu cX1_bad mX1_bad 2 := ⟨q1696, q67, q1698, ⟨by decide +kernel, by decide +kernel, by decide +kernel⟩, rfl⟩
set_option maxHeartbeats 400000 in
theorem ctX1_bad {E : GE} {h : AH} {v : Nat} {L9 : List Nat} (M : TW) (s : Nat) (i : Nat) (hV : VO E M v L9 h) (hW : vW M) (hs : s < 4294967296) (hi : i < 4294967296)  : Ct E cX1_bad mX1_bad [.ref v, .int (nI s), .int (nI i)] (h) (pN fun r h' => xc_bad M s i = 0 ∧ r = xv_bad M s i ∧ Fr tP h h') (fun C _ h' => cX ["java/lang/IndexOutOfBoundsException", "java/util/NoSuchElementException"] C (xc_bad M s i) ∧ Fr tP h h') := by
  refine g_enter (own := "SecretVault") [some (.ref v), some (.int (nI s)), some (.int (nI i)), none, none, none] (by decide +kernel) rfl rfl (Nat.le_of_ble_eq_true rfl) rfl rfl (fun X => ?_)
  have K : ∀ a, seO E (110 + 30 * s) (M 1) s a h → s < 4 → gOf (M 1) s 0 = 1 → ∀ n x, n + x = 24 → bdF (M 1) s i x = 0 → V E cX1_bad "SecretVault" mX1_bad (pN fun r h' => xc_bad M s i = 0 ∧ r = xv_bad M s i ∧ Fr tP h h') (fun C _ h' => cX ["java/lang/IndexOutOfBoundsException", "java/util/NoSuchElementException"] C (xc_bad M s i) ∧ Fr tP h h') X (h) 3 18 17 [some (.ref v), some (.int (nI s)), some (.int (nI i)), some (.ref a), some (.int (nI i - nI (bdN (M 1) s x))), some (.int (nI (x + 1)))] [] := by
    intro a hse hs4 g1
    have hsl := hW.sl hs4
    obtain ⟨cc_, bb_, pp_, fc, fs_, y1, y2, y3, y4, y5, y6⟩ := id hse
    intro n
    induction n with
    | zero =>
      intro x hn hf
      obtain rfl : x = 24 := by omega
      have hf0 : bdF (M 1) s i 24 = 0 := hf
      refine g_iload5 dX1_bad_17 ?_
      refine g_bipush (nI 24) dX1_bad_19 (by decide) ?_
      first | refine g_icmpN_gt (tgt := 60) dX1_bad_21 (by decide) (by omega) (by omega) (fun c_21 => ?_) (fun c_21 => ?_) | refine g_icmp_gt (tgt := 60) dX1_bad_21 (by decide) (fun c_21 => ?_) (fun c_21 => ?_)
      · exact g_throw0 (names := ["java/lang/RuntimeException", "java/lang/Exception"]) (by decide +kernel) (by decide +kernel) q1142 q98 at_SecretVault_NoSuchElementException at_SecretVault_NoSuchElementException_g dX1_bad_60 dX1_bad_63 dX1_bad_64 dX1_bad_67 (fun _ z => nomatch z) (by decide) (Nat.le_of_ble_eq_true rfl) (Nat.le_of_ble_eq_true rfl) (Nat.le_of_ble_eq_true rfl) (fun q => ⟨by unfold cX xc_bad; rw [hf0]; (repeat' split) <;> first | exact ⟨Nat.zero_lt_succ _, rfl⟩ | (exfalso; omega), Fr.rf⟩)
      · omega
    | succ n ih =>
      intro x hn hf
      have hbl := bdN_le (M 1) s x
      rcases y5 (x + 1) (by omega) (by omega) with ⟨z1, q1, z2, z3⟩ | ⟨z1, z2⟩
      · skip
        refine g_iload5 dX1_bad_17 ?_
        refine g_bipush (nI 24) dX1_bad_19 (by decide) ?_
        first | refine g_icmpN_gt (tgt := 60) dX1_bad_21 (by decide) (by omega) (by omega) (fun c_21 => ?_) (fun c_21 => ?_) | refine g_icmp_gt (tgt := 60) dX1_bad_21 (by decide) (fun c_21 => ?_) (fun c_21 => ?_)
        · omega
        · first | refine g_aload3 dX1_bad_24 ?_ | refine g_aloadQ3 dX1_bad_24 ?_ | refine g_aloadN3 dX1_bad_24 ?_
          refine g_getN (k0 := 4) (by first | assumption | exact g_up_self _ _ _ | (refine g_upf ?_ ?_ <;> assumption) | (refine g_upt ?_ ?_ (by decide) <;> assumption)) in_X5 q671 rfl (by decide) rfl dX1_bad_25 ?_
          refine g_iload5 dX1_bad_28 ?_
          refine g_aald (by first | assumption | exact g_up_self _ _ _ | (refine g_upf ?_ ?_ <;> assumption) | (refine g_upt ?_ ?_ (by decide) <;> assumption)) rfl (by omega) (by omega) dX1_bad_30 ?_
          rw [z2]
          refine g_ifnullR dX1_bad_31 ?_
          first | refine g_aload3 dX1_bad_34 ?_ | refine g_aloadQ3 dX1_bad_34 ?_ | refine g_aloadN3 dX1_bad_34 ?_
          refine g_iload5 dX1_bad_35 ?_
          refine g_callVR (ctX5_isGood (x + 1) hse hsl g1 ⟨by omega, by omega⟩) kX5_isGood q1699 hse.rv (by decide) ⟨Nat.le_of_ble_eq_true rfl, Nat.le_of_ble_eq_true rfl⟩ rfl (Nat.le_of_ble_eq_true rfl) dX1_bad_37 k_x (k_n (fun r_37 h_37 p_37 => ?_))
          obtain ⟨rfl, z_37⟩ := p_37
          rw [z_37]
          refine V.wide (k' := 3) (n' := 18) (Nat.le_refl _) (Nat.le_refl _) ?_
          refine g_ifN_ne (tgt := 54) dX1_bad_40 (by decide) (by split <;> omega) (fun c_40 => ?_) (fun c_40 => ?_)
          · have hb : ¬ bdD (M 1) s (x + 1) := fun z => c_40 (if_neg (fun y => z.2 y.2))
            first | refine g_iincN5 1 dX1_bad_54 (by decide) (by decide) ?_ | refine g_iinc5 _ dX1_bad_54 rfl (by decide) ?_
            refine g_goto (tgt := 17) dX1_bad_57 (by decide) ?_
            have hbF : bdF (M 1) s i (x + 1) = 0 := by rw [bdF, if_pos hf]; first | rw [if_neg (fun z => hb z.1)] | rw [if_neg (fun z => hnk z.2)]
            first | (have e1 : bdN (M 1) s (x + 1) = bdN (M 1) s x := by rw [bdN, if_neg hb]; rfl
                     rw [← e1]
                     exact ih (x + 1) (by omega) hbF) | (have e1 : bdN (M 1) s (x + 1) = bdN (M 1) s x + 1 := by rw [bdN, if_pos hbd]
                                                         rw [sub_m1, ← e1]
                                                         exact ih (x + 1) (by omega) hbF)
          · have hbd : bdD (M 1) s (x + 1) := ⟨z1, fun y => by rw [if_pos ⟨z1, y⟩] at c_40; omega⟩
            refine g_iload4 dX1_bad_43 ?_
            refine g_if_ne (tgt := 51) dX1_bad_45 (by decide) (fun c_45 => ?_) (fun c_45 => ?_)
            · have hnk : ¬ bdN (M 1) s x = i := fun z => c_45 ((sub_eq0 hi (by omega)).mpr z.symm)
              refine g_iinc4 _ dX1_bad_51 rfl (by decide) ?_
              first | refine g_iincN5 1 dX1_bad_54 (by decide) (by decide) ?_ | refine g_iinc5 _ dX1_bad_54 rfl (by decide) ?_
              refine g_goto (tgt := 17) dX1_bad_57 (by decide) ?_
              have hbF : bdF (M 1) s i (x + 1) = 0 := by rw [bdF, if_pos hf]; first | rw [if_neg (fun z => hb z.1)] | rw [if_neg (fun z => hnk z.2)]
              first | (have e1 : bdN (M 1) s (x + 1) = bdN (M 1) s x := by rw [bdN, if_neg hb]; rfl
                       rw [← e1]
                       exact ih (x + 1) (by omega) hbF) | (have e1 : bdN (M 1) s (x + 1) = bdN (M 1) s x + 1 := by rw [bdN, if_pos hbd]
                                                           rw [sub_m1, ← e1]
                                                           exact ih (x + 1) (by omega) hbF)
            · have hk := (sub_eq0 hi (by omega)).mp c_45
              have hf9 : bdF (M 1) s i (x + 1) = x + 1 := by rw [bdF, if_pos hf, if_pos ⟨hbd, hk.symm⟩]
              have hf24 : bdF (M 1) s i 24 = x + 1 := by have hq := bdF_up (M 1) s i (x + 1) (23 - x) (by omega); rw [show x + 1 + (23 - x) = 24 by omega] at hq; omega
              refine g_iload5 dX1_bad_48 ?_
              exact g_iret dX1_bad_50 rfl ⟨_, rfl, (by unfold xc_bad; rw [hf24]; (repeat' split) <;> first | rfl | (exfalso; omega)), hf24.symm, Fr.rf⟩
      · have hb : ¬ bdD (M 1) s (x + 1) := fun z => z1 z.1
        refine g_iload5 dX1_bad_17 ?_
        refine g_bipush (nI 24) dX1_bad_19 (by decide) ?_
        first | refine g_icmpN_gt (tgt := 60) dX1_bad_21 (by decide) (by omega) (by omega) (fun c_21 => ?_) (fun c_21 => ?_) | refine g_icmp_gt (tgt := 60) dX1_bad_21 (by decide) (fun c_21 => ?_) (fun c_21 => ?_)
        · omega
        · first | refine g_aload3 dX1_bad_24 ?_ | refine g_aloadQ3 dX1_bad_24 ?_ | refine g_aloadN3 dX1_bad_24 ?_
          refine g_getN (k0 := 4) (by first | assumption | exact g_up_self _ _ _ | (refine g_upf ?_ ?_ <;> assumption) | (refine g_upt ?_ ?_ (by decide) <;> assumption)) in_X5 q671 rfl (by decide) rfl dX1_bad_25 ?_
          refine g_iload5 dX1_bad_28 ?_
          refine g_aald (by first | assumption | exact g_up_self _ _ _ | (refine g_upf ?_ ?_ <;> assumption) | (refine g_upt ?_ ?_ (by decide) <;> assumption)) rfl (by omega) (by omega) dX1_bad_30 ?_
          rw [z2]
          refine g_ifnullN (tgt := 54) dX1_bad_31 (by decide) ?_
          first | refine g_iincN5 1 dX1_bad_54 (by decide) (by decide) ?_ | refine g_iinc5 _ dX1_bad_54 rfl (by decide) ?_
          refine g_goto (tgt := 17) dX1_bad_57 (by decide) ?_
          have hbF : bdF (M 1) s i (x + 1) = 0 := by rw [bdF, if_pos hf]; first | rw [if_neg (fun z => hb z.1)] | rw [if_neg (fun z => hnk z.2)]
          first | (have e1 : bdN (M 1) s (x + 1) = bdN (M 1) s x := by rw [bdN, if_neg hb]; rfl
                   rw [← e1]
                   exact ih (x + 1) (by omega) hbF) | (have e1 : bdN (M 1) s (x + 1) = bdN (M 1) s x + 1 := by rw [bdN, if_pos hbd]
                                                       rw [sub_m1, ← e1]
                                                       exact ih (x + 1) (by omega) hbF)
  refine g_iload1 dX1_bad_0 ?_
  refine g_iconst (nI 4) dX1_bad_1 (by decide) ?_
  refine g_callS (ctX1_requireIndex s 4 (by omega) (by decide)) kX1_requireIndex q917 (by decide) ⟨Nat.le_of_ble_eq_true rfl, Nat.le_of_ble_eq_true rfl⟩ rfl (Nat.le_of_ble_eq_true rfl) dX1_bad_2 (fun C_ q_ h2_ px => by obtain ⟨rfl, c_2, rfl⟩ := px; exact gx_out0 rfl ⟨(by unfold cX xc_bad; (repeat' split) <;> first | exact ⟨Nat.zero_lt_succ _, rfl⟩ | (exfalso; omega)), Fr.rf⟩ (Nat.le_of_ble_eq_true rfl) (Nat.le_of_ble_eq_true rfl)) (k_v (fun h_2 p_2 => ?_))
  obtain ⟨i_2, z_2⟩ := p_2
  rw [z_2]
  first | refine g_aload0 dX1_bad_5 ?_ | refine g_aloadQ0 dX1_bad_5 ?_ | refine g_aloadN0 dX1_bad_5 ?_
  refine g_iload1 dX1_bad_6 ?_
  refine g_callVR (ctX1_secretIn hV hW s (by omega)) kX1_secretIn q1135 hV.rv (by decide) ⟨Nat.le_of_ble_eq_true rfl, Nat.le_of_ble_eq_true rfl⟩ rfl (Nat.le_of_ble_eq_true rfl) dX1_bad_7 (fun C_ q_ h2_ px => by obtain ⟨rfl, c_7, rfl⟩ := px; exact gx_out0 rfl ⟨(by unfold cX xc_bad; (repeat' split) <;> first | exact ⟨Nat.zero_lt_succ _, rfl⟩ | (exfalso; omega)), Fr.rf⟩ (Nat.le_of_ble_eq_true rfl) (Nat.le_of_ble_eq_true rfl)) (k_r (fun r_7 h_7 p_7 => ?_))
  obtain ⟨g1, hse, z_7⟩ := p_7
  rw [z_7]
  first | refine g_astore3 dX1_bad_10 (by decide) ?_ | refine g_astoreQ3 dX1_bad_10 (by decide) ?_ | refine g_astoreN3 dX1_bad_10 (by decide) ?_
  refine g_iload2 dX1_bad_11 ?_
  refine g_istore4 dX1_bad_12 (by decide) ?_
  refine g_iconst (nI 1) dX1_bad_14 (by decide) ?_
  refine g_istore5 dX1_bad_15 (by decide) ?_
  have q9 := K _ hse i_2 g1 24 0 rfl rfl
  rw [show bdN (M 1) s 0 = 0 from rfl, sub_z] at q9
  refine V.wide (k' := 3) (n' := 18) (by decide) (by decide) ?_
  exact q9
