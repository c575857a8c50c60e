/-! THE WORLD -/
set_option maxRecDepth 100000
/-- events, the oldest ahead -/
def evL (g : Nat → Nat) : List Nat := (List.range (g 17)).map (fun k => g (18 + (g 17 - 1 - k)))
theorem evL_len (g : Nat → Nat) : (evL g).length = g 17 := by
  unfold evL
  rw [List.length_map, List.length_range]
theorem evL_at {g : Nat → Nat} {k : Nat} (h : k < g 17) : (evL g)[k]? = some (g (18 + (g 17 - 1 - k))) := by
  unfold evL
  rw [List.getElem?_map, List.getElem?_range h]
  rfl
/-- what is laid into a slot -/
def slO (E : GE) (B : Nat) (g : Nat → Nat) (s : Nat) (o : Option Nat) (h : AH) : Prop := (gOf g s 0 = 1 ∧ ∃ a, o = some a ∧ seO E (B + 10 + 30 * s) g s a h) ∨ (¬ gOf g s 0 = 1 ∧ o = none)
theorem slO.n {E : GE} {B : Nat} {g : Nat → Nat} {s : Nat} {o : Option Nat} {h : AH} (hs : slO E B g s o h) (ho : o = none) : ¬ gOf g s 0 = 1 := by
  rcases hs with ⟨h1, a, h2, -⟩ | ⟨h1, -⟩
  · rw [ho] at h2
    cases h2
  · exact h1
theorem slO.s {E : GE} {B : Nat} {g : Nat → Nat} {s a : Nat} {o : Option Nat} {h : AH} (hs : slO E B g s o h) (ho : o = some a) : gOf g s 0 = 1 ∧ seO E (B + 10 + 30 * s) g s a h := by
  rcases hs with ⟨h1, a', h2, h3⟩ | ⟨-, h2⟩
  · rw [ho] at h2
    cases h2
    exact ⟨h1, h3⟩
  · rw [ho] at h2
    cases h2
theorem slO.fr {E : GE} {B : Nat} {g : Nat → Nat} {s : Nat} {o : Option Nat} {h h' : AH} {P : Nat → Prop} (hs : slO E B g s o h) (hf : Fr P h h') (hp : ∀ t, t < 28 → ¬ P (B + 10 + 30 * s + t)) (h7 : ¬ P 7) (h8 : ¬ P 8) : slO E B g s o h' := by
  rcases hs with ⟨h1, a, h2, h3⟩ | hs
  · exact Or.inl ⟨h1, a, h2, h3.fr hf hp h7 h8⟩
  · exact Or.inr hs
/-- the world at a, as memory g tells it (tags B .. B + 127) -/
def WX (E : GE) (B : Nat) (g : Nat → Nat) (a aw ap az ad : Nat) (fw fp : Nat → Nat) (fz : Nat → Option Nat) (h : AH) : Prop := h a = some (B, gO 1 [.ref aw, .ref ap, .ref az, .ref ad, .int (nI (g 0))]) ∧ h aw = some (B + 1, gAIn E 8 fw) ∧ (∀ m, m < 8 → fw m = g (1 + m)) ∧ h ap = some (B + 2, gAZn E 8 fp) ∧ (∀ m, m < 8 → fp m = g (9 + m)) ∧ h az = some (B + 3, gAR E 6 4 fz) ∧ (∀ s, s < 4 → slO E B g s (fz s) h) ∧ DQ E (B + 4) h ad (evL g)
def WO (E : GE) (B : Nat) (g : Nat → Nat) (a : Nat) (h : AH) : Prop := ∃ aw ap az ad fw fp fz, WX E B g a aw ap az ad fw fp fz h
theorem WO.fr {E : GE} {B : Nat} {g : Nat → Nat} {a : Nat} {h h' : AH} {P : Nat → Prop} (hw : WO E B g a h) (hf : Fr P h h') (hp : ∀ t, t < 128 → ¬ P (B + t)) (h7 : ¬ P 7) (h8 : ¬ P 8) : WO E B g a h' := by
  obtain ⟨aw, ap, az, ad, fw, fp, fz, z1, z2, z3, z4, z5, z6, z7, z8⟩ := hw
  exact ⟨aw, ap, az, ad, fw, fp, fz, hf _ _ _ z1 (hp 0 (by decide)), hf _ _ _ z2 (hp 1 (by decide)), z3, hf _ _ _ z4 (hp 2 (by decide)), z5, hf _ _ _ z6 (hp 3 (by decide)), fun s hs => (z7 s hs).fr hf (fun t ht => by have := hp (10 + 30 * s + t) (by omega); rw [← Nat.add_assoc, ← Nat.add_assoc] at this; exact this) h7 h8, z8.fr hf (hp 4 (by decide)) (hp 5 (by decide)) h7⟩
theorem WO.rv {E : GE} {B : Nat} {g : Nat → Nat} {a : Nat} {h : AH} (hw : WO E B g a h) : gRv E h a "SecretVault$World" := by
  obtain ⟨aw, ap, az, ad, fw, fp, fz, z1, -⟩ := hw
  exact gRv.g z1 rfl rfl
/-- members and weights of a world -/
def WM (E : GE) (B : Nat) (g : Nat → Nat) (a : Nat) (h : AH) : Prop := ∃ aw ap v3 v4 v5 fw fp, h a = some (B, gO 1 [.ref aw, .ref ap, v3, v4, v5]) ∧ h aw = some (B + 1, gAIn E 8 fw) ∧ (∀ m, m < 8 → fw m = g (1 + m)) ∧ h ap = some (B + 2, gAZn E 8 fp) ∧ (∀ m, m < 8 → fp m = g (9 + m))
theorem WO.m {E : GE} {B : Nat} {g : Nat → Nat} {a : Nat} {h : AH} (hw : WO E B g a h) : WM E B g a h := by
  obtain ⟨aw, ap, az, ad, fw, fp, fz, z1, z2, z3, z4, z5, -⟩ := hw
  exact ⟨aw, ap, _, _, _, fw, fp, z1, z2, z3, z4, z5⟩
theorem WM.rv {E : GE} {B : Nat} {g : Nat → Nat} {a : Nat} {h : AH} (hw : WM E B g a h) : gRv E h a "SecretVault$World" := by
  obtain ⟨aw, ap, v3, v4, v5, fw, fp, z1, -⟩ := hw
  exact gRv.g z1 rfl rfl
abbrev wB (g : Nat → Nat) : Prop := (∀ m, m < 8 → g (1 + m) ≤ 3) ∧ (∀ m, m < 8 → g (9 + m) ≤ 1)
/-- the place is used -/
def usF (g : Nat → Nat) (x : Nat) : Nat := if (x - 1) % 3 < g (1 + (x - 1) / 3) then 1 else 0
abbrev mX2_isUsed : GM := (yX2_isUsed, 3, (some .boolean), [], { frames := 1, cells := 0, slots := 0, locals := 20 }, 255)
theorem kX2_isUsed : gCv cX2_isUsed mX2_isUsed 1 := ⟨q1077, qs6, q68, q1078, ⟨by decide +kernel, by decide +kernel, by decide +kernel⟩, rfl⟩
theorem uX2_isUsed : gCu cX2_isUsed mX2_isUsed 1 := ⟨q1077, q68, q1078, ⟨by decide +kernel, by decide +kernel, by decide +kernel⟩, rfl⟩
set_option maxHeartbeats 400000 in
theorem ctX2_isUsed {E : GE} {h : AH} {B a x : Nat} {g : Nat → Nat} (hm : WM E B g a h) (hb : wB g) (hx : 1 ≤ x ∧ x ≤ 24) : Ct E cX2_isUsed mX2_isUsed [.ref a, .int (nI x)] (h) (pN fun r h' => r = (usF g x) ∧ h' = h) (noX) := by
  refine g_enter (own := "SecretVault$World") [some (.ref a), some (.int (nI x)), none] (by decide +kernel) rfl rfl (Nat.le_of_ble_eq_true rfl) rfl rfl (fun X => ?_)
  obtain ⟨aw, ap, v3, v4, v5, fw, fp, z1, z2, z3, z4, z5⟩ := hm
  have e1 := z3 ((x - 1) / 3) (by omega)
  have e2 := hb.1 ((x - 1) / 3) (by omega)
  refine g_iload1 dX2_isUsed_0 ?_
  refine g_callSN (ctX1_ownerOf _ (by omega)) kX1_ownerOf q1074 (by decide) ⟨Nat.le_of_ble_eq_true rfl, Nat.le_of_ble_eq_true rfl⟩ rfl (Nat.le_of_ble_eq_true rfl) dX2_isUsed_1 k_x (k_n (fun r_1 h_1 p_1 => ?_))
  obtain ⟨rfl, z_1⟩ := p_1
  rw [z_1]
  refine g_istore2 dX2_isUsed_4 (by decide) ?_
  refine g_iload1 dX2_isUsed_5 ?_
  refine g_iload2 dX2_isUsed_6 ?_
  refine g_callSN (ctX1_firstPlace _) kX1_firstPlace q1079 (by decide) ⟨Nat.le_of_ble_eq_true rfl, Nat.le_of_ble_eq_true rfl⟩ rfl (Nat.le_of_ble_eq_true rfl) dX2_isUsed_7 k_x (k_n (fun r_7 h_7 p_7 => ?_))
  obtain ⟨rfl, rfl⟩ := p_7
  first | refine g_isubN dX2_isUsed_10 (by omega) ?_ | refine g_isub dX2_isUsed_10 ?_
  first | refine g_aload0 dX2_isUsed_11 ?_ | refine g_aloadQ0 dX2_isUsed_11 ?_ | refine g_aloadN0 dX2_isUsed_11 ?_
  refine g_get (k0 := 0) (by first | assumption | exact g_up_self _ _ _ | (refine g_upf ?_ ?_ <;> assumption) | (refine g_upt ?_ ?_ (by decide) <;> assumption)) in_X2 q170 rfl (by decide) rfl dX2_isUsed_12 ?_
  refine g_iload2 dX2_isUsed_15 ?_
  refine g_ialdN z2 (by omega) (by omega) dX2_isUsed_16 ?_
  rw [e1]
  first | refine g_icmpN_ge (tgt := 24) dX2_isUsed_17 (by decide) (by omega) (by omega) (fun c_17 => ?_) (fun c_17 => ?_) | refine g_icmp_ge (tgt := 24) dX2_isUsed_17 (by decide) (fun c_17 => ?_) (fun c_17 => ?_)
  · refine g_iconst (nI 0) dX2_isUsed_24 (by decide) ?_
    exact g_zret dX2_isUsed_25 rfl (nar_zb (by omega)) ⟨_, rfl, by unfold usF; first | rw [if_pos (by omega)] | rw [if_neg (by omega)], rfl⟩
  · refine g_iconst (nI 1) dX2_isUsed_20 (by decide) ?_
    refine g_goto (tgt := 25) dX2_isUsed_21 (by decide) ?_
    exact g_zret dX2_isUsed_25 rfl (nar_zb (by omega)) ⟨_, rfl, by unfold usF; first | rw [if_pos (by omega)] | rw [if_neg (by omega)], rfl⟩
theorem usF_lt (g : Nat → Nat) (x : Nat) : usF g x < 2 := by
  unfold usF
  split <;> decide
/-- used places of members that are there, of the first n -/
def uzF (g : Nat → Nat) : Nat → Nat
  | 0 => 0
  | y + 1 => uzF g y + (if plU g (y + 1) then 1 else 0)
theorem uzF_le (g : Nat → Nat) : ∀ y, uzF g y ≤ y
  | 0 => Nat.le_refl _
  | y + 1 => by
    have := uzF_le g y
    unfold uzF
    split <;> omega
theorem uzF_up {g : Nat → Nat} (hb : wB g) : ∀ m, m ≤ 8 → uzF g (3 * m) = upF g m
  | 0, _ => rfl
  | m + 1, h => by
    have ih := uzF_up hb m (by omega)
    have e0 : 3 * (m + 1) = 3 * m + 1 + 1 + 1 := by omega
    have hw := hb.1 m (by omega)
    rw [e0]
    show uzF g (3 * m) + (if plU g (3 * m + 1) then 1 else 0) + (if plU g (3 * m + 1 + 1) then 1 else 0) + (if plU g (3 * m + 1 + 1 + 1) then 1 else 0) = upF g m + (if g (9 + m) = 1 then g (1 + m) else 0)
    rw [ih]
    have d1 : (3 * m + 1 - 1) / 3 = m := by omega
    have d2 : (3 * m + 1 + 1 - 1) / 3 = m := by omega
    have d3 : (3 * m + 1 + 1 + 1 - 1) / 3 = m := by omega
    have r1 : (3 * m + 1 - 1) % 3 = 0 := by omega
    have r2 : (3 * m + 1 + 1 - 1) % 3 = 1 := by omega
    have r3 : (3 * m + 1 + 1 + 1 - 1) % 3 = 2 := by omega
    unfold plU
    rw [d1, d2, d3, r1, r2, r3]
    by_cases h1 : g (9 + m) = 1
    · simp only [h1, true_and, if_true]
      split <;> split <;> split <;> omega
    · simp only [h1, false_and, if_false]
abbrev mX2_usedPlaces : GM := (yX2_usedPlaces, 3, (some .int), [], { frames := 2, cells := 0, slots := 0, locals := 42 }, 255)
theorem kX2_usedPlaces : gCv cX2_usedPlaces mX2_usedPlaces 0 := ⟨q1071, q1072, q68, q1073, ⟨by decide +kernel, by decide +kernel, by decide +kernel⟩, rfl⟩
theorem uX2_usedPlaces : gCu cX2_usedPlaces mX2_usedPlaces 0 := ⟨q1071, q68, q1073, ⟨by decide +kernel, by decide +kernel, by decide +kernel⟩, rfl⟩
set_option maxHeartbeats 400000 in
theorem ctX2_usedPlaces {E : GE} {h : AH} {B a : Nat} {g : Nat → Nat} (hm : WM E B g a h) (hb : wB g) : Ct E cX2_usedPlaces mX2_usedPlaces [.ref a] (h) (pN fun r h' => r = (upF g 8) ∧ h' = h) (noX) := by
  refine g_enter (own := "SecretVault$World") [some (.ref a), none, none] (by decide +kernel) rfl rfl (Nat.le_of_ble_eq_true rfl) rfl rfl (fun X => ?_)
  obtain ⟨aw, ap, v3, v4, v5, fw, fp, z1, z2, z3, z4, z5⟩ := hm
  have hmm : WM E B g a h := ⟨aw, ap, v3, v4, v5, fw, fp, z1, z2, z3, z4, z5⟩
  have e24 : upF g 8 = uzF g 24 := (uzF_up hb 8 (by decide)).symm
  have K : ∀ n y, n + y = 24 → V E cX2_usedPlaces "SecretVault$World" mX2_usedPlaces (pN fun r h' => r = (upF g 8) ∧ h' = h) noX X (h) 0 0 4 [some (.ref a), some (.int (nI (uzF g y))), some (.int (nI (y + 1)))] [] := by
    intro n
    induction n with
    | zero =>
      intro y hn0
      obtain rfl : y = 24 := by omega
      refine g_iload2 dX2_usedPlaces_4 ?_
      refine g_bipush (nI 24) dX2_usedPlaces_5 (by decide) ?_
      first | refine g_icmpN_gt (tgt := 44) dX2_usedPlaces_7 (by decide) (by omega) (by omega) (fun c_7 => ?_) (fun c_7 => ?_) | refine g_icmp_gt (tgt := 44) dX2_usedPlaces_7 (by decide) (fun c_7 => ?_) (fun c_7 => ?_)
      · refine g_iload1 dX2_usedPlaces_44 ?_
        exact g_iret dX2_usedPlaces_45 rfl ⟨_, rfl, e24.symm, rfl⟩
      · omega
    | succ n ih =>
      intro y hn0
      have e1 := z5 ((y + 1 - 1) / 3) (by omega)
      have e2 := hb.2 ((y + 1 - 1) / 3) (by omega)
      have hus := usF_lt g (y + 1)
      have huz := uzF_le g y
      refine g_iload2 dX2_usedPlaces_4 ?_
      refine g_bipush (nI 24) dX2_usedPlaces_5 (by decide) ?_
      first | refine g_icmpN_gt (tgt := 44) dX2_usedPlaces_7 (by decide) (by omega) (by omega) (fun c_7 => ?_) (fun c_7 => ?_) | refine g_icmp_gt (tgt := 44) dX2_usedPlaces_7 (by decide) (fun c_7 => ?_) (fun c_7 => ?_)
      · omega
      · refine g_iload1 dX2_usedPlaces_10 ?_
        first | refine g_aload0 dX2_usedPlaces_11 ?_ | refine g_aloadQ0 dX2_usedPlaces_11 ?_ | refine g_aloadN0 dX2_usedPlaces_11 ?_
        refine g_get (k0 := 1) (by first | assumption | exact g_up_self _ _ _ | (refine g_upf ?_ ?_ <;> assumption) | (refine g_upt ?_ ?_ (by decide) <;> assumption)) in_X2 q172 rfl (by decide) rfl dX2_usedPlaces_12 ?_
        refine g_iload2 dX2_usedPlaces_15 ?_
        refine g_callSN (ctX1_ownerOf _ (by omega)) kX1_ownerOf q1074 (by decide) ⟨Nat.le_of_ble_eq_true rfl, Nat.le_of_ble_eq_true rfl⟩ rfl (Nat.le_of_ble_eq_true rfl) dX2_usedPlaces_16 k_x (k_n (fun r_16 h_16 p_16 => ?_))
        obtain ⟨rfl, rfl⟩ := p_16
        refine g_zaldN z4 (by omega) (by omega) dX2_usedPlaces_19 ?_
        rw [e1]
        first | refine g_ifN_eq (tgt := 35) dX2_usedPlaces_20 (by decide) (by omega) (fun c_20 => ?_) (fun c_20 => ?_) | refine g_if_eq (tgt := 35) dX2_usedPlaces_20 (by decide) (fun c_20 => ?_) (fun c_20 => ?_)
        · refine g_iconst (nI 0) dX2_usedPlaces_35 (by decide) ?_
          first | refine g_iaddN dX2_usedPlaces_36 ?_ | refine g_iadd dX2_usedPlaces_36 ?_
          refine g_istore1 dX2_usedPlaces_37 (by decide) ?_
          first | refine g_iincN2 1 dX2_usedPlaces_38 (by decide) (by decide) ?_ | refine g_iinc2 _ dX2_usedPlaces_38 rfl (by decide) ?_
          refine g_goto (tgt := 4) dX2_usedPlaces_41 (by decide) ?_
          first | (have e : uzF g y + 0 = uzF g (y + 1) := (by show _ = uzF g y + _; rw [if_neg (fun z => by have := z.1; omega)]); rw [e]; exact ih (y + 1) (by omega)) | (have e : uzF g y + 0 = uzF g (y + 1) := (by show _ = uzF g y + _; rw [if_neg (fun z => by unfold usF at c_28; rw [if_pos z.2] at c_28; omega)]); rw [e]; exact ih (y + 1) (by omega)) | (have e : uzF g y + 1 = uzF g (y + 1) := (by show _ = uzF g y + _; rw [if_pos ⟨by omega, by unfold usF at c_28; split at c_28; assumption; omega⟩]); rw [e]; exact ih (y + 1) (by omega))
        · first | refine g_aload0 dX2_usedPlaces_23 ?_ | refine g_aloadQ0 dX2_usedPlaces_23 ?_ | refine g_aloadN0 dX2_usedPlaces_23 ?_
          refine g_iload2 dX2_usedPlaces_24 ?_
          refine g_callVR (ctX2_isUsed (by assumption) (by assumption) ⟨by omega, by omega⟩) kX2_isUsed q1075 (WM.rv (by assumption)) (by decide) ⟨Nat.le_of_ble_eq_true rfl, Nat.le_of_ble_eq_true rfl⟩ rfl (Nat.le_of_ble_eq_true rfl) dX2_usedPlaces_25 k_x (k_n (fun r_25 h_25 p_25 => ?_))
          obtain ⟨rfl, z_25⟩ := p_25
          rw [z_25]
          first | refine g_ifN_eq (tgt := 35) dX2_usedPlaces_28 (by decide) (by omega) (fun c_28 => ?_) (fun c_28 => ?_) | refine g_if_eq (tgt := 35) dX2_usedPlaces_28 (by decide) (fun c_28 => ?_) (fun c_28 => ?_)
          · refine g_iconst (nI 0) dX2_usedPlaces_35 (by decide) ?_
            first | refine g_iaddN dX2_usedPlaces_36 ?_ | refine g_iadd dX2_usedPlaces_36 ?_
            refine g_istore1 dX2_usedPlaces_37 (by decide) ?_
            first | refine g_iincN2 1 dX2_usedPlaces_38 (by decide) (by decide) ?_ | refine g_iinc2 _ dX2_usedPlaces_38 rfl (by decide) ?_
            refine g_goto (tgt := 4) dX2_usedPlaces_41 (by decide) ?_
            first | (have e : uzF g y + 0 = uzF g (y + 1) := (by show _ = uzF g y + _; rw [if_neg (fun z => by have := z.1; omega)]); rw [e]; exact ih (y + 1) (by omega)) | (have e : uzF g y + 0 = uzF g (y + 1) := (by show _ = uzF g y + _; rw [if_neg (fun z => by unfold usF at c_28; rw [if_pos z.2] at c_28; omega)]); rw [e]; exact ih (y + 1) (by omega)) | (have e : uzF g y + 1 = uzF g (y + 1) := (by show _ = uzF g y + _; rw [if_pos ⟨by omega, by unfold usF at c_28; split at c_28; assumption; omega⟩]); rw [e]; exact ih (y + 1) (by omega))
          · refine g_iconst (nI 1) dX2_usedPlaces_31 (by decide) ?_
            refine g_goto (tgt := 36) dX2_usedPlaces_32 (by decide) ?_
            first | refine g_iaddN dX2_usedPlaces_36 ?_ | refine g_iadd dX2_usedPlaces_36 ?_
            refine g_istore1 dX2_usedPlaces_37 (by decide) ?_
            first | refine g_iincN2 1 dX2_usedPlaces_38 (by decide) (by decide) ?_ | refine g_iinc2 _ dX2_usedPlaces_38 rfl (by decide) ?_
            refine g_goto (tgt := 4) dX2_usedPlaces_41 (by decide) ?_
            first | (have e : uzF g y + 0 = uzF g (y + 1) := (by show _ = uzF g y + _; rw [if_neg (fun z => by have := z.1; omega)]); rw [e]; exact ih (y + 1) (by omega)) | (have e : uzF g y + 0 = uzF g (y + 1) := (by show _ = uzF g y + _; rw [if_neg (fun z => by unfold usF at c_28; rw [if_pos z.2] at c_28; omega)]); rw [e]; exact ih (y + 1) (by omega)) | (have e : uzF g y + 1 = uzF g (y + 1) := (by show _ = uzF g y + _; rw [if_pos ⟨by omega, by unfold usF at c_28; split at c_28; assumption; omega⟩]); rw [e]; exact ih (y + 1) (by omega))
  refine g_iconst (nI 0) dX2_usedPlaces_0 (by decide) ?_
  refine g_istore1 dX2_usedPlaces_1 (by decide) ?_
  refine g_iconst (nI 1) dX2_usedPlaces_2 (by decide) ?_
  refine g_istore2 dX2_usedPlaces_3 (by decide) ?_
  exact K 24 0 (by omega)
theorem and_p2 (x m : Nat) : x &&& 2 ^ m = if x / 2 ^ m % 2 = 1 then 2 ^ m else 0 := by
  apply Nat.eq_of_testBit_eq
  intro i
  rw [Nat.testBit_and, Nat.testBit_two_pow]
  by_cases hi : m = i
  · subst hi
    have e : x.testBit m = decide (x / 2 ^ m % 2 = 1) := Nat.testBit_eq_decide_div_mod_eq
    rw [e]
    split
    · rename_i h
      rw [Nat.testBit_two_pow]
      simp [h]
    · rename_i h
      simp [h]
  · rw [decide_eq_false hi, Bool.and_false]
    split
    · rw [Nat.testBit_two_pow, decide_eq_false hi]
    · exact (Nat.zero_testBit i).symm
def pmF (g : Nat → Nat) : Nat → Nat
  | 0 => 0
  | m + 1 => pmF g m ||| (if g (9 + m) = 1 then 1 * 2 ^ m else 0)
theorem pmF_lt (g : Nat → Nat) : ∀ m, pmF g m < 2 ^ m
  | 0 => Nat.one_pos
  | m + 1 => by
    have h1 := pmF_lt g m
    show pmF g m ||| _ < 2 ^ (m + 1)
    refine Nat.or_lt_two_pow (Nat.lt_of_lt_of_le h1 (Nat.pow_le_pow_right (by decide) (Nat.le_succ m))) ?_
    split
    · rw [Nat.one_mul]
      exact Nat.pow_lt_pow_right (by decide) (Nat.lt_succ_self m)
    · exact Nat.two_pow_pos _
theorem pmF_tk (g : Nat → Nat) (mem : Nat) : ∀ m, mem &&& pmF g m = tkF g mem m
  | 0 => Nat.and_zero _
  | m + 1 => by
    show mem &&& (pmF g m ||| _) = tkF g mem m ||| _
    rw [Nat.and_or_distrib_left, pmF_tk g mem m]
    congr 1
    by_cases h : g (9 + m) = 1
    · rw [if_pos h, Nat.one_mul, and_p2]
      by_cases h2 : mem / 2 ^ m % 2 = 1
      · rw [if_pos h2, if_pos ⟨h2, h⟩]
      · rw [if_neg h2, if_neg (fun z => h2 z.1)]
    · rw [if_neg h, if_neg (fun z => h z.2), Nat.and_zero]
abbrev mX2_presentMembers : GM := (yX2_presentMembers, 3, (some .int), [], { frames := 0, cells := 0, slots := 0, locals := 0 }, 255)
theorem kX2_presentMembers : gCv cX2_presentMembers mX2_presentMembers 0 := ⟨q1192, q1193, q68, q1194, ⟨by decide +kernel, by decide +kernel, by decide +kernel⟩, rfl⟩
theorem uX2_presentMembers : gCu cX2_presentMembers mX2_presentMembers 0 := ⟨q1192, q68, q1194, ⟨by decide +kernel, by decide +kernel, by decide +kernel⟩, rfl⟩
set_option maxHeartbeats 400000 in
theorem ctX2_presentMembers {E : GE} {h : AH} {B a : Nat} {g : Nat → Nat} (hm : WM E B g a h) (hb : wB g) : Ct E cX2_presentMembers mX2_presentMembers [.ref a] (h) (pN fun r h' => r = (pmF g 8) ∧ h' = h) (noX) := by
  refine g_enter (own := "SecretVault$World") [some (.ref a), none, none] (by decide +kernel) rfl rfl (Nat.le_of_ble_eq_true rfl) rfl rfl (fun X => ?_)
  obtain ⟨aw, ap, v3, v4, v5, fw, fp, z1, z2, z3, z4, z5⟩ := hm
  have K : ∀ n m, n + m = 8 → V E cX2_presentMembers "SecretVault$World" mX2_presentMembers (pN fun r h' => r = (pmF g 8) ∧ h' = h) noX X (h) 0 0 4 [some (.ref a), some (.int (nI (pmF g m))), some (.int (nI m))] [] := by
    intro n
    induction n with
    | zero =>
      intro m hn0
      obtain rfl : m = 8 := by omega
      refine g_iload2 dX2_presentMembers_4 ?_
      refine g_bipush (nI 8) dX2_presentMembers_5 (by decide) ?_
      first | refine g_icmpN_ge (tgt := 35) dX2_presentMembers_7 (by decide) (by omega) (by omega) (fun c_7 => ?_) (fun c_7 => ?_) | refine g_icmp_ge (tgt := 35) dX2_presentMembers_7 (by decide) (fun c_7 => ?_) (fun c_7 => ?_)
      · refine g_iload1 dX2_presentMembers_35 ?_
        exact g_iret dX2_presentMembers_36 rfl ⟨_, rfl, rfl, rfl⟩
      · omega
    | succ n ih =>
      intro m hn0
      have e1 := z5 m (by omega)
      have e2 := hb.2 m (by omega)
      have hp2 : 2 ^ m < 2 ^ 8 := Nat.pow_lt_pow_right (by decide) (by omega)
      refine g_iload2 dX2_presentMembers_4 ?_
      refine g_bipush (nI 8) dX2_presentMembers_5 (by decide) ?_
      first | refine g_icmpN_ge (tgt := 35) dX2_presentMembers_7 (by decide) (by omega) (by omega) (fun c_7 => ?_) (fun c_7 => ?_) | refine g_icmp_ge (tgt := 35) dX2_presentMembers_7 (by decide) (fun c_7 => ?_) (fun c_7 => ?_)
      · omega
      · refine g_iload1 dX2_presentMembers_10 ?_
        first | refine g_aload0 dX2_presentMembers_11 ?_ | refine g_aloadQ0 dX2_presentMembers_11 ?_ | refine g_aloadN0 dX2_presentMembers_11 ?_
        refine g_get (k0 := 1) (by first | assumption | exact g_up_self _ _ _ | (refine g_upf ?_ ?_ <;> assumption) | (refine g_upt ?_ ?_ (by decide) <;> assumption)) in_X2 q172 rfl (by decide) rfl dX2_presentMembers_12 ?_
        refine g_iload2 dX2_presentMembers_15 ?_
        refine g_zaldN z4 (by omega) (by omega) dX2_presentMembers_16 ?_
        rw [e1]
        first | refine g_ifN_eq (tgt := 26) dX2_presentMembers_17 (by decide) (by omega) (fun c_17 => ?_) (fun c_17 => ?_) | refine g_if_eq (tgt := 26) dX2_presentMembers_17 (by decide) (fun c_17 => ?_) (fun c_17 => ?_)
        · refine g_iconst (nI 0) dX2_presentMembers_26 (by decide) ?_
          first | refine g_iorN dX2_presentMembers_27 ?_ | refine g_ior dX2_presentMembers_27 ?_
          refine g_istore1 dX2_presentMembers_28 (by decide) ?_
          first | refine g_iincN2 1 dX2_presentMembers_29 (by decide) (by decide) ?_ | refine g_iinc2 _ dX2_presentMembers_29 rfl (by decide) ?_
          refine g_goto (tgt := 4) dX2_presentMembers_32 (by decide) ?_
          first | (have e : pmF g m ||| 0 = pmF g (m + 1) := (by show _ = pmF g m ||| _; rw [if_neg (by omega)]); rw [e]; exact ih (m + 1) (by omega)) | (have e : pmF g m ||| 1 * 2 ^ m = pmF g (m + 1) := (by show _ = pmF g m ||| _; rw [if_pos (by omega)]); rw [e]; exact ih (m + 1) (by omega))
        · refine g_iconst (nI 1) dX2_presentMembers_20 (by decide) ?_
          refine g_iload2 dX2_presentMembers_21 ?_
          refine g_ishlN dX2_presentMembers_22 (by omega) (by omega) ?_
          refine g_goto (tgt := 27) dX2_presentMembers_23 (by decide) ?_
          first | refine g_iorN dX2_presentMembers_27 ?_ | refine g_ior dX2_presentMembers_27 ?_
          refine g_istore1 dX2_presentMembers_28 (by decide) ?_
          first | refine g_iincN2 1 dX2_presentMembers_29 (by decide) (by decide) ?_ | refine g_iinc2 _ dX2_presentMembers_29 rfl (by decide) ?_
          refine g_goto (tgt := 4) dX2_presentMembers_32 (by decide) ?_
          first | (have e : pmF g m ||| 0 = pmF g (m + 1) := (by show _ = pmF g m ||| _; rw [if_neg (by omega)]); rw [e]; exact ih (m + 1) (by omega)) | (have e : pmF g m ||| 1 * 2 ^ m = pmF g (m + 1) := (by show _ = pmF g m ||| _; rw [if_pos (by omega)]); rw [e]; exact ih (m + 1) (by omega))
  refine g_iconst (nI 0) dX2_presentMembers_0 (by decide) ?_
  refine g_istore1 dX2_presentMembers_1 (by decide) ?_
  refine g_iconst (nI 0) dX2_presentMembers_2 (by decide) ?_
  refine g_istore2 dX2_presentMembers_3 (by decide) ?_
  exact K 8 0 (by omega)
abbrev mX2_draw : GM := (yX2_draw, 1, (some .int), [], { frames := 0, cells := 0, slots := 0, locals := 0 }, 255)
theorem kX2_draw : gCv cX2_draw mX2_draw 0 := ⟨q602, q603, q68, q604, ⟨by decide +kernel, by decide +kernel, by decide +kernel⟩, rfl⟩
theorem uX2_draw : gCu cX2_draw mX2_draw 0 := ⟨q602, q68, q604, ⟨by decide +kernel, by decide +kernel, by decide +kernel⟩, rfl⟩
set_option maxHeartbeats 400000 in
theorem ctX2_draw {E : GE} {h : AH} {a t z : Nat} {v0 v1 v2 v3 : Value} (ha : h a = some (t, gO 1 [v0, v1, v2, v3, .int (nI z)])) : Ct E cX2_draw mX2_draw [.ref a] (h) (pN fun r h' => r = zN z / 2 ^ 16 % 1019 ∧ h' = g_up h a (t, gO 1 [v0, v1, v2, v3, .int (nI (zN z))])) (noX) := by
  refine g_enter (own := "SecretVault$World") [some (.ref a)] (by decide +kernel) rfl rfl (Nat.le_of_ble_eq_true rfl) rfl rfl (fun X => ?_)
  have hz := zN_lt z
  first | refine g_aload0 dX2_draw_0 ?_ | refine g_aloadQ0 dX2_draw_0 ?_ | refine g_aloadN0 dX2_draw_0 ?_
  first | refine g_aload0 dX2_draw_1 ?_ | refine g_aloadQ0 dX2_draw_1 ?_ | refine g_aloadN0 dX2_draw_1 ?_
  refine g_get (k0 := 4) (by first | assumption | exact g_up_self _ _ _ | (refine g_upf ?_ ?_ <;> assumption) | (refine g_upt ?_ ?_ (by decide) <;> assumption)) in_X2 q179 rfl (by decide) rfl dX2_draw_2 ?_
  refine g_ldcN 1103515245 q605 (by decide) dX2_draw_5 ?_
  first | refine g_imulN dX2_draw_7 ?_ | refine g_imul dX2_draw_7 ?_
  refine g_sipush (nI 12345) dX2_draw_8 (by decide) ?_
  first | refine g_iaddN dX2_draw_11 ?_ | refine g_iadd dX2_draw_11 ?_
  refine g_top (congrArg Value.int (nI_mod _).symm) ?_
  rw [show (z * 1103515245 + 12345) % 4294967296 = zN z from rfl]
  refine g_put (k0 := 4) (by first | assumption | exact g_up_self _ _ _ | (refine g_upf ?_ ?_ <;> assumption) | (refine g_upt ?_ ?_ (by decide) <;> assumption)) in_X2 q179 tyX2_ok nmX2 rfl (by decide) rfl (by rfl) (by rfl) (Nat.le_of_ble_eq_true rfl) dX2_draw_12 ?_
  first | refine g_aload0 dX2_draw_15 ?_ | refine g_aloadQ0 dX2_draw_15 ?_ | refine g_aloadN0 dX2_draw_15 ?_
  refine g_get (k0 := 4) (by first | assumption | exact g_up_self _ _ _ | (refine g_upf ?_ ?_ <;> assumption) | (refine g_upt ?_ ?_ (by decide) <;> assumption)) in_X2 q179 rfl (by decide) rfl dX2_draw_16 ?_
  refine g_bipush (nI 16) dX2_draw_19 (by decide) ?_
  refine g_iushrN dX2_draw_21 (by omega) (by omega) ?_
  refine g_sipush (nI 1019) dX2_draw_22 (by decide) ?_
  refine g_iremN dX2_draw_25 (by omega) (by omega) (by omega) ?_
  exact g_iret dX2_draw_26 rfl ⟨_, rfl, rfl, rfl⟩
abbrev mX2_drawn : GM := (yX2_drawn, 5, (some (.array .int)), [], { frames := 1, cells := 1, slots := 8, locals := 20 }, 255)
theorem kX2_drawn : gCv cX2_drawn mX2_drawn 2 := ⟨q1096, qs7, q68, q1097, ⟨by decide +kernel, by decide +kernel, by decide +kernel⟩, rfl⟩
theorem uX2_drawn : gCu cX2_drawn mX2_drawn 2 := ⟨q1096, q68, q1097, ⟨by decide +kernel, by decide +kernel, by decide +kernel⟩, rfl⟩
set_option maxHeartbeats 400000 in
theorem ctX2_drawn {E : GE} {h : AH} {a t z : Nat} {v0 v1 v2 v3 : Value} (T first k9 : Nat) (ha : h a = some (t, gO 1 [v0, v1, v2, v3, .int (nI (zI z 0))])) (hk : 1 ≤ k9 ∧ k9 ≤ 8) : Ct E cX2_drawn mX2_drawn [.ref a, .int (nI first), .int (nI k9)] (h) (pR fun r h' => ∃ F, h r = none ∧ (∀ i, i < k9 → F i = cfF z first i) ∧ h' = g_up (g_up h r (T, gAIn E k9 F)) a (t, gO 1 [v0, v1, v2, v3, .int (nI (zI z (k9 - 1)))])) (noX) := by
  refine g_enter (own := "SecretVault$World") [some (.ref a), some (.int (nI first)), some (.int (nI k9)), none, none] (by decide +kernel) rfl rfl (Nat.le_of_ble_eq_true rfl) rfl rfl (fun X => ?_)
  have K : ∀ q, h q = none → ∀ n j (hq : AH) F, n + j = k9 → 1 ≤ j → q ≠ a → hq a = some (t, gO 1 [v0, v1, v2, v3, .int (nI (zI z (j - 1)))]) → hq q = some (T, gAIn E k9 F) → (∀ i, i < j → F i = cfF z first i) → (∀ b, b ≠ a → b ≠ q → hq b = h b) → V E cX2_drawn "SecretVault$World" mX2_drawn (pR fun r h' => ∃ F, h r = none ∧ (∀ i, i < k9 → F i = cfF z first i) ∧ h' = g_up (g_up h r (T, gAIn E k9 F)) a (t, gO 1 [v0, v1, v2, v3, .int (nI (zI z (k9 - 1)))])) noX X (hq) 1 8 11 [some (.ref a), some (.int (nI first)), some (.int (nI k9)), some (.ref q), some (.int (nI j))] [] := by
    intro q fq n
    induction n with
    | zero =>
      intro j hq F hn0 hj hne q1 q2 q3 q4
      obtain rfl : j = k9 := by omega
      refine g_iload4 dX2_drawn_11 ?_
      refine g_iload2 dX2_drawn_13 ?_
      first | refine g_icmpN_ge (tgt := 31) dX2_drawn_14 (by decide) (by omega) (by omega) (fun c_14 => ?_) (fun c_14 => ?_) | refine g_icmp_ge (tgt := 31) dX2_drawn_14 (by decide) (fun c_14 => ?_) (fun c_14 => ?_)
      · first | refine g_aload3 dX2_drawn_31 ?_ | refine g_aloadQ3 dX2_drawn_31 ?_ | refine g_aloadN3 dX2_drawn_31 ?_
        exact g_aret dX2_drawn_32 rfl (Or.inr ⟨_, rfl⟩) ⟨_, rfl, F, fq, q3, (by funext b; by_cases e1 : b = a; (rw [e1, q1, g_up_self]); (rw [g_up_ne _ e1]; by_cases e2 : b = q; (rw [e2, q2, g_up_self]); (rw [g_up_ne _ e2]; exact q4 b e1 e2)))⟩
      · omega
    | succ n ih =>
      intro j hq F hn0 hj hne q1 q2 q3 q4
      have ez : zN (zI z (j - 1)) = zI z j := by
        obtain ⟨i, rfl⟩ : ∃ i, j = i + 1 := ⟨j - 1, by omega⟩
        rfl
      have ec : cfF z first j = zI z j / 2 ^ 16 % 1019 := by
        unfold cfF
        rw [if_neg (by omega)]
      refine g_iload4 dX2_drawn_11 ?_
      refine g_iload2 dX2_drawn_13 ?_
      first | refine g_icmpN_ge (tgt := 31) dX2_drawn_14 (by decide) (by omega) (by omega) (fun c_14 => ?_) (fun c_14 => ?_) | refine g_icmp_ge (tgt := 31) dX2_drawn_14 (by decide) (fun c_14 => ?_) (fun c_14 => ?_)
      · omega
      · first | refine g_aload3 dX2_drawn_17 ?_ | refine g_aloadQ3 dX2_drawn_17 ?_ | refine g_aloadN3 dX2_drawn_17 ?_
        refine g_iload4 dX2_drawn_18 ?_
        first | refine g_aload0 dX2_drawn_20 ?_ | refine g_aloadQ0 dX2_drawn_20 ?_ | refine g_aloadN0 dX2_drawn_20 ?_
        refine g_callVR (ctX2_draw q1) kX2_draw q1098 (gRv.g q1 rfl rfl) (by decide) ⟨Nat.le_of_ble_eq_true rfl, Nat.le_of_ble_eq_true rfl⟩ rfl (Nat.le_of_ble_eq_true rfl) dX2_drawn_21 k_x (k_n (fun r_21 h_21 p_21 => ?_))
        obtain ⟨rfl, z_21⟩ := p_21
        rw [z_21, ez, ← ec]
        have b1 := g_up_of (x := (t, gO 1 [v0, v1, v2, v3, .int (nI (zI z j))])) q2 hne
        refine g_iastN b1 (by omega) (by omega) dX2_drawn_24 ?_
        first | refine g_iincN4 1 dX2_drawn_25 (by decide) (by decide) ?_ | refine g_iinc4 _ dX2_drawn_25 rfl (by decide) ?_
        refine g_goto (tgt := 11) dX2_drawn_28 (by decide) ?_
        refine ih (j + 1) _ (nup F j (cfF z first j)) (by omega) (by omega) hne (g_up_of (g_up_self _ _ _) (fun z => hne z.symm)) (g_up_self _ _ _) (fun i hi => ?_) (fun b e1 e2 => (g_up_ne _ e2).trans ((g_up_ne _ e1).trans (q4 b e1 e2)))
        by_cases e : i = j
        · rw [e, nup_self]
        · rw [nup_ne _ _ e]
          exact q3 i (by omega)
  refine g_iload2 dX2_drawn_0 ?_
  refine g_newi (T) q162 (nI_pos (by omega)) (nI_clamp (by omega)) (by show _ * 4 ≤ _; omega) (Nat.le_of_ble_eq_true rfl) (by show _ ≤ 8; omega) dX2_drawn_1 (fun q_1 f_1 => ?_)
  first | refine g_astore3 dX2_drawn_3 (by decide) ?_ | refine g_astoreQ3 dX2_drawn_3 (by decide) ?_ | refine g_astoreN3 dX2_drawn_3 (by decide) ?_
  first | refine g_aload3 dX2_drawn_4 ?_ | refine g_aloadQ3 dX2_drawn_4 ?_ | refine g_aloadN3 dX2_drawn_4 ?_
  refine g_iconst (nI 0) dX2_drawn_5 (by decide) ?_
  refine g_iload1 dX2_drawn_6 ?_
  refine V.wide (k' := 1) (n' := 8) (by omega) (by omega) ?_
  refine g_iastN (F := fun _ => 0) (g_up_self _ _ _) (by omega) (by omega) dX2_drawn_7 ?_
  rw [g_upup]
  refine g_iconst (nI 1) dX2_drawn_8 (by decide) ?_
  refine g_istore4 dX2_drawn_9 (by decide) ?_
  exact K q_1 f_1 (k9 - 1) 1 _ _ (by omega) (Nat.le_refl _) (fun e => by rw [e, ha] at f_1; cases f_1) (g_upf ha f_1) (g_up_self _ _ _) (fun i hi => by obtain rfl : i = 0 := (by omega); rfl) (fun b e1 e2 => g_up_ne _ e2)
abbrev mX2_note : GM := (yX2_note, 2, none, [], { frames := 5, cells := 2, slots := 65, locals := 154 }, 255)
theorem kX2_note : gCv cX2_note mX2_note 1 := ⟨q1106, q1107, q68, q1108, ⟨by decide +kernel, by decide +kernel, by decide +kernel⟩, rfl⟩
theorem uX2_note : gCu cX2_note mX2_note 1 := ⟨q1106, q68, q1108, ⟨by decide +kernel, by decide +kernel, by decide +kernel⟩, rfl⟩
set_option maxHeartbeats 400000 in
theorem ctX2_note {E : GE} {h : AH} {a t td ad c9 : Nat} {v0 v1 v2 v4 : Value} {L : List Nat} (ha : h a = some (t, gO 1 [v0, v1, v2, .ref ad, v4])) (hd : DQ E td h ad L) (ht : 8 < td) (htt : t ≠ td ∧ t ≠ td + 1) (hc : c9 < 2147483648) : Ct E cX2_note mX2_note [.ref a, .int (nI c9)] (h) (pV fun h' => DQ E td h' ad ((if L.length = 20 then L.tail else L) ++ [c9]) ∧ Fr (fun u => u = td ∨ u = td + 1) h h') (noX) := by
  refine g_enter (own := "SecretVault$World") [some (.ref a), some (.int (nI c9))] (by decide +kernel) rfl rfl (Nat.le_of_ble_eq_true rfl) rfl rfl (fun X => ?_)
  have hdd := hd
  obtain ⟨arr, N, hd9, f, hx⟩ := hdd
  by_cases h20 : L.length = 20
  · obtain ⟨v, L2, rfl⟩ : ∃ v L2, L = v :: L2 := by
      cases L with
      | nil => cases h20
      | cons v L2 => exact ⟨v, L2, rfl⟩
    have hl2 : L2.length = 19 := by rw [List.length_cons] at h20; omega
    first | refine g_aload0 dX2_note_0 ?_ | refine g_aloadQ0 dX2_note_0 ?_ | refine g_aloadN0 dX2_note_0 ?_
    refine g_get (k0 := 3) (by first | assumption | exact g_up_self _ _ _ | (refine g_upf ?_ ?_ <;> assumption) | (refine g_upt ?_ ?_ (by decide) <;> assumption)) in_X2 q177 rfl (by decide) rfl dX2_note_1 ?_
    refine g_callVR (ctJ1_size hx) kJ1_size q1109 hx.rv (by decide) ⟨Nat.le_of_ble_eq_true rfl, Nat.le_of_ble_eq_true rfl⟩ rfl (Nat.le_of_ble_eq_true rfl) dX2_note_4 k_x (k_n (fun r_4 h_4 p_4 => ?_))
    obtain ⟨rfl, z_4⟩ := p_4
    rw [z_4]
    refine g_bipush (nI 20) dX2_note_7 (by decide) ?_
    first | refine g_icmpN_ne (tgt := 20) dX2_note_9 (by decide) (by omega) (by omega) (fun c_9 => ?_) (fun c_9 => ?_) | refine g_icmpU_ne (tgt := 20) dX2_note_9 (by decide) (by omega) (by omega) (fun c_9 => ?_) (fun c_9 => ?_) | refine g_icmp_ne (tgt := 20) dX2_note_9 (by decide) (fun c_9 => ?_) (fun c_9 => ?_)
    · omega
    · first | refine g_aload0 dX2_note_12 ?_ | refine g_aloadQ0 dX2_note_12 ?_ | refine g_aloadN0 dX2_note_12 ?_
      refine g_get (k0 := 3) (by first | assumption | exact g_up_self _ _ _ | (refine g_upf ?_ ?_ <;> assumption) | (refine g_upt ?_ ?_ (by decide) <;> assumption)) in_X2 q177 rfl (by decide) rfl dX2_note_13 ?_
      refine g_callVR (ctJ1_removeFirst ht hd) kJ1_removeFirst q1110 hd.rv (by decide) ⟨Nat.le_of_ble_eq_true rfl, Nat.le_of_ble_eq_true rfl⟩ rfl (Nat.le_of_ble_eq_true rfl) dX2_note_16 k_x (k_r (fun r_16 h_16 p_16 => ?_))
      obtain ⟨x_16, f_16⟩ := p_16
      have ha2 := f_16 _ _ _ ha (by omega)
      refine g_pop dX2_note_19 (by first | rfl | exact cat_rf _) ?_
      first | refine g_aload0 dX2_note_20 ?_ | refine g_aloadQ0 dX2_note_20 ?_ | refine g_aloadN0 dX2_note_20 ?_
      refine g_get (k0 := 3) (by first | assumption | exact g_up_self _ _ _ | (refine g_upf ?_ ?_ <;> assumption) | (refine g_upt ?_ ?_ (by decide) <;> assumption)) in_X2 q177 rfl (by decide) rfl dX2_note_21 ?_
      refine g_iload1 dX2_note_24 ?_
      refine g_callS (ctJ17_valueOf _ hc) kJ17_valueOf q800 (by decide) ⟨Nat.le_of_ble_eq_true rfl, Nat.le_of_ble_eq_true rfl⟩ rfl (Nat.le_of_ble_eq_true rfl) dX2_note_25 k_x (k_r (fun r_25 h_25 p_25 => ?_))
      obtain ⟨b_25, g_25⟩ := p_25
      have x9 := DQ.fr x_16 g_25 id id id
      refine g_callVR (ctJ1_addLastQ ht x9 b_25 (by omega)) kJ1_addLast q820 x9.rv (by decide) ⟨Nat.le_of_ble_eq_true rfl, Nat.le_of_ble_eq_true rfl⟩ rfl (Nat.le_of_ble_eq_true rfl) dX2_note_28 k_x (k_v (fun h_28 p_28 => ?_))
      obtain ⟨x_28, f_28⟩ := p_28
      exact g_vret dX2_note_31 rfl ⟨rfl, by rw [if_pos h20]; exact x_28, (f_16.tr (g_25.mono (P' := (fun u => u = td ∨ u = td + 1)) (fun _ z => z.elim))).tr f_28⟩
  · have hl2 : L.length ≤ 20 := hx.2.2.2.2.2.1
    first | refine g_aload0 dX2_note_0 ?_ | refine g_aloadQ0 dX2_note_0 ?_ | refine g_aloadN0 dX2_note_0 ?_
    refine g_get (k0 := 3) (by first | assumption | exact g_up_self _ _ _ | (refine g_upf ?_ ?_ <;> assumption) | (refine g_upt ?_ ?_ (by decide) <;> assumption)) in_X2 q177 rfl (by decide) rfl dX2_note_1 ?_
    refine g_callVR (ctJ1_size hx) kJ1_size q1109 hx.rv (by decide) ⟨Nat.le_of_ble_eq_true rfl, Nat.le_of_ble_eq_true rfl⟩ rfl (Nat.le_of_ble_eq_true rfl) dX2_note_4 k_x (k_n (fun r_4 h_4 p_4 => ?_))
    obtain ⟨rfl, z_4⟩ := p_4
    rw [z_4]
    refine g_bipush (nI 20) dX2_note_7 (by decide) ?_
    first | refine g_icmpN_ne (tgt := 20) dX2_note_9 (by decide) (by omega) (by omega) (fun c_9 => ?_) (fun c_9 => ?_) | refine g_icmpU_ne (tgt := 20) dX2_note_9 (by decide) (by omega) (by omega) (fun c_9 => ?_) (fun c_9 => ?_) | refine g_icmp_ne (tgt := 20) dX2_note_9 (by decide) (fun c_9 => ?_) (fun c_9 => ?_)
    · first | refine g_aload0 dX2_note_20 ?_ | refine g_aloadQ0 dX2_note_20 ?_ | refine g_aloadN0 dX2_note_20 ?_
      refine g_get (k0 := 3) (by first | assumption | exact g_up_self _ _ _ | (refine g_upf ?_ ?_ <;> assumption) | (refine g_upt ?_ ?_ (by decide) <;> assumption)) in_X2 q177 rfl (by decide) rfl dX2_note_21 ?_
      refine g_iload1 dX2_note_24 ?_
      refine g_callS (ctJ17_valueOf _ hc) kJ17_valueOf q800 (by decide) ⟨Nat.le_of_ble_eq_true rfl, Nat.le_of_ble_eq_true rfl⟩ rfl (Nat.le_of_ble_eq_true rfl) dX2_note_25 k_x (k_r (fun r_25 h_25 p_25 => ?_))
      obtain ⟨b_25, g_25⟩ := p_25
      have x9 := DQ.fr hd g_25 id id id
      refine g_callVR (ctJ1_addLastQ ht x9 b_25 (by omega)) kJ1_addLast q820 x9.rv (by decide) ⟨Nat.le_of_ble_eq_true rfl, Nat.le_of_ble_eq_true rfl⟩ rfl (Nat.le_of_ble_eq_true rfl) dX2_note_28 k_x (k_v (fun h_28 p_28 => ?_))
      obtain ⟨x_28, f_28⟩ := p_28
      exact g_vret dX2_note_31 rfl ⟨rfl, by rw [if_neg h20]; exact x_28, (g_25.mono (P' := (fun u => u = td ∨ u = td + 1)) (fun _ z => z.elim)).tr f_28⟩
    · omega
/-- what is not at a is kept -/
def Fa (a : Nat) (h h' : AH) : Prop := ∀ b x, h b = some x → b ≠ a → h' b = some x
theorem Fa.rf {a : Nat} {h : AH} : Fa a h h := fun _ _ z _ => z
theorem Fa.new {a q : Nat} {h h1 : AH} {z : Nat × va_E} (hf : Fa a h h1) (hq : h1 q = none) : Fa a h (g_up h1 q z) := fun b x hb hn => by
  obtain ⟨t, e⟩ := x
  exact g_upf (hf b _ hb hn) hq
theorem Fa.put {a : Nat} {h h1 : AH} {z : Nat × va_E} (hf : Fa a h h1) : Fa a h (g_up h1 a z) := fun b x hb hn => g_up_of (hf b x hb hn) hn
theorem Fa.upn {a q : Nat} {h h1 : AH} {z : Nat × va_E} (hf : Fa a h h1) (hq : h q = none) : Fa a h (g_up h1 q z) := fun b x hb hn => g_up_of (hf b x hb hn) (fun e => by rw [e, hq] at hb; cases hb)
theorem Fa.none {a q : Nat} {h h1 : AH} (hf : Fa a h h1) (hq : h1 q = none) (hn : q ≠ a) : h q = none := by
  cases hz : h q with
  | none => rfl
  | some x =>
    rw [hf q x hz hn] at hq
    cases hq
def WI (E : GE) (B a : Nat) (h h' : AH) : Prop := ∃ aw ap az ad fw fp, h' a = some (B, gO 1 [.ref aw, .ref ap, .ref az, .ref ad, .int (nI 1)]) ∧ h' aw = some (B + 1, gAIn E 8 fw) ∧ (∀ m, m < 8 → fw m = 1) ∧ h' ap = some (B + 2, gAZn E 8 fp) ∧ (∀ m, m < 8 → fp m = 1) ∧ h' az = some (B + 3, gAR E 6 4 (fun _ => none)) ∧ DQ E (B + 4) h' ad [] ∧ Fa a h h' ∧ h aw = none ∧ h ap = none ∧ h az = none
abbrev mX2_init : GM := (yX2_init, 1, none, [], { frames := 3, cells := 5, slots := 40, locals := 60 }, 255)
theorem kX2_init : gCi cX2_init mX2_init 0 := ⟨q134, q68, q135, ⟨by decide +kernel, by decide +kernel, by decide +kernel⟩, rfl, rfl, rfl⟩
set_option maxHeartbeats 400000 in
theorem ctX2_init {E : GE} {h : AH} {a : Nat} (B : Nat) (ha : h a = some (B, gO 1 [.null, .null, .null, .null, .int 0])) (hB : 8 < B) : Ct E cX2_init mX2_init [.ref a] (h) (pV fun h' => WI E B a h h') (noX) := by
  refine g_enter (own := "SecretVault$World") [some (.ref a)] (by decide +kernel) rfl rfl (Nat.le_of_ble_eq_true rfl) rfl rfl (fun X => ?_)
  have K4 : ∀ (hq : AH) aw ap az ad, hq a = some (B, gO 1 [.ref aw, .ref ap, .ref az, .ref ad, .int 0]) → hq aw = some (B + 1, gAIn E 8 (fun _ => 0)) → hq ap = some (B + 2, gAZn E 8 (fun _ => 0)) → hq az = some (B + 3, gAR E 6 4 (fun _ => none)) → DQ E (B + 4) hq ad [] → Fa a h hq → h aw = none → h ap = none → h az = none → V E cX2_init "SecretVault$World" mX2_init (pV fun h' => WI E B a h h') noX X (hq) 5 40 39 [some (.ref a)] [] := by
    intro hq aw ap az ad q1 q2 q3 q4 q5 hF n1 n2 n3
    have w1 := g_upt (x' := gO 1 [.ref aw, .ref ap, .ref az, .ref ad, .int (nI 1)]) q2 q1 (by omega)
    have w2 := g_upt (x' := gO 1 [.ref aw, .ref ap, .ref az, .ref ad, .int (nI 1)]) q3 q1 (by omega)
    have w3 := g_upt (x' := gO 1 [.ref aw, .ref ap, .ref az, .ref ad, .int (nI 1)]) q4 q1 (by omega)
    have w5 := DQ.fr (P := fun u => u = B) q5 (Fr.put (e' := gO 1 [.ref aw, .ref ap, .ref az, .ref ad, .int (nI 1)]) q1 rfl) (by omega) (by omega) (by omega)
    first | refine g_aload0 dX2_init_39 ?_ | refine g_aloadQ0 dX2_init_39 ?_ | refine g_aloadN0 dX2_init_39 ?_
    refine g_iconst (nI 1) dX2_init_40 (by decide) ?_
    refine g_put (k0 := 4) (by first | assumption | exact g_up_self _ _ _ | (refine g_upf ?_ ?_ <;> assumption) | (refine g_upt ?_ ?_ (by decide) <;> assumption)) in_X2 q179 tyX2_ok nmX2 rfl (by decide) rfl (by rfl) (by rfl) (Nat.le_of_ble_eq_true rfl) dX2_init_41 ?_
    first | refine g_aload0 dX2_init_44 ?_ | refine g_aloadQ0 dX2_init_44 ?_ | refine g_aloadN0 dX2_init_44 ?_
    refine g_get (k0 := 0) (by first | assumption | exact g_up_self _ _ _ | (refine g_upf ?_ ?_ <;> assumption) | (refine g_upt ?_ ?_ (by decide) <;> assumption)) in_X2 q170 rfl (by decide) rfl dX2_init_45 ?_
    refine g_iconst (nI 1) dX2_init_48 (by decide) ?_
    refine g_callS (ctJ2_fill w1 (by decide)) kJ2_fill q164 (by decide) ⟨Nat.le_of_ble_eq_true rfl, Nat.le_of_ble_eq_true rfl⟩ rfl (Nat.le_of_ble_eq_true rfl) dX2_init_49 k_x (k_v (fun h_49 p_49 => ?_))
    obtain ⟨F1, g1, z_49⟩ := p_49
    rw [z_49]
    have y0 := g_upt (x' := gAIn E 8 F1) (g_up_self hq a (B, gO 1 [.ref aw, .ref ap, .ref az, .ref ad, .int (nI 1)])) w1 (by omega)
    have y2 := g_upt (x' := gAIn E 8 F1) w2 w1 (by omega)
    have y3 := g_upt (x' := gAIn E 8 F1) w3 w1 (by omega)
    have y5 := DQ.fr (P := fun u => u = B + 1) w5 (Fr.put (e' := gAIn E 8 F1) w1 rfl) (by omega) (by omega) (by omega)
    first | refine g_aload0 dX2_init_52 ?_ | refine g_aloadQ0 dX2_init_52 ?_ | refine g_aloadN0 dX2_init_52 ?_
    refine g_get (k0 := 1) (by first | assumption | exact g_up_self _ _ _ | (refine g_upf ?_ ?_ <;> assumption) | (refine g_upt ?_ ?_ (by decide) <;> assumption)) in_X2 q172 rfl (by decide) rfl dX2_init_53 ?_
    refine g_iconst (nI 1) dX2_init_56 (by decide) ?_
    refine g_callS (ctJ2_fill_2 y2 (by decide)) kJ2_fill_2 q167 (by decide) ⟨Nat.le_of_ble_eq_true rfl, Nat.le_of_ble_eq_true rfl⟩ rfl (Nat.le_of_ble_eq_true rfl) dX2_init_57 k_x (k_v (fun h_57 p_57 => ?_))
    obtain ⟨F2, g2, z_57⟩ := p_57
    rw [z_57]
    exact g_vret dX2_init_60 rfl ⟨rfl, aw, ap, az, ad, F1, F2, g_upt y0 y2 (by omega), g_upt (g_up_self _ _ _) y2 (by omega), g1, g_up_self _ _ _, g2, g_upt y3 y2 (by omega), DQ.fr (P := fun u => u = B + 2) y5 (Fr.put y2 rfl) (by omega) (by omega) (by omega), (hF.put.upn n1).upn n2, n1, n2, n3⟩
  have K3 : ∀ (hq : AH) aw ap az, hq a = some (B, gO 1 [.ref aw, .ref ap, .ref az, .null, .int 0]) → hq aw = some (B + 1, gAIn E 8 (fun _ => 0)) → hq ap = some (B + 2, gAZn E 8 (fun _ => 0)) → hq az = some (B + 3, gAR E 6 4 (fun _ => none)) → Fa a h hq → h aw = none → h ap = none → h az = none → V E cX2_init "SecretVault$World" mX2_init (pV fun h' => WI E B a h h') noX X (hq) 3 20 28 [some (.ref a)] [] := by
    intro hq aw ap az q1 q2 q3 q4 hF n1 n2 n3
    first | refine g_aload0 dX2_init_28 ?_ | refine g_aloadQ0 dX2_init_28 ?_ | refine g_aloadN0 dX2_init_28 ?_
    refine g_new 5 (B + 4) [.null, .int 0, .int 0] in_J1 tyJ1_ok q139 q140 q70 rfl nwJ1 (Nat.le_of_ble_eq_true rfl) (Nat.le_of_ble_eq_true rfl) dX2_init_29 (fun q_29 f_29 => ?_)
    refine g_dup dX2_init_32 rfl ?_
    refine g_callI (ctJ1_init _ (g_up_self _ _ _)) kJ1_init q141 (by decide) ⟨Nat.le_of_ble_eq_true rfl, Nat.le_of_ble_eq_true rfl⟩ rfl (Nat.le_of_ble_eq_true rfl) dX2_init_33 k_x (k_v (fun h_33 p_33 => ?_))
    obtain ⟨b_33, e_33, z_33⟩ := p_33
    have hdn : q_29 ≠ b_33 := fun e => by rw [← e, g_up_self] at e_33; cases e_33
    have u1 : h_33 a = some (B, gO 1 [.ref aw, .ref ap, .ref az, .null, .int 0]) := by
      rw [z_33]
      exact g_upt (g_upf (g_upf q1 f_29) e_33) (g_upf (g_up_self _ _ _) e_33) (by omega)
    have u2 : h_33 aw = some (B + 1, gAIn E 8 (fun _ => 0)) := by
      rw [z_33]
      exact g_upt (g_upf (g_upf q2 f_29) e_33) (g_upf (g_up_self _ _ _) e_33) (by omega)
    have u3 : h_33 ap = some (B + 2, gAZn E 8 (fun _ => 0)) := by
      rw [z_33]
      exact g_upt (g_upf (g_upf q3 f_29) e_33) (g_upf (g_up_self _ _ _) e_33) (by omega)
    have u4 : h_33 az = some (B + 3, gAR E 6 4 (fun _ => none)) := by
      rw [z_33]
      exact g_upt (g_upf (g_upf q4 f_29) e_33) (g_upf (g_up_self _ _ _) e_33) (by omega)
    have u5 : DQ E (B + 4) h_33 q_29 [] := by
      rw [z_33]
      exact ⟨_, _, _, _, DX.nil hdn⟩
    have hq29 : q_29 ≠ a := fun e => by rw [e, q1] at f_29; cases f_29
    have uF : Fa a h h_33 := by
      rw [z_33]
      exact ((hF.new f_29).new e_33).upn (hF.none f_29 hq29)
    refine g_putF (k0 := 3) (by first | assumption | exact g_up_self _ _ _ | exact g_upf (by assumption) (by assumption)) in_X2 q177 tyX2_ok nmX2 rfl (by decide) rfl rfl rfl (by rfl) (by rfl) (Nat.le_of_ble_eq_true rfl) dX2_init_36 ?_
    exact K4 _ aw ap az q_29 (g_up_self _ _ _) (g_upt u2 u1 (by omega)) (g_upt u3 u1 (by omega)) (g_upt u4 u1 (by omega)) (DQ.fr (P := fun u => u = B) u5 (Fr.put u1 rfl) (by omega) (by omega) (by omega)) uF.put n1 n2 n3
  have K2 : ∀ (hq : AH) aw ap, hq a = some (B, gO 1 [.ref aw, .ref ap, .null, .null, .int 0]) → hq aw = some (B + 1, gAIn E 8 (fun _ => 0)) → hq ap = some (B + 2, gAZn E 8 (fun _ => 0)) → Fa a h hq → h aw = none → h ap = none → V E cX2_init "SecretVault$World" mX2_init (pV fun h' => WI E B a h h') noX X (hq) 2 16 20 [some (.ref a)] [] := by
    intro hq aw ap q1 q2 q3 hF n1 n2
    first | refine g_aload0 dX2_init_20 ?_ | refine g_aloadQ0 dX2_init_20 ?_ | refine g_aloadN0 dX2_init_20 ?_
    refine g_iconst (nI 4) dX2_init_21 (by decide) ?_
    refine g_newR (j := 6) (B + 3) q137 q138 rfl (by omega) (Nat.le_of_ble_eq_true rfl) (Nat.le_of_ble_eq_true rfl) dX2_init_22 (fun q_22 f_22 => ?_)
    have hna : q_22 ≠ a := fun e => by rw [e, q1] at f_22; cases f_22
    refine g_putF (k0 := 2) (by first | assumption | exact g_up_self _ _ _ | exact g_upf (by assumption) (by assumption)) in_X2 q175 tyX2_ok nmX2 rfl (by decide) rfl rfl rfl (by rfl) (by rfl) (Nat.le_of_ble_eq_true rfl) dX2_init_25 ?_
    exact K3 _ aw ap q_22 (g_up_self _ _ _) (g_upt (g_upf q2 f_22) (g_upf q1 f_22) (by omega)) (g_upt (g_upf q3 f_22) (g_upf q1 f_22) (by omega)) (g_up_of (g_up_self _ _ _) hna) (hF.new f_22).put n1 n2 (hF.none f_22 hna)
  have K1 : ∀ (hq : AH) aw, hq a = some (B, gO 1 [.ref aw, .null, .null, .null, .int 0]) → hq aw = some (B + 1, gAIn E 8 (fun _ => 0)) → Fa a h hq → h aw = none → V E cX2_init "SecretVault$World" mX2_init (pV fun h' => WI E B a h h') noX X (hq) 1 8 12 [some (.ref a)] [] := by
    intro hq aw q1 q2 hF n1
    first | refine g_aload0 dX2_init_12 ?_ | refine g_aloadQ0 dX2_init_12 ?_ | refine g_aloadN0 dX2_init_12 ?_
    refine g_bipush (nI 8) dX2_init_13 (by decide) ?_
    refine g_newz (B + 2) q163 (nI_pos (by omega)) (nI_clamp (by omega)) (by show _ * 1 ≤ _; omega) (Nat.le_of_ble_eq_true rfl) (Nat.le_of_ble_eq_true rfl) dX2_init_15 (fun q_15 f_15 => ?_)
    have hna : q_15 ≠ a := fun e => by rw [e, q1] at f_15; cases f_15
    refine g_putF (k0 := 1) (by first | assumption | exact g_up_self _ _ _ | exact g_upf (by assumption) (by assumption)) in_X2 q172 tyX2_ok nmX2 rfl (by decide) rfl rfl rfl (by rfl) (by rfl) (Nat.le_of_ble_eq_true rfl) dX2_init_17 ?_
    exact K2 _ aw q_15 (g_up_self _ _ _) (g_upt (g_upf q2 f_15) (g_upf q1 f_15) (by omega)) (g_up_of (g_up_self _ _ _) hna) (hF.new f_15).put n1 (hF.none f_15 hna)
  first | refine g_aload0 dX2_init_0 ?_ | refine g_aloadQ0 dX2_init_0 ?_ | refine g_aloadN0 dX2_init_0 ?_
  refine g_objInit q136 q129 q130 dX2_init_1 (Nat.le_of_ble_eq_true rfl) (Nat.le_of_ble_eq_true rfl) ?_
  first | refine g_aload0 dX2_init_4 ?_ | refine g_aloadQ0 dX2_init_4 ?_ | refine g_aloadN0 dX2_init_4 ?_
  refine g_bipush (nI 8) dX2_init_5 (by decide) ?_
  refine g_newi (B + 1) q162 (nI_pos (by omega)) (nI_clamp (by omega)) (by show _ * 4 ≤ _; omega) (Nat.le_of_ble_eq_true rfl) (Nat.le_of_ble_eq_true rfl) dX2_init_7 (fun q_7 f_7 => ?_)
  have hna : q_7 ≠ a := fun e => by rw [e, ha] at f_7; cases f_7
  refine g_putF (k0 := 0) (by first | assumption | exact g_up_self _ _ _ | exact g_upf (by assumption) (by assumption)) in_X2 q170 tyX2_ok nmX2 rfl (by decide) rfl rfl rfl (by rfl) (by rfl) (Nat.le_of_ble_eq_true rfl) dX2_init_9 ?_
  exact K1 _ q_7 (g_up_self _ _ _) (g_up_of (g_up_self _ _ _) hna) (Fa.rf.new f_7).put f_7
