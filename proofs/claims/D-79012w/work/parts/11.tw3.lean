/-! THE TWIN: public operations, one by one: code (what is thrown), value, memory -/
set_option maxRecDepth 100000
/-- the same but for what is used within one operation alone -/
def tSame (M M' : TW) : Prop := M' 1 = M 1 ∧ M' 2 = M 2 ∧ M' 8 = M 8 ∧ M' 9 = M 9 ∧ M' 14 = M 14 ∧ M' 0 3 = M 0 3 ∧ M' 0 10 = M 0 10 ∧ M' 0 15 = M 0 15 ∧ M' 0 16 = M 0 16
theorem tSame.rf {M : TW} : tSame M M := ⟨rfl, rfl, rfl, rfl, rfl, rfl, rfl, rfl, rfl⟩
theorem tSame.tr {M M1 M2 : TW} (a : tSame M M1) (b : tSame M1 M2) : tSame M M2 := by
  obtain ⟨a1, a2, a3, a4, a5, a6, a7, a8, a9⟩ := a
  obtain ⟨b1, b2, b3, b4, b5, b6, b7, b8, b9⟩ := b
  exact ⟨b1.trans a1, b2.trans a2, b3.trans a3, b4.trans a4, b5.trans a5, b6.trans a6, b7.trans a7, b8.trans a8, b9.trans a9⟩
theorem tSame.sy {M M' : TW} (a : tSame M M') : tSame M' M := by
  obtain ⟨a1, a2, a3, a4, a5, a6, a7, a8, a9⟩ := a
  exact ⟨a1.symm, a2.symm, a3.symm, a4.symm, a5.symm, a6.symm, a7.symm, a8.symm, a9.symm⟩
/-- a scratch field written -/
theorem tSame.f {M M1 : TW} (a : tSame M M1) (k x : Nat) (hk : k ≠ 3 ∧ k ≠ 10 ∧ k ≠ 15 ∧ k ≠ 16) : tSame M (tset M1 0 k x) := by
  refine a.tr ⟨rfl, rfl, rfl, rfl, rfl, ?_, ?_, ?_, ?_⟩ <;> exact tset_sn _ _ _ (by omega)
/-- a scratch array written -/
theorem tSame.a {M M1 : TW} (a : tSame M M1) (k i x : Nat) (hk : k ≠ 0 ∧ k ≠ 1 ∧ k ≠ 2 ∧ k ≠ 8 ∧ k ≠ 9 ∧ k ≠ 14) : tSame M (tset M1 k i x) := by
  refine a.tr ⟨?_, ?_, ?_, ?_, ?_, ?_, ?_, ?_, ?_⟩ <;> first | exact tset_n _ _ _ (by omega) | exact congrFun (tset_n _ _ _ (by omega)) _
/-- how an operation of the twin ends -/
def tEnd (E : GE) (A : Nat → Nat) (h : AH) (code val : Nat) (xm : TW) (r : Nat) (h' : AH) : Prop := ∃ M', h' = twO E A M' h ∧ M' 0 0 = code ∧ (code = 0 → r = val) ∧ tSame xm M'
theorem t_fails {E : GE} {A : Nat → Nat} {h : AH} {Mc xm : TW} {c code val r : Nat} (h1 : c = code) (h0 : c ≠ 0) (hs : tSame xm Mc) : tEnd E A h code val xm r (twO E A (tset Mc 0 0 c) h) := ⟨_, rfl, by rw [tset_ss, h1], fun z => absurd (h1.trans z) h0, hs.f 0 c (by decide)⟩
theorem t_done {E : GE} {A : Nat → Nat} {h : AH} {Mc xm : TW} {code val r : Nat} (h1 : 0 = code) (hv : r = val) (hs : tSame xm Mc) : tEnd E A h code val xm r (twO E A (tset Mc 0 0 0) h) := ⟨_, rfl, by rw [tset_ss, h1], fun _ => hv, hs.f 0 0 (by decide)⟩

/-- what holds of a slot, of the world's numbers, of the twin's memory -/
def slW (g : Nat → Nat) (s : Nat) : Prop := gOf g s 0 ≤ 1 ∧ (gOf g s 0 = 1 → 1 ≤ gOf g s 1) ∧ gOf g s 1 ≤ 8 ∧ gOf g s 2 < 1000000 ∧ (∀ j, j < 8 → gOf g s (3 + j) < 2039) ∧ gOf g s 11 ≤ 40 ∧ ∀ x, 1 ≤ x → x ≤ 24 → gSh g s x 0 ≤ gOf g s 0 ∧ gSh g s x 1 < 1019 ∧ gSh g s x 2 < 1000000
def gWF (g : Nat → Nat) : Prop := (∀ m, m < 8 → g (1 + m) ≤ 3) ∧ (∀ m, m < 8 → g (9 + m) ≤ 1) ∧ g 17 ≤ 20 ∧ ∀ s, s < 4 → slW g s
def tWF (M : TW) : Prop := twB M ∧ gWF (M 1)
theorem slW.P {g : Nat → Nat} {s : Nat} (h : slW g s) : slP g s := ⟨h.2.2.1, h.2.2.2.2.1, fun x h1 h2 => (h.2.2.2.2.2.2 x h1 h2).2.1⟩
theorem twB_ev {M : TW} {c : Nat} (h : twB M) (hc : c < 4294967296) (h17 : M 1 17 ≤ 20) : twB (tEv M c) := by
  intro b j
  unfold tEv
  split
  · dsimp only
    repeat' split
    all_goals first | exact h _ _ | exact hc | omega
  · exact h _ _
def tClr (M : TW) (s : Nat) : Nat → TW
  | 0 => M
  | k + 1 => tset (tClr M s k) 1 (38 + 124 * s + k) 0
theorem tClr_g (M : TW) (s k i : Nat) (h : i < 38) : tClr M s k 1 i = M 1 i := by
  induction k with
  | zero => rfl
  | succ k ih => rw [tClr, tset_s, nup_n _ _ (by omega), ih]
theorem dlC_g (M : TW) (s k j i : Nat) (h : i < 38) : dlC M s k j 1 i = M 1 i := by
  induction j with
  | zero => rfl
  | succ j ih => rw [dlC, tset_s, nup_n _ _ (by omega), ih]
theorem dlM_g (M : TW) (s v k e i : Nat) (h : i < 38) (h0 : 0 < i) : dlM M s v k e 1 i = M 1 i := by
  unfold dlM
  rw [tset_s, nup_n _ _ (by omega), tset_s, nup_n _ _ (by omega), tset_s, nup_n _ _ (by omega), dlC_g _ _ _ _ _ h, dlP_g _ _ _ _ _ _ h, tCf_g _ _ _ _ h0]
theorem dlM_n (M : TW) (s v k e b : Nat) (h : b ≠ 1) (h4 : b ≠ 4) : dlM M s v k e b = M b := by
  unfold dlM
  rw [tset_n _ _ _ h, tset_n _ _ _ h, tset_n _ _ _ h, dlC_n _ _ _ _ _ h, dlP_n _ _ _ _ _ _ h]
  unfold tCf
  rw [if_neg h4, if_neg h]
theorem tEv_n (M : TW) (c b : Nat) (h : b ≠ 1) : tEv M c b = M b := if_neg h
theorem tSame.ev {M M1 : TW} (h : tSame M M1) (c : Nat) : tSame (tEv M c) (tEv M1 c) := by
  obtain ⟨a1, a2, a3, a4, a5, a6, a7, a8, a9⟩ := h
  refine ⟨?_, a2, a3, a4, a5, a6, a7, a8, a9⟩
  funext j
  simp only [tEv, a1]
theorem tSame.up {M M1 : TW} (h : tSame M M1) (k i x : Nat) (hk : k = 1 ∨ k = 2 ∨ k = 8 ∨ k = 9 ∨ k = 14) : tSame (tset M k i x) (tset M1 k i x) := by
  obtain ⟨a1, a2, a3, a4, a5, a6, a7, a8, a9⟩ := h
  rcases hk with rfl | rfl | rfl | rfl | rfl <;> simp [tSame, tset, *]
abbrev mX3_setWeight : GM := (yX3_setWeight, 4, (some .int), [], { frames := 2, cells := 0, slots := 0, locals := 42 }, 255)
theorem kX3_setWeight : gCv cX3_setWeight mX3_setWeight 2 := ⟨q2187, q2188, q90, q2189, ⟨by decide +kernel, by decide +kernel, by decide +kernel⟩, rfl⟩
def xc_setWeight (M : TW) (m w : Nat) : Nat := if ¬ m ≤ 7 then 1 else if ¬ w ≤ 3 then 2 else 0
def xv_setWeight (M : TW) (m w : Nat) : Nat := M 1 (1 + m)
def xm_setWeight (M : TW) (m w : Nat) : TW := if m ≤ 7 ∧ w ≤ 3 then tset M 1 (1 + m) w else M
set_option maxHeartbeats 400000 in
theorem ctX3_setWeight {E : GE} {h : AH} {A : Nat → Nat} (hA : twA A) (M : TW) (m w : Nat) (hB : twB M) (hm : m < 4294967296) (hw : w < 4294967296) : Ct E cX3_setWeight mX3_setWeight [.ref (A 0), .int (nI m), .int (nI w)] (twO E A M h) (pN fun r h' => tEnd E A h (xc_setWeight M m w ) (xv_setWeight M m w ) (xm_setWeight M m w ) r h') noX := by
  refine g_enter (own := "SecretVaultModel") [some (.ref (A 0)), some (.int (nI m)), some (.int (nI w)), none] (by decide +kernel) rfl rfl (Nat.le_of_ble_eq_true rfl) rfl rfl (fun X => ?_)
  refine g_iload1 dX3_setWeight_0 ?_
  refine g_S1n0 (ctX3_isMember _ (by omega)) kX3_isMember q2190 (by decide) ⟨rfl, rfl⟩ ⟨Nat.zero_le _, Nat.zero_le _⟩ (Nat.le_of_ble_eq_true rfl) dX3_setWeight_1 (fun r_1 h_1 p_1 => ?_)
  obtain ⟨hr_1, hi_1, rfl⟩ := p_1
  first | refine g_ifN_ne (tgt := 13) dX3_setWeight_4 (by decide) (by first | omega | exact hB _ _ | (split <;> omega)) (fun c_4 => ?_) (fun c_4 => ?_) | refine g_if_ne (tgt := 13) dX3_setWeight_4 (by decide) (fun c_4 => ?_) (fun c_4 => ?_)
  · refine g_iload2 dX3_setWeight_13 ?_
    refine g_iconst (nI 0) dX3_setWeight_14 (by decide) ?_
    refine g_iconst (nI 3) dX3_setWeight_15 (by decide) ?_
    refine g_S3n0 (ctX3_in _ _ _ (by omega) (by omega) (by omega)) kX3_in q2193 (by decide) ⟨rfl, rfl⟩ ⟨Nat.zero_le _, Nat.zero_le _⟩ (Nat.le_of_ble_eq_true rfl) dX3_setWeight_16 (fun r_16 h_16 p_16 => ?_)
    obtain ⟨hr_16, hi_16, rfl⟩ := p_16
    first | refine g_ifN_ne (tgt := 28) dX3_setWeight_19 (by decide) (by first | omega | exact hB _ _ | (split <;> omega)) (fun c_19 => ?_) (fun c_19 => ?_) | refine g_if_ne (tgt := 28) dX3_setWeight_19 (by decide) (fun c_19 => ?_) (fun c_19 => ?_)
    · first | refine g_aload0 dX3_setWeight_28 ?_ | refine g_aloadQ0 dX3_setWeight_28 ?_ | refine g_aloadN0 dX3_setWeight_28 ?_
      refine t_get1 hA q2099 dX3_setWeight_29 ?_
      refine g_iconst (nI 1) dX3_setWeight_32 (by decide) ?_
      refine g_iload1 dX3_setWeight_33 ?_
      first | refine g_iaddN dX3_setWeight_34 ?_ | refine g_iadd dX3_setWeight_34 ?_
      refine t_ald1 hA (by first | omega | exact hB _ _ | (split <;> omega)) dX3_setWeight_35 ?_
      refine g_istore3 dX3_setWeight_36 (by decide) ?_
      first | refine g_aload0 dX3_setWeight_37 ?_ | refine g_aloadQ0 dX3_setWeight_37 ?_ | refine g_aloadN0 dX3_setWeight_37 ?_
      refine t_get1 hA q2099 dX3_setWeight_38 ?_
      refine g_iconst (nI 1) dX3_setWeight_41 (by decide) ?_
      refine g_iload1 dX3_setWeight_42 ?_
      first | refine g_iaddN dX3_setWeight_43 ?_ | refine g_iadd dX3_setWeight_43 ?_
      refine g_iload2 dX3_setWeight_44 ?_
      refine t_ast1 hA (by first | omega | exact hB _ _ | (split <;> omega)) dX3_setWeight_45 ?_
      first | refine g_aload0 dX3_setWeight_46 ?_ | refine g_aloadQ0 dX3_setWeight_46 ?_ | refine g_aloadN0 dX3_setWeight_46 ?_
      refine g_iload3 dX3_setWeight_47 ?_
      refine g_V1n0 (ctX3_done hA _ _) kX3_done q2173 tw_0 rfl rfl (by decide) ⟨rfl, rfl⟩ ⟨Nat.zero_le _, Nat.zero_le _⟩ (Nat.le_of_ble_eq_true rfl) dX3_setWeight_48 (fun r_48 h_48 p_48 => ?_)
      obtain ⟨rfl, rfl⟩ := p_48
      exact g_iret dX3_setWeight_51 rfl ⟨_, rfl, (by first | exact t_fails (by unfold xc_setWeight; (repeat' split) <;> omega) (by decide) (by unfold xm_setWeight; first | exact tSame.rf | (rw [if_pos (by omega)]; exact tSame.rf) | (rw [if_neg (by omega)]; exact tSame.rf)) | exact t_done (by unfold xc_setWeight; (repeat' split) <;> omega) (by unfold xv_setWeight; rfl) (by unfold xm_setWeight; first | exact tSame.rf | (rw [if_pos (by omega)]; exact tSame.rf) | (rw [if_neg (by omega)]; exact tSame.rf)))⟩
    · first | refine g_aload0 dX3_setWeight_22 ?_ | refine g_aloadQ0 dX3_setWeight_22 ?_ | refine g_aloadN0 dX3_setWeight_22 ?_
      refine g_iconst (nI 2) dX3_setWeight_23 (by decide) ?_
      refine g_V1n0 (ctX3_fails hA _ _) kX3_fails q2196 tw_0 rfl rfl (by decide) ⟨rfl, rfl⟩ ⟨Nat.zero_le _, Nat.zero_le _⟩ (Nat.le_of_ble_eq_true rfl) dX3_setWeight_24 (fun r_24 h_24 p_24 => ?_)
      obtain ⟨rfl, rfl⟩ := p_24
      exact g_iret dX3_setWeight_27 rfl ⟨_, rfl, (by first | exact t_fails (by unfold xc_setWeight; (repeat' split) <;> omega) (by decide) (by unfold xm_setWeight; first | exact tSame.rf | (rw [if_pos (by omega)]; exact tSame.rf) | (rw [if_neg (by omega)]; exact tSame.rf)) | exact t_done (by unfold xc_setWeight; (repeat' split) <;> omega) (by unfold xv_setWeight; rfl) (by unfold xm_setWeight; first | exact tSame.rf | (rw [if_pos (by omega)]; exact tSame.rf) | (rw [if_neg (by omega)]; exact tSame.rf)))⟩
  · first | refine g_aload0 dX3_setWeight_7 ?_ | refine g_aloadQ0 dX3_setWeight_7 ?_ | refine g_aloadN0 dX3_setWeight_7 ?_
    refine g_iconst (nI 1) dX3_setWeight_8 (by decide) ?_
    refine g_V1n0 (ctX3_fails hA _ _) kX3_fails q2196 tw_0 rfl rfl (by decide) ⟨rfl, rfl⟩ ⟨Nat.zero_le _, Nat.zero_le _⟩ (Nat.le_of_ble_eq_true rfl) dX3_setWeight_9 (fun r_9 h_9 p_9 => ?_)
    obtain ⟨rfl, rfl⟩ := p_9
    exact g_iret dX3_setWeight_12 rfl ⟨_, rfl, (by first | exact t_fails (by unfold xc_setWeight; (repeat' split) <;> omega) (by decide) (by unfold xm_setWeight; first | exact tSame.rf | (rw [if_pos (by omega)]; exact tSame.rf) | (rw [if_neg (by omega)]; exact tSame.rf)) | exact t_done (by unfold xc_setWeight; (repeat' split) <;> omega) (by unfold xv_setWeight; rfl) (by unfold xm_setWeight; first | exact tSame.rf | (rw [if_pos (by omega)]; exact tSame.rf) | (rw [if_neg (by omega)]; exact tSame.rf)))⟩
abbrev mX3_setPresent : GM := (yX3_setPresent, 4, (some .boolean), [], { frames := 2, cells := 0, slots := 0, locals := 42 }, 255)
theorem kX3_setPresent : gCv cX3_setPresent mX3_setPresent 2 := ⟨q2201, q2202, q90, q2203, ⟨by decide +kernel, by decide +kernel, by decide +kernel⟩, rfl⟩
def xc_setPresent (M : TW) (m p : Nat) : Nat := if ¬ m ≤ 7 then 1 else 0
def xv_setPresent (M : TW) (m p : Nat) : Nat := if M 1 (9 + m) = 1 then 1 else 0
def xm_setPresent (M : TW) (m p : Nat) : TW := if m ≤ 7 then tset M 1 (9 + m) p else M
set_option maxHeartbeats 400000 in
theorem ctX3_setPresent {E : GE} {h : AH} {A : Nat → Nat} (hA : twA A) (M : TW) (m p : Nat) (hB : twB M) (hm : m < 4294967296) (hp : p < 2) : Ct E cX3_setPresent mX3_setPresent [.ref (A 0), .int (nI m), .int (nI p)] (twO E A M h) (pN fun r h' => tEnd E A h (xc_setPresent M m p ) (xv_setPresent M m p ) (xm_setPresent M m p ) r h') noX := by
  refine g_enter (own := "SecretVaultModel") [some (.ref (A 0)), some (.int (nI m)), some (.int (nI p)), none] (by decide +kernel) rfl rfl (Nat.le_of_ble_eq_true rfl) rfl rfl (fun X => ?_)
  first | refine g_aload0 dX3_setPresent_0 ?_ | refine g_aloadQ0 dX3_setPresent_0 ?_ | refine g_aloadN0 dX3_setPresent_0 ?_
  refine g_iload1 dX3_setPresent_1 ?_
  refine g_S1n0 (ctX3_isMember _ (by omega)) kX3_isMember q2190 (by decide) ⟨rfl, rfl⟩ ⟨Nat.zero_le _, Nat.zero_le _⟩ (Nat.le_of_ble_eq_true rfl) dX3_setPresent_2 (fun r_2 h_2 p_2 => ?_)
  obtain ⟨hr_2, hi_2, rfl⟩ := p_2
  first | refine g_ifN_eq (tgt := 12) dX3_setPresent_5 (by decide) (by first | omega | exact hB _ _ | (split <;> omega)) (fun c_5 => ?_) (fun c_5 => ?_) | refine g_if_eq (tgt := 12) dX3_setPresent_5 (by decide) (fun c_5 => ?_) (fun c_5 => ?_)
  · refine g_iconst (nI 1) dX3_setPresent_12 (by decide) ?_
    refine t_put0 hA q2098 dX3_setPresent_13 ?_
    first | refine g_aload0 dX3_setPresent_16 ?_ | refine g_aloadQ0 dX3_setPresent_16 ?_ | refine g_aloadN0 dX3_setPresent_16 ?_
    refine t_get0 hA q2098 dX3_setPresent_17 ?_
    rw [tset_ss]
    first | refine g_ifN_eq (tgt := 25) dX3_setPresent_20 (by decide) (by first | omega | exact hB _ _ | (split <;> omega)) (fun c_20 => ?_) (fun c_20 => ?_) | refine g_if_eq (tgt := 25) dX3_setPresent_20 (by decide) (fun c_20 => ?_) (fun c_20 => ?_)
    · omega
    · refine g_iconst (nI 0) dX3_setPresent_23 (by decide) ?_
      exact g_zret dX3_setPresent_24 rfl (nar_zb (by first | omega | exact hB _ _ | (split <;> omega))) ⟨_, rfl, by first | exact ⟨_, rfl, by unfold xc_setPresent; show 1 = _; (repeat' split) <;> omega, fun z => absurd z (by unfold xc_setPresent; (repeat' split) <;> omega), by unfold xm_setPresent; rw [if_neg (by omega)]; exact tSame.rf.f 0 _ (by decide)⟩ | exact ⟨_, rfl, by unfold xc_setPresent; show 0 = _; (repeat' split) <;> omega, fun z => hv, by unfold xm_setPresent; rw [if_pos (by omega)]; first | (obtain rfl : p = 1 := by omega); exact (tSame.rf.f 0 _ (by decide)).up 1 _ _ (Or.inl rfl) | (obtain rfl : p = 0 := by omega); exact (tSame.rf.f 0 _ (by decide)).up 1 _ _ (Or.inl rfl)⟩⟩
  · refine g_iconst (nI 0) dX3_setPresent_8 (by decide) ?_
    refine g_goto (tgt := 13) dX3_setPresent_9 (by decide) ?_
    refine t_put0 hA q2098 dX3_setPresent_13 ?_
    first | refine g_aload0 dX3_setPresent_16 ?_ | refine g_aloadQ0 dX3_setPresent_16 ?_ | refine g_aloadN0 dX3_setPresent_16 ?_
    refine t_get0 hA q2098 dX3_setPresent_17 ?_
    rw [tset_ss]
    first | refine g_ifN_eq (tgt := 25) dX3_setPresent_20 (by decide) (by first | omega | exact hB _ _ | (split <;> omega)) (fun c_20 => ?_) (fun c_20 => ?_) | refine g_if_eq (tgt := 25) dX3_setPresent_20 (by decide) (fun c_20 => ?_) (fun c_20 => ?_)
    · have hB0 : twB (tset M 0 0 0) := twB_set hB (by decide)
      first | refine g_aload0 dX3_setPresent_25 ?_ | refine g_aloadQ0 dX3_setPresent_25 ?_ | refine g_aloadN0 dX3_setPresent_25 ?_
      refine g_iload1 dX3_setPresent_26 ?_
      refine g_V1n0 (ctX3_isPresent hA _ _ hB0 (by omega)) kX3_isPresent q2204 tw_0 rfl rfl (by decide) ⟨rfl, rfl⟩ ⟨Nat.zero_le _, Nat.zero_le _⟩ (Nat.le_of_ble_eq_true rfl) dX3_setPresent_27 (fun r_27 h_27 p_27 => ?_)
      obtain ⟨hr_27, hi_27, rfl⟩ := p_27
      have hi2 : r_27 = 1 ↔ M 1 (9 + m) = 1 := hi_27
      have hv : r_27 = if M 1 (9 + m) = 1 then 1 else 0 := by split <;> omega
      refine g_istore3 dX3_setPresent_30 (by decide) ?_
      first | refine g_aload0 dX3_setPresent_31 ?_ | refine g_aloadQ0 dX3_setPresent_31 ?_ | refine g_aloadN0 dX3_setPresent_31 ?_
      refine t_get1 hA q2099 dX3_setPresent_32 ?_
      refine g_bipush (nI 9) dX3_setPresent_35 (by decide) ?_
      refine g_iload1 dX3_setPresent_37 ?_
      first | refine g_iaddN dX3_setPresent_38 ?_ | refine g_iadd dX3_setPresent_38 ?_
      refine g_iload2 dX3_setPresent_39 ?_
      first | refine g_ifN_eq (tgt := 47) dX3_setPresent_40 (by decide) (by first | omega | exact hB _ _ | (split <;> omega)) (fun c_40 => ?_) (fun c_40 => ?_) | refine g_if_eq (tgt := 47) dX3_setPresent_40 (by decide) (fun c_40 => ?_) (fun c_40 => ?_)
      · refine g_iconst (nI 0) dX3_setPresent_47 (by decide) ?_
        refine t_ast1 hA (by first | omega | exact hB _ _ | (split <;> omega)) dX3_setPresent_48 ?_
        refine g_iload3 dX3_setPresent_49 ?_
        exact g_zret dX3_setPresent_50 rfl (nar_zb (by first | omega | exact hB _ _ | (split <;> omega))) ⟨_, rfl, by first | exact ⟨_, rfl, by unfold xc_setPresent; show 1 = _; (repeat' split) <;> omega, fun z => absurd z (by unfold xc_setPresent; (repeat' split) <;> omega), by unfold xm_setPresent; rw [if_neg (by omega)]; exact tSame.rf.f 0 _ (by decide)⟩ | exact ⟨_, rfl, by unfold xc_setPresent; show 0 = _; (repeat' split) <;> omega, fun z => hv, by unfold xm_setPresent; rw [if_pos (by omega)]; first | (obtain rfl : p = 1 := by omega); exact (tSame.rf.f 0 _ (by decide)).up 1 _ _ (Or.inl rfl) | (obtain rfl : p = 0 := by omega); exact (tSame.rf.f 0 _ (by decide)).up 1 _ _ (Or.inl rfl)⟩⟩
      · refine g_iconst (nI 1) dX3_setPresent_43 (by decide) ?_
        refine g_goto (tgt := 48) dX3_setPresent_44 (by decide) ?_
        refine t_ast1 hA (by first | omega | exact hB _ _ | (split <;> omega)) dX3_setPresent_48 ?_
        refine g_iload3 dX3_setPresent_49 ?_
        exact g_zret dX3_setPresent_50 rfl (nar_zb (by first | omega | exact hB _ _ | (split <;> omega))) ⟨_, rfl, by first | exact ⟨_, rfl, by unfold xc_setPresent; show 1 = _; (repeat' split) <;> omega, fun z => absurd z (by unfold xc_setPresent; (repeat' split) <;> omega), by unfold xm_setPresent; rw [if_neg (by omega)]; exact tSame.rf.f 0 _ (by decide)⟩ | exact ⟨_, rfl, by unfold xc_setPresent; show 0 = _; (repeat' split) <;> omega, fun z => hv, by unfold xm_setPresent; rw [if_pos (by omega)]; first | (obtain rfl : p = 1 := by omega); exact (tSame.rf.f 0 _ (by decide)).up 1 _ _ (Or.inl rfl) | (obtain rfl : p = 0 := by omega); exact (tSame.rf.f 0 _ (by decide)).up 1 _ _ (Or.inl rfl)⟩⟩
    · omega
abbrev mX3_remove : GM := (yX3_remove, 5, (some .int), [], { frames := 3, cells := 0, slots := 0, locals := 63 }, 255)
theorem kX3_remove : gCv cX3_remove mX3_remove 1 := ⟨q2274, q2275, q90, q2276, ⟨by decide +kernel, by decide +kernel, by decide +kernel⟩, rfl⟩
def xc_remove (M : TW) (s : Nat) : Nat := if ¬ s ≤ 3 then 1 else if gOf (M 1) s 0 = 0 then 2 else 0
def xv_remove (M : TW) (s : Nat) : Nat := gOf (M 1) s 2
def xm_remove (M : TW) (s : Nat) : TW := if ¬ s ≤ 3 ∨ gOf (M 1) s 0 = 0 then M else tEv (tClr M s 124) (200 + s)
set_option maxHeartbeats 400000 in
theorem ctX3_remove {E : GE} {h : AH} {A : Nat → Nat} (hA : twA A) (M : TW) (s : Nat) (hW : tWF M) (hs : s < 4294967296) : Ct E cX3_remove mX3_remove [.ref (A 0), .int (nI s)] (twO E A M h) (pN fun r h' => tEnd E A h (xc_remove M s ) (xv_remove M s ) (xm_remove M s ) r h') noX := by
  refine g_enter (own := "SecretVaultModel") [some (.ref (A 0)), some (.int (nI s)), none, none, none] (by decide +kernel) rfl rfl (Nat.le_of_ble_eq_true rfl) rfl rfl (fun X => ?_)
  have hs9 : M 1 17 ≤ 20 := hW.2.2.2.1
  have hB := hW.1
  have L : ∀ i, 0 ≤ i → i ≤ 124 → s ≤ 3 → ¬ gOf (M 1) s 0 = 0 → V E cX3_remove "SecretVaultModel" mX3_remove (pN fun r h' => tEnd E A h (xc_remove M s ) (xv_remove M s ) (xm_remove M s ) r h') noX X (twO E A (tClr M s i) h) 0 0 26 [some (.ref (A 0)), some (.int (nI s)), some (.int (nI 0)), some (.int (nI (gOf (M 1) s 2))), some (.int (nI i))] [] := by
    intro i h0 h1 h3 hh
    refine g_for (fun i => V E cX3_remove "SecretVaultModel" mX3_remove (pN fun r h' => tEnd E A h (xc_remove M s ) (xv_remove M s ) (xm_remove M s ) r h') noX X (twO E A (tClr M s i) h) 0 0 26 [some (.ref (A 0)), some (.int (nI s)), some (.int (nI 0)), some (.int (nI (gOf (M 1) s 2))), some (.int (nI i))] []) 0 124 ?_ ?_ i h0 h1
    · refine g_iload4 dX3_remove_26 ?_
      refine g_bipush (nI 124) dX3_remove_28 (by decide) ?_
      first | refine g_icmpN_ge (tgt := 47) dX3_remove_30 (by decide) (by first | omega | exact hB _ _ | (split <;> omega)) (by first | omega | exact hB _ _ | (split <;> omega)) (fun c_30 => ?_) (fun c_30 => ?_) | refine g_icmp_ge (tgt := 47) dX3_remove_30 (by decide) (fun c_30 => ?_) (fun c_30 => ?_)
      · have hE : tClr M s 124 1 17 ≤ 20 := by rw [tClr_g _ _ _ _ (by decide)]; exact hs9
        first | refine g_aload0 dX3_remove_47 ?_ | refine g_aloadQ0 dX3_remove_47 ?_ | refine g_aloadN0 dX3_remove_47 ?_
        refine g_sipush (nI 200) dX3_remove_48 (by decide) ?_
        refine g_iload1 dX3_remove_51 ?_
        first | refine g_iaddN dX3_remove_52 ?_ | refine g_iadd dX3_remove_52 ?_
        refine g_V1v0 (ctX3_happens hA _ _ hE) kX3_happens q2269 tw_0 rfl rfl (by decide) ⟨rfl, rfl⟩ ⟨Nat.zero_le _, Nat.zero_le _⟩ (Nat.le_of_ble_eq_true rfl) dX3_remove_53 (fun h_53 p_53 => ?_)
        subst p_53
        first | refine g_aload0 dX3_remove_56 ?_ | refine g_aloadQ0 dX3_remove_56 ?_ | refine g_aloadN0 dX3_remove_56 ?_
        refine g_iload3 dX3_remove_57 ?_
        refine g_V1n0 (ctX3_done hA _ _) kX3_done q2173 tw_0 rfl rfl (by decide) ⟨rfl, rfl⟩ ⟨Nat.zero_le _, Nat.zero_le _⟩ (Nat.le_of_ble_eq_true rfl) dX3_remove_58 (fun r_58 h_58 p_58 => ?_)
        obtain ⟨rfl, rfl⟩ := p_58
        exact g_iret dX3_remove_61 rfl ⟨_, rfl, t_done (by unfold xc_remove; (repeat' split) <;> omega) rfl (by unfold xm_remove; rw [if_neg (by omega)]; exact tSame.rf)⟩
      · omega
    · intro i h0 hi ih
      refine g_iload4 dX3_remove_26 ?_
      refine g_bipush (nI 124) dX3_remove_28 (by decide) ?_
      first | refine g_icmpN_ge (tgt := 47) dX3_remove_30 (by decide) (by first | omega | exact hB _ _ | (split <;> omega)) (by first | omega | exact hB _ _ | (split <;> omega)) (fun c_30 => ?_) (fun c_30 => ?_) | refine g_icmp_ge (tgt := 47) dX3_remove_30 (by decide) (fun c_30 => ?_) (fun c_30 => ?_)
      · omega
      · first | refine g_aload0 dX3_remove_33 ?_ | refine g_aloadQ0 dX3_remove_33 ?_ | refine g_aloadN0 dX3_remove_33 ?_
        refine g_iload1 dX3_remove_34 ?_
        refine g_iload4 dX3_remove_35 ?_
        refine g_iconst (nI 0) dX3_remove_37 (by decide) ?_
        refine g_V3v0 (ctX3_sets hA _ _ _ _ (by omega) (by omega)) kX3_sets q2242 tw_0 rfl rfl (by decide) ⟨rfl, rfl⟩ ⟨Nat.zero_le _, Nat.zero_le _⟩ (Nat.le_of_ble_eq_true rfl) dX3_remove_38 (fun h_38 p_38 => ?_)
        subst p_38
        first | refine g_iincN4 1 dX3_remove_41 (by decide) (by decide) ?_ | refine g_iinc4 _ dX3_remove_41 rfl (by decide) ?_
        refine g_goto (tgt := 26) dX3_remove_44 (by decide) ?_
        exact ih
  first | refine g_aload0 dX3_remove_0 ?_ | refine g_aloadQ0 dX3_remove_0 ?_ | refine g_aloadN0 dX3_remove_0 ?_
  refine g_iload1 dX3_remove_1 ?_
  refine g_V1n0 (ctX3_lacks hA _ _ hB (by omega)) kX3_lacks q2277 tw_0 rfl rfl (by decide) ⟨rfl, rfl⟩ ⟨Nat.zero_le _, Nat.zero_le _⟩ (Nat.le_of_ble_eq_true rfl) dX3_remove_2 (fun r_2 h_2 p_2 => ?_)
  obtain ⟨hi_2, rfl⟩ := p_2
  refine g_istore2 dX3_remove_5 (by decide) ?_
  refine g_iload2 dX3_remove_6 ?_
  first | refine g_ifN_eq (tgt := 16) dX3_remove_7 (by decide) (by first | omega | exact hB _ _ | (split <;> omega)) (fun c_7 => ?_) (fun c_7 => ?_) | refine g_if_eq (tgt := 16) dX3_remove_7 (by decide) (fun c_7 => ?_) (fun c_7 => ?_)
  · first | refine g_aload0 dX3_remove_16 ?_ | refine g_aloadQ0 dX3_remove_16 ?_ | refine g_aloadN0 dX3_remove_16 ?_
    refine g_iload1 dX3_remove_17 ?_
    refine g_iconst (nI 2) dX3_remove_18 (by decide) ?_
    refine g_V2n0 (ctX3_of hA _ _ _ (by omega) (by omega)) kX3_of q2220 tw_0 rfl rfl (by decide) ⟨rfl, rfl⟩ ⟨Nat.zero_le _, Nat.zero_le _⟩ (Nat.le_of_ble_eq_true rfl) dX3_remove_19 (fun r_19 h_19 p_19 => ?_)
    obtain ⟨rfl, rfl⟩ := p_19
    refine g_istore3 dX3_remove_22 (by decide) ?_
    refine g_iconst (nI 0) dX3_remove_23 (by decide) ?_
    refine g_istore4 dX3_remove_24 (by decide) ?_
    obtain rfl : r_2 = 0 := by omega
    exact L 0 (by omega) (by omega) (by omega) (by omega)
  · first | refine g_aload0 dX3_remove_10 ?_ | refine g_aloadQ0 dX3_remove_10 ?_ | refine g_aloadN0 dX3_remove_10 ?_
    refine g_iload2 dX3_remove_11 ?_
    refine g_V1n0 (ctX3_fails hA _ _) kX3_fails q2196 tw_0 rfl rfl (by decide) ⟨rfl, rfl⟩ ⟨Nat.zero_le _, Nat.zero_le _⟩ (Nat.le_of_ble_eq_true rfl) dX3_remove_12 (fun r_12 h_12 p_12 => ?_)
    obtain ⟨rfl, rfl⟩ := p_12
    exact g_iret dX3_remove_15 rfl ⟨_, rfl, t_fails (by unfold xc_remove; (repeat' split) <;> omega) (by omega) (by unfold xm_remove; rw [if_pos (by omega)]; exact tSame.rf)⟩
