/-! THE VAULT: operations that change it -/
set_option maxRecDepth 100000
abbrev vP : Nat → Prop := fun u => 9 ≤ u
/-- what an operation on the current world may change -/
abbrev wdP : Nat → Prop := fun u => (100 ≤ u ∧ u < 228) ∨ 1000 ≤ u
theorem Fr.wv {h h' : AH} (f : Fr wdP h h') : Fr vP h h' := f.mono (fun u z => by omega)
theorem VX9.wd {E : GE} {M M' : TW} {v w b : Nat} {sv : Option Nat} {L : List Nat} {h h' : AH} (hV : VX9 E M v L w b sv h) (hf : Fr wdP h h') (hw : WO E 100 (M' 1) w h') (e3 : M' 0 3 = M 0 3) (e10 : M' 0 10 = M 0 10) (e15 : M' 0 15 = M 0 15) (e16 : M' 0 16 = M 0 16) (e2 : M' 2 = M 2) (e8 : M' 8 = M 8) (e9 : M' 9 = M 9) (e14 : M' 14 = M 14) : VX9 E M' v L w b sv h' := by
  obtain ⟨h1, h2, h3, h4, h5, h6⟩ := hV
  refine ⟨by rw [e16]; exact hf _ _ _ h1 (by omega), hw, ?_, by rw [e14, e15]; exact h4.fr hf (by omega) (by omega), by rw [e10]; exact h5, by rw [e8, e9]; exact h6.fr hf (by omega)⟩
  unfold svO at h3 ⊢
  rw [e3, e2]
  exact h3.imp (fun z => ⟨z.1, z.2.choose, z.2.choose_spec.1, z.2.choose_spec.2.fr hf (fun t ht => by omega) (by omega) (by omega)⟩) id
theorem sl_up {E : GE} {g g' : Nat → Nat} {h h' : AH} {P : Nat → Prop} {fz : Nat → Option Nat} (x7 : ∀ s, s < 4 → slO E 100 g s (fz s) h) (hsl : ∀ s, s < 4 → slW g s) (hf : Fr P h h') (hp : ∀ u, P u → 8 < u ∧ (u < 110 ∨ 228 ≤ u)) (hg : ∀ i, 38 ≤ i → g' i = g i) : ∀ s, s < 4 → slO E 100 g' s (fz s) h' := fun s hs => ((x7 s hs).fr hf (fun t ht z => by have := hp _ z; omega) (fun z => absurd (hp _ z).1 (by decide)) (fun z => absurd (hp _ z).1 (by decide))).cg (hsl s hs).2.2.2.2.2.1 (hsl s hs).2.2.1 (fun w hw => hg _ (by omega))
theorem ev_up {E : GE} {g g' : Nat → Nat} {h h' : AH} {P : Nat → Prop} {ad : Nat} (x8 : DQ E 104 h ad (evL g)) (hf : Fr P h h') (h7 : ¬ P 7) (h1 : ¬ P 104) (h2 : ¬ P 105) (hle : g 17 ≤ 20) (h17 : g' 17 = g 17) (hg : ∀ k, k < 20 → g' (18 + k) = g (18 + k)) : DQ E 104 h' ad (evL g') := by
  rw [evL_cg h17 hle hg]
  exact x8.fr hf h1 h2 h7
theorem vW.h17 {M : TW} (hW : vW M) : M 1 17 ≤ 20 := hW.1.2.2.2.1
theorem vW.s4 {M : TW} (hW : vW M) : ∀ s, s < 4 → slW (M 1) s := hW.1.2.2.2.2
def xc_seed (M : TW) (z : Nat) : Nat := 0
def xv_seed (M : TW) (z : Nat) : Nat := M 1 0
def xm_seed (M : TW) (z : Nat) : TW := tset M 1 0 z
def xc_draw (M : TW) : Nat := 0
def xv_draw (M : TW) : Nat := zN (M 1 0) / 2 ^ 16 % 1019
def xm_draw (M : TW) : TW := tset M 1 0 (zN (M 1 0))
theorem VO.z {E : GE} {M : TW} {v : Nat} {L : List Nat} {h : AH} {w b aw ap az ad : Nat} {sv : Option Nat} {fw fp : Nat → Nat} {fz : Nat → Option Nat} (z : Nat) (hW : vW M) (hx : WX E 100 (M 1) w aw ap az ad fw fp fz h) (hV : VX9 E M v L w b sv h) : VO E (tset M 1 0 z) v L (g_up h w (100, gO 1 [.ref aw, .ref ap, .ref az, .ref ad, .int (nI z)])) ∧ Fr vP h (g_up h w (100, gO 1 [.ref aw, .ref ap, .ref az, .ref ad, .int (nI z)])) := by
  obtain ⟨x1, x2, x3, x4, x5, x6, x7, x8⟩ := hx
  have hf : Fr (fun u => u = 100) h (g_up h w (100, gO 1 [.ref aw, .ref ap, .ref az, .ref ad, .int (nI z)])) := Fr.put x1 rfl
  have hf2 : Fr wdP h (g_up h w (100, gO 1 [.ref aw, .ref ap, .ref az, .ref ad, .int (nI z)])) := hf.mono (fun u z => by omega)
  have hn : ∀ i, i ≠ 0 → tset M 1 0 z 1 i = M 1 i := fun i hi => tset_sn M 1 z hi
  refine ⟨⟨w, b, sv, hV.wd hf2 ⟨aw, ap, az, ad, fw, fp, fz, ?_, g_upt x2 x1 (by decide), fun m hm => (x3 m hm).trans (hn _ (by omega)).symm, g_upt x4 x1 (by decide), fun m hm => (x5 m hm).trans (hn _ (by omega)).symm, g_upt x6 x1 (by decide), sl_up x7 hW.s4 hf (fun u z => by omega) (fun i hi => hn _ (by omega)), ev_up x8 hf (by decide) (by decide) (by decide) hW.h17 (hn _ (by decide)) (fun k hk => hn _ (by omega))⟩ rfl rfl rfl rfl rfl rfl rfl rfl⟩, hf2.wv⟩
  rw [g_up_self]
  rfl
abbrev mX1_seed : GM := (yX1_seed, 3, (some .int), [], { frames := 0, cells := 900, slots := 90000, locals := 0 }, 255)
theorem kX1_seed : gCv cX1_seed mX1_seed 1 := ⟨q594, q595, q67, q596, ⟨by decide +kernel, by decide +kernel, by decide +kernel⟩, rfl⟩
theorem uX1_seed : gCu cX1_seed mX1_seed 1 := ⟨q594, q67, q596, ⟨by decide +kernel, by decide +kernel, by decide +kernel⟩, rfl⟩
set_option maxHeartbeats 400000 in
theorem ctX1_seed {E : GE} {h : AH} {v : Nat} {L9 : List Nat} (M : TW) (z : Nat) (hV : VO E M v L9 h) (hW : vW M) (hz : z < 4294967296)  : Ct E cX1_seed mX1_seed [.ref v, .int (nI z)] (h) (pN fun r h' => xc_seed M z = 0 ∧ r = xv_seed M z ∧ VO E (xm_seed M z) v L9 h' ∧ Fr vP h h') (noX) := by
  refine g_enter (own := "SecretVault") [some (.ref v), some (.int (nI z)), none] (by decide +kernel) rfl rfl (Nat.le_of_ble_eq_true rfl) rfl rfl (fun X => ?_)
  obtain ⟨w, b, sv, hv, ⟨aw, ap, az, ad, fw, fp, fz, x1, x2, x3, x4, x5, x6, x7, x8⟩, hsv, hsb, hlen, hch⟩ := id hV
  first | refine g_aload0 dX1_seed_0 ?_ | refine g_aloadQ0 dX1_seed_0 ?_ | refine g_aloadN0 dX1_seed_0 ?_
  refine g_get (k0 := 0) (by first | assumption | exact g_up_self _ _ _ | (refine g_upf ?_ ?_ <;> assumption) | (refine g_upt ?_ ?_ (by decide) <;> assumption)) in_X1 q577 rfl (by decide) rfl dX1_seed_1 ?_
  refine g_getN (k0 := 4) (by first | assumption | exact g_up_self _ _ _ | (refine g_upf ?_ ?_ <;> assumption) | (refine g_upt ?_ ?_ (by decide) <;> assumption)) in_X2 q180 rfl (by decide) rfl dX1_seed_4 ?_
  refine g_istore2 dX1_seed_7 (by decide) ?_
  first | refine g_aload0 dX1_seed_8 ?_ | refine g_aloadQ0 dX1_seed_8 ?_ | refine g_aloadN0 dX1_seed_8 ?_
  refine g_get (k0 := 0) (by first | assumption | exact g_up_self _ _ _ | (refine g_upf ?_ ?_ <;> assumption) | (refine g_upt ?_ ?_ (by decide) <;> assumption)) in_X1 q577 rfl (by decide) rfl dX1_seed_9 ?_
  refine g_iload1 dX1_seed_12 ?_
  refine g_putN (k0 := 4) (by first | assumption | exact g_up_self _ _ _ | (refine g_upf ?_ ?_ <;> assumption) | (refine g_upt ?_ ?_ (by decide) <;> assumption)) in_X2 q180 tyX2_ok nmX2 rfl (by decide) rfl (by rfl) (by rfl) (Nat.le_of_ble_eq_true rfl) dX1_seed_13 ?_
  refine g_iload2 dX1_seed_16 ?_
  exact g_iret dX1_seed_17 rfl ⟨_, rfl, rfl, rfl, VO.z z hW ⟨x1, x2, x3, x4, x5, x6, x7, x8⟩ ⟨hv, ⟨aw, ap, az, ad, fw, fp, fz, x1, x2, x3, x4, x5, x6, x7, x8⟩, hsv, hsb, hlen, hch⟩⟩
abbrev mX1_draw : GM := (yX1_draw, 1, (some .int), [], { frames := 1, cells := 900, slots := 90000, locals := 20 }, 255)
theorem kX1_draw : gCv cX1_draw mX1_draw 0 := ⟨q598, q599, q67, q600, ⟨by decide +kernel, by decide +kernel, by decide +kernel⟩, rfl⟩
theorem uX1_draw : gCu cX1_draw mX1_draw 0 := ⟨q598, q67, q600, ⟨by decide +kernel, by decide +kernel, by decide +kernel⟩, rfl⟩
set_option maxHeartbeats 400000 in
theorem ctX1_draw {E : GE} {h : AH} {v : Nat} {L9 : List Nat} (M : TW)  (hV : VO E M v L9 h) (hW : vW M)   : Ct E cX1_draw mX1_draw [.ref v] (h) (pN fun r h' => xc_draw M  = 0 ∧ r = xv_draw M  ∧ VO E (xm_draw M ) v L9 h' ∧ Fr vP h h') (noX) := by
  refine g_enter (own := "SecretVault") [some (.ref v)] (by decide +kernel) rfl rfl (Nat.le_of_ble_eq_true rfl) rfl rfl (fun X => ?_)
  obtain ⟨w, b, sv, hv, ⟨aw, ap, az, ad, fw, fp, fz, x1, x2, x3, x4, x5, x6, x7, x8⟩, hsv, hsb, hlen, hch⟩ := id hV
  first | refine g_aload0 dX1_draw_0 ?_ | refine g_aloadQ0 dX1_draw_0 ?_ | refine g_aloadN0 dX1_draw_0 ?_
  refine g_get (k0 := 0) (by first | assumption | exact g_up_self _ _ _ | (refine g_upf ?_ ?_ <;> assumption) | (refine g_upt ?_ ?_ (by decide) <;> assumption)) in_X1 q577 rfl (by decide) rfl dX1_draw_1 ?_
  refine g_callVR (ctX2_draw x1) kX2_draw q601 (gRv.g x1 rfl rfl) (by decide) ⟨Nat.le_of_ble_eq_true rfl, Nat.le_of_ble_eq_true rfl⟩ rfl (Nat.le_of_ble_eq_true rfl) dX1_draw_4 k_x (k_n (fun r_4 h_4 p_4 => ?_))
  obtain ⟨rfl, z_4⟩ := p_4
  rw [z_4]
  exact g_iret dX1_draw_7 rfl ⟨_, rfl, rfl, rfl, VO.z _ hW ⟨x1, x2, x3, x4, x5, x6, x7, x8⟩ ⟨hv, ⟨aw, ap, az, ad, fw, fp, fz, x1, x2, x3, x4, x5, x6, x7, x8⟩, hsv, hsb, hlen, hch⟩⟩
theorem VO.w {E : GE} {M : TW} {v : Nat} {L : List Nat} {h : AH} {w b aw ap az ad : Nat} {sv : Option Nat} {fw fp : Nat → Nat} {fz : Nat → Option Nat} (m z : Nat) (hm8 : m < 8) (hW : vW M) (hx : WX E 100 (M 1) w aw ap az ad fw fp fz h) (hV : VX9 E M v L w b sv h) : VO E (tset M 1 (1 + m) z) v L (g_up h aw (101, gAIn E 8 (nup fw m z))) ∧ Fr vP h (g_up h aw (101, gAIn E 8 (nup fw m z))) := by
  obtain ⟨x1, x2, x3, x4, x5, x6, x7, x8⟩ := hx
  have hf : Fr (fun u => u = 101) h (g_up h aw (101, gAIn E 8 (nup fw m z))) := Fr.put x2 rfl
  have hf2 : Fr wdP h (g_up h aw (101, gAIn E 8 (nup fw m z))) := hf.mono (fun u z => by omega)
  have hn : ∀ i, i ≠ 1 + m → tset M 1 (1 + m) z 1 i = M 1 i := fun i hi => tset_sn M 1 z hi
  refine ⟨⟨w, b, sv, hV.wd hf2 ⟨aw, ap, az, ad, nup fw m z, fp, fz, ?_, g_up_self _ _ _, ?_, g_upt x4 x2 (by decide), ?_, g_upt x6 x2 (by decide), sl_up x7 hW.s4 hf (fun u z => by omega) (fun i hi => hn _ (by omega)), ev_up x8 hf (by decide) (by decide) (by decide) hW.h17 (hn _ (by omega)) (fun k hk => hn _ (by omega))⟩ rfl rfl rfl rfl rfl rfl rfl rfl⟩, hf2.wv⟩
  · rw [hn 0 (by omega)]
    exact g_upt x1 x2 (by decide)
  · intro j hj
    by_cases e : j = m
    · rw [e, nup_self, tset_ss]
    · rw [nup_ne _ _ e, hn _ (by omega)]
      exact x3 j hj
  · intro j hj
    rw [hn _ (by omega)]
    exact x5 j hj
theorem VO.p {E : GE} {M : TW} {v : Nat} {L : List Nat} {h : AH} {w b aw ap az ad : Nat} {sv : Option Nat} {fw fp : Nat → Nat} {fz : Nat → Option Nat} (m z : Nat) (hm8 : m < 8) (hW : vW M) (hx : WX E 100 (M 1) w aw ap az ad fw fp fz h) (hV : VX9 E M v L w b sv h) : VO E (tset M 1 (9 + m) z) v L (g_up h ap (102, gAZn E 8 (nup fp m z))) ∧ Fr vP h (g_up h ap (102, gAZn E 8 (nup fp m z))) := by
  obtain ⟨x1, x2, x3, x4, x5, x6, x7, x8⟩ := hx
  have hf : Fr (fun u => u = 102) h (g_up h ap (102, gAZn E 8 (nup fp m z))) := Fr.put x4 rfl
  have hf2 : Fr wdP h (g_up h ap (102, gAZn E 8 (nup fp m z))) := hf.mono (fun u z => by omega)
  have hn : ∀ i, i ≠ 9 + m → tset M 1 (9 + m) z 1 i = M 1 i := fun i hi => tset_sn M 1 z hi
  refine ⟨⟨w, b, sv, hV.wd hf2 ⟨aw, ap, az, ad, fw, nup fp m z, fz, ?_, g_upt x2 x4 (by decide), ?_, g_up_self _ _ _, ?_, g_upt x6 x4 (by decide), sl_up x7 hW.s4 hf (fun u z => by omega) (fun i hi => hn _ (by omega)), ev_up x8 hf (by decide) (by decide) (by decide) hW.h17 (hn _ (by omega)) (fun k hk => hn _ (by omega))⟩ rfl rfl rfl rfl rfl rfl rfl rfl⟩, hf2.wv⟩
  · rw [hn 0 (by omega)]
    exact g_upt x1 x4 (by decide)
  · intro j hj
    rw [hn _ (by omega)]
    exact x3 j hj
  · intro j hj
    by_cases e : j = m
    · rw [e, nup_self, tset_ss]
    · rw [nup_ne _ _ e, hn _ (by omega)]
      exact x5 j hj
abbrev mX1_setWeight : GM := (yX1_setWeight, 4, (some .int), [], { frames := 8, cells := 900, slots := 90000, locals := 131 }, 255)
theorem kX1_setWeight : gCv cX1_setWeight mX1_setWeight 2 := ⟨q911, q912, q67, q913, ⟨by decide +kernel, by decide +kernel, by decide +kernel⟩, rfl⟩
theorem uX1_setWeight : gCu cX1_setWeight mX1_setWeight 2 := ⟨q911, q67, q913, ⟨by decide +kernel, by decide +kernel, by decide +kernel⟩, rfl⟩
set_option maxHeartbeats 400000 in
theorem ctX1_setWeight {E : GE} {h : AH} {v : Nat} {L9 : List Nat} (M : TW) (m : Nat) (w9 : Nat) (hV : VO E M v L9 h) (hW : vW M) (hm : m < 4294967296) (hw9 : w9 < 4294967296)  : Ct E cX1_setWeight mX1_setWeight [.ref v, .int (nI m), .int (nI w9)] (h) (pN fun r h' => xc_setWeight M m w9 = 0 ∧ r = xv_setWeight M m w9 ∧ VO E (xm_setWeight M m w9) v L9 h' ∧ Fr vP h h') (fun C _ h' => cX ["java/lang/IndexOutOfBoundsException", "java/lang/IllegalArgumentException"] C (xc_setWeight M m w9) ∧ VO E (xm_setWeight M m w9) v L9 h' ∧ Fr vP h h') := by
  refine g_enter (own := "SecretVault") [some (.ref v), some (.int (nI m)), some (.int (nI w9)), none] (by decide +kernel) rfl rfl (Nat.le_of_ble_eq_true rfl) rfl rfl (fun X => ?_)
  obtain ⟨w, b, sv, hv, ⟨aw, ap, az, ad, fw, fp, fz, x1, x2, x3, x4, x5, x6, x7, x8⟩, hsv, hsb, hlen, hch⟩ := id hV
  refine g_iload1 dX1_setWeight_0 ?_
  refine g_callS (ctX1_requireMember m (by omega)) kX1_requireMember q914 (by decide) ⟨Nat.le_of_ble_eq_true rfl, Nat.le_of_ble_eq_true rfl⟩ rfl (Nat.le_of_ble_eq_true rfl) dX1_setWeight_1 (fun C_ q_ h2_ px => by obtain ⟨rfl, c_1, rfl⟩ := px; exact gx_out0 rfl ⟨(by unfold cX xc_setWeight; (repeat' split) <;> first | exact ⟨Nat.zero_lt_succ _, rfl⟩ | (exfalso; omega)), (by unfold xm_setWeight; (repeat' split) <;> first | exact hV | (exfalso; omega)), Fr.rf⟩ (Nat.le_of_ble_eq_true rfl) (Nat.le_of_ble_eq_true rfl)) (k_v (fun h_1 p_1 => ?_))
  obtain ⟨i_1, z_1⟩ := p_1
  rw [z_1]
  refine g_iload2 dX1_setWeight_4 ?_
  refine g_iconst (nI 0) dX1_setWeight_5 (by decide) ?_
  refine g_iconst (nI 3) dX1_setWeight_6 (by decide) ?_
  refine g_callS (ctX1_in w9 0 3 (by omega) (by omega) (by omega)) kX1_in q935 (by decide) ⟨Nat.le_of_ble_eq_true rfl, Nat.le_of_ble_eq_true rfl⟩ rfl (Nat.le_of_ble_eq_true rfl) dX1_setWeight_7 k_x (k_n (fun r_7 h_7 p_7 => ?_))
  obtain ⟨b_7, i_7, z_7⟩ := p_7
  rw [z_7]
  refine g_callS (ctX1_require _ (by omega)) kX1_require q938 (by decide) ⟨Nat.le_of_ble_eq_true rfl, Nat.le_of_ble_eq_true rfl⟩ rfl (Nat.le_of_ble_eq_true rfl) dX1_setWeight_10 (fun C_ q_ h2_ px => by obtain ⟨rfl, c_10, rfl⟩ := px; exact gx_out0 rfl ⟨(by unfold cX xc_setWeight; (repeat' split) <;> first | exact ⟨Nat.zero_lt_succ _, rfl⟩ | (exfalso; omega)), (by unfold xm_setWeight; (repeat' split) <;> first | exact hV | (exfalso; omega)), Fr.rf⟩ (Nat.le_of_ble_eq_true rfl) (Nat.le_of_ble_eq_true rfl)) (k_v (fun h_10 p_10 => ?_))
  obtain ⟨b_10, z_10⟩ := p_10
  rw [z_10]
  first | refine g_aload0 dX1_setWeight_13 ?_ | refine g_aloadQ0 dX1_setWeight_13 ?_ | refine g_aloadN0 dX1_setWeight_13 ?_
  refine g_get (k0 := 0) (by first | assumption | exact g_up_self _ _ _ | (refine g_upf ?_ ?_ <;> assumption) | (refine g_upt ?_ ?_ (by decide) <;> assumption)) in_X1 q577 rfl (by decide) rfl dX1_setWeight_14 ?_
  refine g_getN (k0 := 0) (by first | assumption | exact g_up_self _ _ _ | (refine g_upf ?_ ?_ <;> assumption) | (refine g_upt ?_ ?_ (by decide) <;> assumption)) in_X2 q171 rfl (by decide) rfl dX1_setWeight_17 ?_
  refine g_iload1 dX1_setWeight_20 ?_
  refine g_ialdN (by first | assumption | exact g_up_self _ _ _ | (refine g_upf ?_ ?_ <;> assumption) | (refine g_upt ?_ ?_ (by decide) <;> assumption)) (by omega) (by omega) dX1_setWeight_21 ?_
  refine g_istore3 dX1_setWeight_22 (by decide) ?_
  first | refine g_aload0 dX1_setWeight_23 ?_ | refine g_aloadQ0 dX1_setWeight_23 ?_ | refine g_aloadN0 dX1_setWeight_23 ?_
  refine g_get (k0 := 0) (by first | assumption | exact g_up_self _ _ _ | (refine g_upf ?_ ?_ <;> assumption) | (refine g_upt ?_ ?_ (by decide) <;> assumption)) in_X1 q577 rfl (by decide) rfl dX1_setWeight_24 ?_
  refine g_getN (k0 := 0) (by first | assumption | exact g_up_self _ _ _ | (refine g_upf ?_ ?_ <;> assumption) | (refine g_upt ?_ ?_ (by decide) <;> assumption)) in_X2 q171 rfl (by decide) rfl dX1_setWeight_27 ?_
  refine g_iload1 dX1_setWeight_30 ?_
  refine g_iload2 dX1_setWeight_31 ?_
  refine g_iastN (by first | assumption | exact g_up_self _ _ _ | (refine g_upf ?_ ?_ <;> assumption) | (refine g_upt ?_ ?_ (by decide) <;> assumption)) (by omega) (by omega) dX1_setWeight_32 ?_
  refine g_iload3 dX1_setWeight_33 ?_
  exact g_iret dX1_setWeight_34 rfl ⟨_, rfl, (by unfold xc_setWeight; (repeat' split) <;> first | rfl | (exfalso; omega)), x3 m (by omega), by unfold xm_setWeight; rw [if_pos ⟨by omega, by omega⟩]; exact VO.w m w9 (by omega) hW ⟨x1, x2, x3, x4, x5, x6, x7, x8⟩ ⟨hv, ⟨aw, ap, az, ad, fw, fp, fz, x1, x2, x3, x4, x5, x6, x7, x8⟩, hsv, hsb, hlen, hch⟩⟩
abbrev mX1_setPresent : GM := (yX1_setPresent, 4, (some .boolean), [], { frames := 8, cells := 900, slots := 90000, locals := 131 }, 255)
theorem kX1_setPresent : gCv cX1_setPresent mX1_setPresent 2 := ⟨q950, q951, q67, q952, ⟨by decide +kernel, by decide +kernel, by decide +kernel⟩, rfl⟩
theorem uX1_setPresent : gCu cX1_setPresent mX1_setPresent 2 := ⟨q950, q67, q952, ⟨by decide +kernel, by decide +kernel, by decide +kernel⟩, rfl⟩
set_option maxHeartbeats 400000 in
theorem ctX1_setPresent {E : GE} {h : AH} {v : Nat} {L9 : List Nat} (M : TW) (m : Nat) (p9 : Nat) (hV : VO E M v L9 h) (hW : vW M) (hm : m < 4294967296) (hp9 : p9 < 2)  : Ct E cX1_setPresent mX1_setPresent [.ref v, .int (nI m), .int (nI p9)] (h) (pN fun r h' => xc_setPresent M m p9 = 0 ∧ r = xv_setPresent M m p9 ∧ VO E (xm_setPresent M m p9) v L9 h' ∧ Fr vP h h') (fun C _ h' => cX ["java/lang/IndexOutOfBoundsException"] C (xc_setPresent M m p9) ∧ VO E (xm_setPresent M m p9) v L9 h' ∧ Fr vP h h') := by
  refine g_enter (own := "SecretVault") [some (.ref v), some (.int (nI m)), some (.int (nI p9)), none] (by decide +kernel) rfl rfl (Nat.le_of_ble_eq_true rfl) rfl rfl (fun X => ?_)
  obtain ⟨w, b, sv, hv, ⟨aw, ap, az, ad, fw, fp, fz, x1, x2, x3, x4, x5, x6, x7, x8⟩, hsv, hsb, hlen, hch⟩ := id hV
  refine g_iload1 dX1_setPresent_0 ?_
  refine g_callS (ctX1_requireMember m (by omega)) kX1_requireMember q914 (by decide) ⟨Nat.le_of_ble_eq_true rfl, Nat.le_of_ble_eq_true rfl⟩ rfl (Nat.le_of_ble_eq_true rfl) dX1_setPresent_1 (fun C_ q_ h2_ px => by obtain ⟨rfl, c_1, rfl⟩ := px; exact gx_out0 rfl ⟨(by unfold cX xc_setPresent; (repeat' split) <;> first | exact ⟨Nat.zero_lt_succ _, rfl⟩ | (exfalso; omega)), (by unfold xm_setPresent; (repeat' split) <;> first | exact hV | (exfalso; omega)), Fr.rf⟩ (Nat.le_of_ble_eq_true rfl) (Nat.le_of_ble_eq_true rfl)) (k_v (fun h_1 p_1 => ?_))
  obtain ⟨i_1, z_1⟩ := p_1
  rw [z_1]
  first | refine g_aload0 dX1_setPresent_4 ?_ | refine g_aloadQ0 dX1_setPresent_4 ?_ | refine g_aloadN0 dX1_setPresent_4 ?_
  refine g_get (k0 := 0) (by first | assumption | exact g_up_self _ _ _ | (refine g_upf ?_ ?_ <;> assumption) | (refine g_upt ?_ ?_ (by decide) <;> assumption)) in_X1 q577 rfl (by decide) rfl dX1_setPresent_5 ?_
  refine g_getN (k0 := 1) (by first | assumption | exact g_up_self _ _ _ | (refine g_upf ?_ ?_ <;> assumption) | (refine g_upt ?_ ?_ (by decide) <;> assumption)) in_X2 q174 rfl (by decide) rfl dX1_setPresent_8 ?_
  refine g_iload1 dX1_setPresent_11 ?_
  refine g_zaldN (by first | assumption | exact g_up_self _ _ _ | (refine g_upf ?_ ?_ <;> assumption) | (refine g_upt ?_ ?_ (by decide) <;> assumption)) (by omega) (by omega) dX1_setPresent_12 ?_
  have hp1 := hW.1.2.2.1 m (by omega)
  have hp2 := x5 m (by omega)
  refine g_istore3 dX1_setPresent_13 (by decide) ?_
  first | refine g_aload0 dX1_setPresent_14 ?_ | refine g_aloadQ0 dX1_setPresent_14 ?_ | refine g_aloadN0 dX1_setPresent_14 ?_
  refine g_get (k0 := 0) (by first | assumption | exact g_up_self _ _ _ | (refine g_upf ?_ ?_ <;> assumption) | (refine g_upt ?_ ?_ (by decide) <;> assumption)) in_X1 q577 rfl (by decide) rfl dX1_setPresent_15 ?_
  refine g_getN (k0 := 1) (by first | assumption | exact g_up_self _ _ _ | (refine g_upf ?_ ?_ <;> assumption) | (refine g_upt ?_ ?_ (by decide) <;> assumption)) in_X2 q174 rfl (by decide) rfl dX1_setPresent_18 ?_
  refine g_iload1 dX1_setPresent_21 ?_
  refine g_iload2 dX1_setPresent_22 ?_
  refine g_zastN (by first | assumption | exact g_up_self _ _ _ | (refine g_upf ?_ ?_ <;> assumption) | (refine g_upt ?_ ?_ (by decide) <;> assumption)) (by omega) (by omega) (by omega) dX1_setPresent_23 ?_
  refine g_iload3 dX1_setPresent_24 ?_
  exact g_zret dX1_setPresent_25 rfl (nar_zb (by omega)) ⟨_, rfl, (by unfold xc_setPresent; (repeat' split) <;> first | rfl | (exfalso; omega)), (by rw [hp2]; unfold xv_setPresent; split <;> omega), by unfold xm_setPresent; rw [if_pos (by omega)]; exact VO.p m p9 (by omega) hW ⟨x1, x2, x3, x4, x5, x6, x7, x8⟩ ⟨hv, ⟨aw, ap, az, ad, fw, fp, fz, x1, x2, x3, x4, x5, x6, x7, x8⟩, hsv, hsb, hlen, hch⟩⟩
