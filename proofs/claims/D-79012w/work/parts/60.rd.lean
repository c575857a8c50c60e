/-! THE READER: shares -/
set_option maxRecDepth 100000
theorem gQg_of {E : GE} {Po : Option Value → AH → Prop} : gQg E (fun v H => ∃ h', Po v h' ∧ gI E h' H) = gQc E Po := by
  funext a st oc t
  apply propext
  constructor
  · rintro ⟨⟨v, e1, h', e2, e3⟩, e4⟩
    exact ⟨⟨v, h', e1, e2, e3⟩, e4⟩
  · rintro ⟨⟨v, h', e1, e2, e3⟩, e4⟩
    exact ⟨⟨v, e1, h', e2, e3⟩, e4⟩
/-- a walk told of heaps, within one that isn't -/
theorem V.ofK {E : GE} {cc : ByteArray} {own : String} {M : GM} {Po : Option Value → AH → Prop} {Px : String → Nat → AH → Prop} {X : GX} {h : AH} {k n pc : Nat} {ls : List (Option Value)} {st : List Value} (kk : VK E cc own M (fun v H => ∃ h', Po v h' ∧ gI E h' H) (fun C q H => ∃ h', Px C q h' ∧ gI E h' H) X (gJ E h rT) k n pc ls st) : V E cc own M Po Px X h k n pc ls st := by
  intro O H locs la hI hS hl hL
  have z := kk O H locs la ⟨hI, trivial⟩ hS hl hL
  rw [gQg_of] at z
  exact z
def tL (t : Nat → Nat) (n : Nat) : List Nat := (List.range n).map t
theorem tL_len (t : Nat → Nat) (n : Nat) : (tL t n).length = n := by
  unfold tL
  rw [List.length_map, List.length_range]
theorem tL_at {t : Nat → Nat} {n i : Nat} (h : i < n) : (tL t n)[i]? = some (t i) := by
  unfold tL
  rw [List.getElem?_map, List.getElem?_range h]
  rfl
/-- the text of a reader -/
def RD (E : GE) (h : AH) (tx : Nat) (t : Nat → Nat) (n : Nat) : Prop := ∃ arr F, STn E 1102 h tx (tL t n) arr F ∧ (∀ j, F j < 128) ∧ n ≤ 40 ∧ ∀ i, i < n → F i = t i
theorem RD.lt {E : GE} {h : AH} {tx : Nat} {t : Nat → Nat} {n : Nat} (hd : RD E h tx t n) : ∀ i, i < n → t i < 128 := fun i hi => by
  obtain ⟨arr, F, h1, h2, h3, h4⟩ := hd
  rw [← h4 i hi]
  exact h2 i
theorem RD.le {E : GE} {h : AH} {tx : Nat} {t : Nat → Nat} {n : Nat} (hd : RD E h tx t n) : n ≤ 40 := hd.choose_spec.choose_spec.2.2.1
theorem RD.fr {E : GE} {h h' : AH} {tx : Nat} {t : Nat → Nat} {n : Nat} {P : Nat → Prop} (hd : RD E h tx t n) (hf : Fr P h h') (h1 : ¬ P 1102) (h2 : ¬ P 1103) : RD E h' tx t n := by
  obtain ⟨arr, F, ⟨z1, z2⟩, r⟩ := hd
  exact ⟨arr, F, ⟨hf _ _ _ z1 h1, hf _ _ _ z2 h2⟩, r⟩
def hvT (t : Nat → Nat) (n p : Nat) : Nat := if p < n then t p else 4294967295
theorem hv_lt {E : GE} {h : AH} {tx : Nat} {t : Nat → Nat} {n : Nat} (hd : RD E h tx t n) (p : Nat) : hvT t n p < 4294967296 := by
  unfold hvT
  split
  · have := hd.lt p (by assumption)
    omega
  · omega
theorem hv_eq {t : Nat → Nat} {n p c : Nat} (h0 : 0 < c) (h1 : c < 4294967295) : hvT t n p = c ↔ hrF t n p = c := by
  unfold hvT hrF
  split <;> omega
theorem hv_in {t : Nat → Nat} {n p lo hi : Nat} (h0 : 0 < lo) (h1 : hi < 4294967295) : (lo ≤ hvT t n p ∧ hvT t n p ≤ hi) ↔ (lo ≤ hrF t n p ∧ hrF t n p ≤ hi) := by
  unfold hvT hrF
  split <;> omega
theorem hr_in {t : Nat → Nat} {n p lo : Nat} (h0 : 0 < lo) (h : lo ≤ hrF t n p) : p < n ∧ hrF t n p = t p := by
  unfold hrF at *
  split at h
  · rename_i z
    exact ⟨z, if_pos z⟩
  · omega
theorem hv_end {E : GE} {h : AH} {tx : Nat} {t : Nat → Nat} {n : Nat} (hd : RD E h tx t n) (p : Nat) : hvT t n p = 4294967295 ↔ n ≤ p := by
  unfold hvT
  split
  · rename_i z
    have := hd.lt p z
    omega
  · omega
/-- a TextError at q with position p was made; all but the cell at rd is kept -/
def TEf (h h' : AH) (rd q p : Nat) : Prop := h q = none ∧ Fa rd h h' ∧ ∃ u w, h' q = some (9, gO 15 [.ref q, va_rf u, va_rf w, .null, .null, .int 0, .int (nI p)])
theorem Fa.tr {a : Nat} {h h1 h2 : AH} (f : Fa a h h1) (g : Fa a h1 h2) : Fa a h h2 := fun b x hb hn => g b x (f b x hb hn) hn
theorem TEf.tr {h h1 h2 : AH} {rd q p : Nat} {x : Nat × va_E} (f : Fa rd h h1) (hr : h1 rd = some x) (z : TEf h1 h2 rd q p) : TEf h h2 rd q p := by
  obtain ⟨z1, z2, z3⟩ := z
  refine ⟨f.none z1 (fun e => ?_), f.tr z2, z3⟩
  rw [e, hr] at z1
  cases z1
abbrev mX16_here : GM := (yX16_here, 1, (some .int), [], { frames := 4, cells := 0, slots := 0, locals := 85 }, 255)
theorem kX16_here : gCv cX16_here mX16_here 0 := ⟨q1644, qs15, q112, q1645, ⟨by decide +kernel, by decide +kernel, by decide +kernel⟩, rfl⟩
theorem uX16_here : gCu cX16_here mX16_here 0 := ⟨q1644, q112, q1645, ⟨by decide +kernel, by decide +kernel, by decide +kernel⟩, rfl⟩
set_option maxHeartbeats 400000 in
theorem ctX16_here {E : GE} {h : AH} {rd tx n p : Nat} {t : Nat → Nat} (hr : h rd = some (1100, gO 14 [.ref tx, .int (nI p)])) (hd : RD E h tx t n) (hp : p ≤ 1000) : Ct E cX16_here mX16_here [.ref rd] (h) (pN fun r h' => r = (hvT t n p) ∧ h' = h) (noX) := by
  refine g_enter (own := "SecretVault$Reader") [some (.ref rd)] (by decide +kernel) rfl rfl (Nat.le_of_ble_eq_true rfl) rfl rfl (fun X => ?_)
  obtain ⟨arr, F, hs, hF, hn40, hFt⟩ := id hd
  first | refine g_aload0 dX16_here_0 ?_ | refine g_aloadQ0 dX16_here_0 ?_ | refine g_aloadN0 dX16_here_0 ?_
  refine g_get (k0 := 1) (by first | assumption | exact g_up_self _ _ _ | (refine g_upf ?_ ?_ <;> assumption) | (refine g_upt ?_ ?_ (by decide) <;> assumption)) in_X16 q1624 rfl (by decide) rfl dX16_here_1 ?_
  first | refine g_aload0 dX16_here_4 ?_ | refine g_aloadQ0 dX16_here_4 ?_ | refine g_aloadN0 dX16_here_4 ?_
  refine g_get (k0 := 0) (by first | assumption | exact g_up_self _ _ _ | (refine g_upf ?_ ?_ <;> assumption) | (refine g_upt ?_ ?_ (by decide) <;> assumption)) in_X16 q1623 rfl (by decide) rfl dX16_here_5 ?_
  refine g_callVR (ctJ5_length (Or.inl hs) (by rw [tL_len]; omega)) kJ5_length q1646 (gRv.g hs.1 rfl rfl) (by decide) ⟨Nat.le_of_ble_eq_true rfl, Nat.le_of_ble_eq_true rfl⟩ rfl (Nat.le_of_ble_eq_true rfl) dX16_here_8 k_x (k_n (fun r_8 h_8 p_8 => ?_))
  obtain ⟨rfl, z_8⟩ := p_8
  rw [z_8]
  rw [tL_len]
  first | refine g_icmpN_ge (tgt := 28) dX16_here_11 (by decide) (by omega) (by omega) (fun c_11 => ?_) (fun c_11 => ?_) | refine g_icmp_ge (tgt := 28) dX16_here_11 (by decide) (fun c_11 => ?_) (fun c_11 => ?_)
  · refine g_iconst (nI 4294967295) dX16_here_28 (by decide) ?_
    exact g_iret dX16_here_29 rfl ⟨_, rfl, by unfold hvT; first | rw [if_pos (by omega)] | rw [if_neg (by omega)], rfl⟩
  · first | refine g_aload0 dX16_here_14 ?_ | refine g_aloadQ0 dX16_here_14 ?_ | refine g_aloadN0 dX16_here_14 ?_
    refine g_get (k0 := 0) (by first | assumption | exact g_up_self _ _ _ | (refine g_upf ?_ ?_ <;> assumption) | (refine g_upt ?_ ?_ (by decide) <;> assumption)) in_X16 q1623 rfl (by decide) rfl dX16_here_15 ?_
    first | refine g_aload0 dX16_here_18 ?_ | refine g_aloadQ0 dX16_here_18 ?_ | refine g_aloadN0 dX16_here_18 ?_
    refine g_get (k0 := 1) (by first | assumption | exact g_up_self _ _ _ | (refine g_upf ?_ ?_ <;> assumption) | (refine g_upt ?_ ?_ (by decide) <;> assumption)) in_X16 q1624 rfl (by decide) rfl dX16_here_19 ?_
    refine g_callVR (ctJ5_charAt (i := p) hs hF (by rw [tL_len]; omega) (tL_at (by omega)) (hFt _ (by omega))) kJ5_charAt q1647 (gRv.g hs.1 rfl rfl) (by decide) ⟨Nat.le_of_ble_eq_true rfl, Nat.le_of_ble_eq_true rfl⟩ rfl (Nat.le_of_ble_eq_true rfl) dX16_here_22 k_x (k_n (fun r_22 h_22 p_22 => ?_))
    obtain ⟨rfl, z_22⟩ := p_22
    rw [z_22]
    refine g_goto (tgt := 29) dX16_here_25 (by decide) ?_
    exact g_iret dX16_here_29 rfl ⟨_, rfl, by unfold hvT; first | rw [if_pos (by omega)] | rw [if_neg (by omega)], rfl⟩
abbrev mX16_after : GM := (yX16_after, 1, (some .int), [], { frames := 4, cells := 0, slots := 0, locals := 85 }, 255)
theorem kX16_after : gCv cX16_after mX16_after 0 := ⟨q1827, qs21, q112, q1828, ⟨by decide +kernel, by decide +kernel, by decide +kernel⟩, rfl⟩
theorem uX16_after : gCu cX16_after mX16_after 0 := ⟨q1827, q112, q1828, ⟨by decide +kernel, by decide +kernel, by decide +kernel⟩, rfl⟩
set_option maxHeartbeats 400000 in
theorem ctX16_after {E : GE} {h : AH} {rd tx n p : Nat} {t : Nat → Nat} (hr : h rd = some (1100, gO 14 [.ref tx, .int (nI p)])) (hd : RD E h tx t n) (hp : p ≤ 1000) : Ct E cX16_after mX16_after [.ref rd] (h) (pN fun r h' => r = (hvT t n (p + 1)) ∧ h' = h) (noX) := by
  refine g_enter (own := "SecretVault$Reader") [some (.ref rd)] (by decide +kernel) rfl rfl (Nat.le_of_ble_eq_true rfl) rfl rfl (fun X => ?_)
  obtain ⟨arr, F, hs, hF, hn40, hFt⟩ := id hd
  first | refine g_aload0 dX16_after_0 ?_ | refine g_aloadQ0 dX16_after_0 ?_ | refine g_aloadN0 dX16_after_0 ?_
  refine g_get (k0 := 1) (by first | assumption | exact g_up_self _ _ _ | (refine g_upf ?_ ?_ <;> assumption) | (refine g_upt ?_ ?_ (by decide) <;> assumption)) in_X16 q1624 rfl (by decide) rfl dX16_after_1 ?_
  refine g_iconst (nI 1) dX16_after_4 (by decide) ?_
  first | refine g_iaddN dX16_after_5 ?_ | refine g_iadd dX16_after_5 ?_
  first | refine g_aload0 dX16_after_6 ?_ | refine g_aloadQ0 dX16_after_6 ?_ | refine g_aloadN0 dX16_after_6 ?_
  refine g_get (k0 := 0) (by first | assumption | exact g_up_self _ _ _ | (refine g_upf ?_ ?_ <;> assumption) | (refine g_upt ?_ ?_ (by decide) <;> assumption)) in_X16 q1623 rfl (by decide) rfl dX16_after_7 ?_
  refine g_callVR (ctJ5_length (Or.inl hs) (by rw [tL_len]; omega)) kJ5_length q1646 (gRv.g hs.1 rfl rfl) (by decide) ⟨Nat.le_of_ble_eq_true rfl, Nat.le_of_ble_eq_true rfl⟩ rfl (Nat.le_of_ble_eq_true rfl) dX16_after_10 k_x (k_n (fun r_10 h_10 p_10 => ?_))
  obtain ⟨rfl, z_10⟩ := p_10
  rw [z_10]
  rw [tL_len]
  first | refine g_icmpN_ge (tgt := 32) dX16_after_13 (by decide) (by omega) (by omega) (fun c_13 => ?_) (fun c_13 => ?_) | refine g_icmp_ge (tgt := 32) dX16_after_13 (by decide) (fun c_13 => ?_) (fun c_13 => ?_)
  · refine g_iconst (nI 4294967295) dX16_after_32 (by decide) ?_
    exact g_iret dX16_after_33 rfl ⟨_, rfl, by unfold hvT; first | rw [if_pos (by omega)] | rw [if_neg (by omega)], rfl⟩
  · first | refine g_aload0 dX16_after_16 ?_ | refine g_aloadQ0 dX16_after_16 ?_ | refine g_aloadN0 dX16_after_16 ?_
    refine g_get (k0 := 0) (by first | assumption | exact g_up_self _ _ _ | (refine g_upf ?_ ?_ <;> assumption) | (refine g_upt ?_ ?_ (by decide) <;> assumption)) in_X16 q1623 rfl (by decide) rfl dX16_after_17 ?_
    first | refine g_aload0 dX16_after_20 ?_ | refine g_aloadQ0 dX16_after_20 ?_ | refine g_aloadN0 dX16_after_20 ?_
    refine g_get (k0 := 1) (by first | assumption | exact g_up_self _ _ _ | (refine g_upf ?_ ?_ <;> assumption) | (refine g_upt ?_ ?_ (by decide) <;> assumption)) in_X16 q1624 rfl (by decide) rfl dX16_after_21 ?_
    refine g_iconst (nI 1) dX16_after_24 (by decide) ?_
    first | refine g_iaddN dX16_after_25 ?_ | refine g_iadd dX16_after_25 ?_
    refine g_callVR (ctJ5_charAt (i := p + 1) hs hF (by rw [tL_len]; omega) (tL_at (by omega)) (hFt _ (by omega))) kJ5_charAt q1647 (gRv.g hs.1 rfl rfl) (by decide) ⟨Nat.le_of_ble_eq_true rfl, Nat.le_of_ble_eq_true rfl⟩ rfl (Nat.le_of_ble_eq_true rfl) dX16_after_26 k_x (k_n (fun r_26 h_26 p_26 => ?_))
    obtain ⟨rfl, z_26⟩ := p_26
    rw [z_26]
    refine g_goto (tgt := 33) dX16_after_29 (by decide) ?_
    exact g_iret dX16_after_33 rfl ⟨_, rfl, by unfold hvT; first | rw [if_pos (by omega)] | rw [if_neg (by omega)], rfl⟩
abbrev mX16_need : GM := (yX16_need, 2, none, [], { frames := 7, cells := 1, slots := 7, locals := 141 }, 255)
theorem kX16_need : gCv cX16_need mX16_need 1 := ⟨q1665, qs16, q112, q1666, ⟨by decide +kernel, by decide +kernel, by decide +kernel⟩, rfl⟩
theorem uX16_need : gCu cX16_need mX16_need 1 := ⟨q1665, q112, q1666, ⟨by decide +kernel, by decide +kernel, by decide +kernel⟩, rfl⟩
set_option maxHeartbeats 400000 in
theorem ctX16_need {E : GE} {h : AH} {rd tx p : Nat} (b : Nat) (hr : h rd = some (1100, gO 14 [.ref tx, .int (nI p)])) (hb : b < 2) : Ct E cX16_need mX16_need [.ref rd, .int (nI b)] (h) (pV fun h' => b = 1 ∧ h' = h) (fun C q h' => C = "SecretVault$TextError" ∧ b = 0 ∧ TEf h h' rd q (p)) := by
  refine g_enter (own := "SecretVault$Reader") [some (.ref rd), some (.int (nI b))] (by decide +kernel) rfl rfl (Nat.le_of_ble_eq_true rfl) rfl rfl (fun X => ?_)
  refine g_iload1 dX16_need_0 ?_
  first | refine g_ifN_ne (tgt := 16) dX16_need_1 (by decide) (by omega) (fun c_1 => ?_) (fun c_1 => ?_) | refine g_if_ne (tgt := 16) dX16_need_1 (by decide) (fun c_1 => ?_) (fun c_1 => ?_)
  · exact g_vret dX16_need_16 rfl ⟨rfl, by omega, rfl⟩
  · refine V.ofK ?_
    refine q_newM 15 9 [.null, .null, .null, .null, .null, .int 0, .int 0] in_X17 tyX17_ok q1667 q1668 q113 rfl nwX17 (Nat.le_of_ble_eq_true rfl) (Nat.le_of_ble_eq_true rfl) dX16_need_4 (fun q_4 f_4 => ?_)
    refine q_dup dX16_need_7 rfl ?_
    first | refine q_aload0 dX16_need_8 ?_ | refine q_aloadQ0 dX16_need_8 ?_ | refine q_aloadN0 dX16_need_8 ?_
    refine q_get (k0 := 1) (g_upf hr f_4) in_X16 q1624 rfl (by decide) rfl dX16_need_9 ?_
    refine q_callIK (ctX17_init _ (g_up_self _ _ _)) (fun H hH => ⟨hH.1, fun a ha => by obtain rfl := List.mem_singleton.mp ha; exact hH.2.2⟩) kX17_init q1676 (by decide) ⟨(Nat.le_of_ble_eq_true rfl), (Nat.le_of_ble_eq_true rfl)⟩ rfl (Nat.le_of_ble_eq_true rfl) dX16_need_12 qk_noK (qk_vK (fun h_12 => ?_)) (RS.and RS.tt (RS.fa _))
    refine VK.factR (fun H hH => hH.1) (fun hp_ => ?_)
    obtain ⟨u9, w9, rfl⟩ := hp_
    rw [g_upup]
    refine VK.drop ?_
    refine q_athrow (g_up_self _ _ _) rfl dX16_need_15 ?_
    exact qx_out0 rfl (fun H hH => ⟨_, ⟨rfl, by omega, f_4, Fa.new Fa.rf f_4, u9, w9, g_up_self _ _ _⟩, hH.1⟩) (Nat.le_of_ble_eq_true rfl) (Nat.le_of_ble_eq_true rfl)
abbrev mX16_take : GM := (yX16_take, 2, none, [], { frames := 8, cells := 1, slots := 7, locals := 162 }, 255)
theorem kX16_take : gCv cX16_take mX16_take 1 := ⟨q1688, qs17, q112, q1689, ⟨by decide +kernel, by decide +kernel, by decide +kernel⟩, rfl⟩
theorem uX16_take : gCu cX16_take mX16_take 1 := ⟨q1688, q112, q1689, ⟨by decide +kernel, by decide +kernel, by decide +kernel⟩, rfl⟩
set_option maxHeartbeats 400000 in
theorem ctX16_take {E : GE} {h : AH} {rd tx n p : Nat} {t : Nat → Nat} (c : Nat) (hr : h rd = some (1100, gO 14 [.ref tx, .int (nI p)])) (hd : RD E h tx t n) (hp : p ≤ 1000) (hc : 0 < c ∧ c < 128) : Ct E cX16_take mX16_take [.ref rd, .int (nI c)] (h) (pV fun h' => hrF t n p = c ∧ h' = g_up h rd (1100, gO 14 [.ref tx, .int (nI (p + 1))])) (fun C q h' => C = "SecretVault$TextError" ∧ ¬ hrF t n p = c ∧ TEf h h' rd q (p)) := by
  refine g_enter (own := "SecretVault$Reader") [some (.ref rd), some (.int (nI c))] (by decide +kernel) rfl rfl (Nat.le_of_ble_eq_true rfl) rfl rfl (fun X => ?_)
  have hv := hv_lt hd p
  have he := hv_eq (t := t) (n := n) (p := p) (c := c) hc.1 (by omega)
  first | refine g_aload0 dX16_take_0 ?_ | refine g_aloadQ0 dX16_take_0 ?_ | refine g_aloadN0 dX16_take_0 ?_
  first | refine g_aload0 dX16_take_1 ?_ | refine g_aloadQ0 dX16_take_1 ?_ | refine g_aloadN0 dX16_take_1 ?_
  refine g_callVR (ctX16_here (by assumption) (by assumption) (by omega)) kX16_here q1642 (gRv.g (by assumption) rfl rfl) (by decide) ⟨Nat.le_of_ble_eq_true rfl, Nat.le_of_ble_eq_true rfl⟩ rfl (Nat.le_of_ble_eq_true rfl) dX16_take_2 k_x (k_n (fun r_2 h_2 p_2 => ?_))
  obtain ⟨rfl, z_2⟩ := p_2
  rw [z_2]
  refine g_iload1 dX16_take_5 ?_
  first | refine g_icmpN_ne (tgt := 13) dX16_take_6 (by decide) (by omega) (by omega) (fun c_6 => ?_) (fun c_6 => ?_) | refine g_icmpU_ne (tgt := 13) dX16_take_6 (by decide) (by omega) (by omega) (fun c_6 => ?_) (fun c_6 => ?_) | refine g_icmp_ne (tgt := 13) dX16_take_6 (by decide) (fun c_6 => ?_) (fun c_6 => ?_)
  · refine g_iconst (nI 0) dX16_take_13 (by decide) ?_
    refine g_callVR (ctX16_need _ (by assumption) (by omega)) kX16_need q1663 (gRv.g (by assumption) rfl rfl) (by decide) ⟨Nat.le_of_ble_eq_true rfl, Nat.le_of_ble_eq_true rfl⟩ rfl (Nat.le_of_ble_eq_true rfl) dX16_take_14 (fun C_ q_ h2_ px => by obtain ⟨rfl, n_14, e_14⟩ := px; exact gx_out0 rfl (⟨rfl, fun z => by first | exact absurd (he.mpr z) (by omega) | omega, e_14⟩) (Nat.le_of_ble_eq_true rfl) (Nat.le_of_ble_eq_true rfl)) (k_v (fun h_14 p_14 => ?_))
    obtain ⟨n_14, z_14⟩ := p_14
    rw [z_14]
    first | refine g_aload0 dX16_take_17 ?_ | refine g_aloadQ0 dX16_take_17 ?_ | refine g_aloadN0 dX16_take_17 ?_
    refine g_dup dX16_take_18 rfl ?_
    refine g_get (k0 := 1) (by first | assumption | exact g_up_self _ _ _ | (refine g_upf ?_ ?_ <;> assumption) | (refine g_upt ?_ ?_ (by decide) <;> assumption)) in_X16 q1624 rfl (by decide) rfl dX16_take_19 ?_
    refine g_iconst (nI 1) dX16_take_22 (by decide) ?_
    first | refine g_iaddN dX16_take_23 ?_ | refine g_iadd dX16_take_23 ?_
    refine g_put (k0 := 1) (by first | assumption | exact g_up_self _ _ _ | (refine g_upf ?_ ?_ <;> assumption) | (refine g_upt ?_ ?_ (by decide) <;> assumption)) in_X16 q1624 tyX16_ok nmX16 rfl (by decide) rfl (by rfl) (by rfl) (Nat.le_of_ble_eq_true rfl) dX16_take_24 ?_
    exact g_vret dX16_take_27 rfl ⟨rfl, he.mp (by omega), rfl⟩
  · refine g_iconst (nI 1) dX16_take_9 (by decide) ?_
    refine g_goto (tgt := 14) dX16_take_10 (by decide) ?_
    refine g_callVR (ctX16_need _ (by assumption) (by omega)) kX16_need q1663 (gRv.g (by assumption) rfl rfl) (by decide) ⟨Nat.le_of_ble_eq_true rfl, Nat.le_of_ble_eq_true rfl⟩ rfl (Nat.le_of_ble_eq_true rfl) dX16_take_14 (fun C_ q_ h2_ px => by obtain ⟨rfl, n_14, e_14⟩ := px; exact gx_out0 rfl (⟨rfl, fun z => by first | exact absurd (he.mpr z) (by omega) | omega, e_14⟩) (Nat.le_of_ble_eq_true rfl) (Nat.le_of_ble_eq_true rfl)) (k_v (fun h_14 p_14 => ?_))
    obtain ⟨n_14, z_14⟩ := p_14
    rw [z_14]
    first | refine g_aload0 dX16_take_17 ?_ | refine g_aloadQ0 dX16_take_17 ?_ | refine g_aloadN0 dX16_take_17 ?_
    refine g_dup dX16_take_18 rfl ?_
    refine g_get (k0 := 1) (by first | assumption | exact g_up_self _ _ _ | (refine g_upf ?_ ?_ <;> assumption) | (refine g_upt ?_ ?_ (by decide) <;> assumption)) in_X16 q1624 rfl (by decide) rfl dX16_take_19 ?_
    refine g_iconst (nI 1) dX16_take_22 (by decide) ?_
    first | refine g_iaddN dX16_take_23 ?_ | refine g_iadd dX16_take_23 ?_
    refine g_put (k0 := 1) (by first | assumption | exact g_up_self _ _ _ | (refine g_upf ?_ ?_ <;> assumption) | (refine g_upt ?_ ?_ (by decide) <;> assumption)) in_X16 q1624 tyX16_ok nmX16 rfl (by decide) rfl (by rfl) (by rfl) (Nat.le_of_ble_eq_true rfl) dX16_take_24 ?_
    exact g_vret dX16_take_27 rfl ⟨rfl, he.mp (by omega), rfl⟩
abbrev mX16_digit : GM := (yX16_digit, 3, (some .int), [], { frames := 8, cells := 1, slots := 7, locals := 162 }, 255)
theorem kX16_digit : gCv cX16_digit mX16_digit 2 := ⟨q1640, qs14, q112, q1641, ⟨by decide +kernel, by decide +kernel, by decide +kernel⟩, rfl⟩
theorem uX16_digit : gCu cX16_digit mX16_digit 2 := ⟨q1640, q112, q1641, ⟨by decide +kernel, by decide +kernel, by decide +kernel⟩, rfl⟩
set_option maxHeartbeats 400000 in
theorem ctX16_digit {E : GE} {h : AH} {rd tx n p : Nat} {t : Nat → Nat} (lo hi : Nat) (hr : h rd = some (1100, gO 14 [.ref tx, .int (nI p)])) (hd : RD E h tx t n) (hp : p ≤ 1000) (hlo : lo ≤ hi ∧ hi ≤ 9) : Ct E cX16_digit mX16_digit [.ref rd, .int (nI lo), .int (nI hi)] (h) (pN fun r h' => r = hrF t n p - 48 ∧ (48 + lo ≤ hrF t n p ∧ hrF t n p ≤ 48 + hi) ∧ h' = g_up h rd (1100, gO 14 [.ref tx, .int (nI (p + 1))])) (fun C q h' => C = "SecretVault$TextError" ∧ ¬ (48 + lo ≤ hrF t n p ∧ hrF t n p ≤ 48 + hi) ∧ TEf h h' rd q (p)) := by
  refine g_enter (own := "SecretVault$Reader") [some (.ref rd), some (.int (nI lo)), some (.int (nI hi))] (by decide +kernel) rfl rfl (Nat.le_of_ble_eq_true rfl) rfl rfl (fun X => ?_)
  have hv := hv_lt hd p
  have he := hv_in (t := t) (n := n) (p := p) (lo := 48 + lo) (hi := 48 + hi) (by omega) (by omega)
  obtain ⟨arr, F, hs, hF, hn40, hFt⟩ := id hd
  first | refine g_aload0 dX16_digit_0 ?_ | refine g_aloadQ0 dX16_digit_0 ?_ | refine g_aloadN0 dX16_digit_0 ?_
  first | refine g_aload0 dX16_digit_1 ?_ | refine g_aloadQ0 dX16_digit_1 ?_ | refine g_aloadN0 dX16_digit_1 ?_
  refine g_callVR (ctX16_here (by assumption) (by assumption) (by omega)) kX16_here q1642 (gRv.g (by assumption) rfl rfl) (by decide) ⟨Nat.le_of_ble_eq_true rfl, Nat.le_of_ble_eq_true rfl⟩ rfl (Nat.le_of_ble_eq_true rfl) dX16_digit_2 k_x (k_n (fun r_2 h_2 p_2 => ?_))
  obtain ⟨rfl, z_2⟩ := p_2
  rw [z_2]
  refine g_bipush (nI 48) dX16_digit_5 (by decide) ?_
  refine g_iload1 dX16_digit_7 ?_
  first | refine g_iaddN dX16_digit_8 ?_ | refine g_iadd dX16_digit_8 ?_
  refine g_bipush (nI 48) dX16_digit_9 (by decide) ?_
  refine g_iload2 dX16_digit_11 ?_
  first | refine g_iaddN dX16_digit_12 ?_ | refine g_iadd dX16_digit_12 ?_
  refine g_callSN (ctX1_in _ _ _ (by omega) (by omega) (by omega)) kX1_in q1662 (by decide) ⟨Nat.le_of_ble_eq_true rfl, Nat.le_of_ble_eq_true rfl⟩ rfl (Nat.le_of_ble_eq_true rfl) dX16_digit_13 k_x (k_n (fun r_13 h_13 p_13 => ?_))
  obtain ⟨b_13, i_13, z_13⟩ := p_13
  rw [z_13]
  refine g_callVR (ctX16_need _ (by assumption) (by omega)) kX16_need q1663 (gRv.g (by assumption) rfl rfl) (by decide) ⟨Nat.le_of_ble_eq_true rfl, Nat.le_of_ble_eq_true rfl⟩ rfl (Nat.le_of_ble_eq_true rfl) dX16_digit_16 (fun C_ q_ h2_ px => by obtain ⟨rfl, n_16, e_16⟩ := px; exact gx_out0 rfl (⟨rfl, fun z => by have := i_13.mpr (he.mpr z); omega, e_16⟩) (Nat.le_of_ble_eq_true rfl) (Nat.le_of_ble_eq_true rfl)) (k_v (fun h_16 p_16 => ?_))
  obtain ⟨n_16, z_16⟩ := p_16
  rw [z_16]
  have i2 := he.mp (i_13.mp n_16)
  have i3 := hr_in (by omega) i2.1
  first | refine g_aload0 dX16_digit_19 ?_ | refine g_aloadQ0 dX16_digit_19 ?_ | refine g_aloadN0 dX16_digit_19 ?_
  refine g_dup dX16_digit_20 rfl ?_
  refine g_get (k0 := 1) (by first | assumption | exact g_up_self _ _ _ | (refine g_upf ?_ ?_ <;> assumption) | (refine g_upt ?_ ?_ (by decide) <;> assumption)) in_X16 q1624 rfl (by decide) rfl dX16_digit_21 ?_
  refine g_iconst (nI 1) dX16_digit_24 (by decide) ?_
  first | refine g_iaddN dX16_digit_25 ?_ | refine g_iadd dX16_digit_25 ?_
  refine g_put (k0 := 1) (by first | assumption | exact g_up_self _ _ _ | (refine g_upf ?_ ?_ <;> assumption) | (refine g_upt ?_ ?_ (by decide) <;> assumption)) in_X16 q1624 tyX16_ok nmX16 rfl (by decide) rfl (by rfl) (by rfl) (Nat.le_of_ble_eq_true rfl) dX16_digit_26 ?_
  have hs2 : STn E 1102 (g_up h rd (1100, gO 14 [.ref tx, .int (nI (p + 1))])) tx (tL t n) arr F := ⟨g_upt hs.1 hr (by decide), g_upt hs.2 hr (by decide)⟩
  first | refine g_aload0 dX16_digit_29 ?_ | refine g_aloadQ0 dX16_digit_29 ?_ | refine g_aloadN0 dX16_digit_29 ?_
  refine g_get (k0 := 0) (by first | assumption | exact g_up_self _ _ _ | (refine g_upf ?_ ?_ <;> assumption) | (refine g_upt ?_ ?_ (by decide) <;> assumption)) in_X16 q1623 rfl (by decide) rfl dX16_digit_30 ?_
  first | refine g_aload0 dX16_digit_33 ?_ | refine g_aloadQ0 dX16_digit_33 ?_ | refine g_aloadN0 dX16_digit_33 ?_
  refine g_get (k0 := 1) (by first | assumption | exact g_up_self _ _ _ | (refine g_upf ?_ ?_ <;> assumption) | (refine g_upt ?_ ?_ (by decide) <;> assumption)) in_X16 q1624 rfl (by decide) rfl dX16_digit_34 ?_
  refine g_iconst (nI 1) dX16_digit_37 (by decide) ?_
  first | refine g_isubN dX16_digit_38 (by omega) ?_ | refine g_isub dX16_digit_38 ?_
  rw [Nat.add_sub_cancel]
  refine g_callVR (ctJ5_charAt (i := p) hs2 hF (by rw [tL_len]; omega) (tL_at i3.1) (hFt _ i3.1)) kJ5_charAt q1647 (gRv.g hs2.1 rfl rfl) (by decide) ⟨Nat.le_of_ble_eq_true rfl, Nat.le_of_ble_eq_true rfl⟩ rfl (Nat.le_of_ble_eq_true rfl) dX16_digit_39 k_x (k_n (fun r_39 h_39 p_39 => ?_))
  obtain ⟨rfl, z_39⟩ := p_39
  rw [z_39]
  refine g_bipush (nI 48) dX16_digit_42 (by decide) ?_
  first | refine g_isubN dX16_digit_44 (by omega) ?_ | refine g_isub dX16_digit_44 ?_
  exact g_iret dX16_digit_45 rfl ⟨_, rfl, by rw [i3.2], i2, rfl⟩
theorem rnS_n {t : Nat → Nat} {n f u k v : Nat} (h : ¬ ((48 ≤ hrF t n (f + k) ∧ hrF t n (f + k) ≤ 57) ∧ (k = 0 ∨ 0 < v))) : rnS t n f u k v = (k, v) := by
  cases u with
  | zero => rfl
  | succ u => exact if_neg h
theorem rnS_y {t : Nat → Nat} {n f u k v : Nat} (h1 : 48 ≤ hrF t n (f + k) ∧ hrF t n (f + k) ≤ 57) (h2 : k = 0 ∨ 0 < v) : rnS t n f (u + 1) k v = rnS t n f u (k + 1) (10 * v + (hrF t n (f + k) - 48)) := by
  rw [show 10 * v + (hrF t n (f + k) - 48) = 10 * v + hrF t n (f + k) - 48 by omega]
  exact if_pos ⟨h1, h2⟩
abbrev mX16_number : GM := (yX16_number, 5, (some .int), [], { frames := 9, cells := 5, slots := 35, locals := 184 }, 255)
theorem kX16_number : gCv cX16_number mX16_number 2 := ⟨q1636, qs13, q112, q1637, ⟨by decide +kernel, by decide +kernel, by decide +kernel⟩, rfl⟩
theorem uX16_number : gCu cX16_number mX16_number 2 := ⟨q1636, q112, q1637, ⟨by decide +kernel, by decide +kernel, by decide +kernel⟩, rfl⟩
set_option maxHeartbeats 400000 in
theorem ctX16_number {E : GE} {h : AH} {rd tx n p : Nat} {t : Nat → Nat} (lo hi : Nat) (hr : h rd = some (1100, gO 14 [.ref tx, .int (nI p)])) (hd : RD E h tx t n) (hp : p ≤ 1000) (hlo : lo < 2147483648 ∧ hi < 2147483648) : Ct E cX16_number mX16_number [.ref rd, .int (nI lo), .int (nI hi)] (h) (pN fun r h' => r = rnV t n p ∧ rnOk t n p lo hi ∧ h' = g_up h rd (1100, gO 14 [.ref tx, .int (nI (p + rnK t n p))])) (fun C q h' => C = "SecretVault$TextError" ∧ ¬ rnOk t n p lo hi ∧ TEf h h' rd q (p)) := by
  refine g_enter (own := "SecretVault$Reader") [some (.ref rd), some (.int (nI lo)), some (.int (nI hi)), none, none] (by decide +kernel) rfl rfl (Nat.le_of_ble_eq_true rfl) rfl rfl (fun X => ?_)
  have K6 : ∀ k v, 1 ≤ k → k ≤ 4 → v < 10000 → rnS t n p 4 0 0 = (k, v) → V E cX16_number "SecretVault$Reader" mX16_number (pN fun r h' => r = rnV t n p ∧ rnOk t n p lo hi ∧ h' = g_up h rd (1100, gO 14 [.ref tx, .int (nI (p + rnK t n p))])) (fun C q h' => C = "SecretVault$TextError" ∧ ¬ rnOk t n p lo hi ∧ TEf h h' rd q (p)) X (g_up h rd (1100, gO 14 [.ref tx, .int (nI (p + k))])) k (7 * k) 61 [some (.ref rd), some (.int (nI lo)), some (.int (nI hi)), some (.int (nI p)), some (.int (nI v))] [] := by
    intro k v hk hk4 hv he
    have e1 : rnK t n p = k := by unfold rnK; rw [he]
    have e2 : rnV t n p = v := by unfold rnV; rw [he]
    refine V.wide (k' := 4) (n' := 28) hk4 (by omega) ?_
    refine g_iload4 dX16_number_61 ?_
    refine g_iload1 dX16_number_63 ?_
    refine g_iload2 dX16_number_64 ?_
    refine g_callSN (ctX1_in _ _ _ (by omega) (by omega) (by omega)) kX1_in q1662 (by decide) ⟨Nat.le_of_ble_eq_true rfl, Nat.le_of_ble_eq_true rfl⟩ rfl (Nat.le_of_ble_eq_true rfl) dX16_number_65 k_x (k_n (fun r_65 h_65 p_65 => ?_))
    obtain ⟨b_65, i_65, z_65⟩ := p_65
    rw [z_65]
    first | refine g_ifN_ne (tgt := 80) dX16_number_68 (by decide) (by omega) (fun c_68 => ?_) (fun c_68 => ?_) | refine g_if_ne (tgt := 80) dX16_number_68 (by decide) (fun c_68 => ?_) (fun c_68 => ?_)
    · refine g_iload4 dX16_number_80 ?_
      exact g_iret dX16_number_82 rfl ⟨_, rfl, e2.symm, ⟨by omega, by rw [e2]; exact i_65.mp (by omega)⟩, by rw [e1]⟩
    · refine V.ofK ?_
      refine q_newM 15 9 [.null, .null, .null, .null, .null, .int 0, .int 0] in_X17 tyX17_ok q1667 q1668 q113 rfl nwX17 (Nat.le_of_ble_eq_true rfl) (Nat.le_of_ble_eq_true rfl) dX16_number_71 (fun q_71 f_71 => ?_)
      refine q_dup dX16_number_74 rfl ?_
      refine q_iload3 dX16_number_75 ?_
      refine q_callIK (ctX17_init _ (g_up_self _ _ _)) (fun H hH => ⟨hH.1, fun a ha => by obtain rfl := List.mem_singleton.mp ha; exact hH.2.2⟩) kX17_init q1676 (by decide) ⟨(Nat.le_of_ble_eq_true rfl), (Nat.le_of_ble_eq_true rfl)⟩ rfl (Nat.le_of_ble_eq_true rfl) dX16_number_76 qk_noK (qk_vK (fun h_76 => ?_)) (RS.and RS.tt (RS.fa _))
      refine VK.factR (fun H hH => hH.1) (fun hp_ => ?_)
      obtain ⟨u9, w9, rfl⟩ := hp_
      rw [g_upup]
      refine VK.drop ?_
      refine q_athrow (g_up_self _ _ _) rfl dX16_number_79 ?_
      exact qx_out0 rfl (fun H hH => ⟨_, ⟨rfl, fun z => by have := i_65.mpr (by have z2 := z.2; rw [e2] at z2; exact z2); omega, (Fa.put Fa.rf).none f_71 (fun e => by rw [e, g_up_self] at f_71; cases f_71), (Fa.put Fa.rf).new f_71, u9, w9, g_up_self _ _ _⟩, hH.1⟩) (Nat.le_of_ble_eq_true rfl) (Nat.le_of_ble_eq_true rfl)
  have K : ∀ u k v, k + u = 4 → 1 ≤ k → v < 10 ^ k → p + k ≤ n → rnS t n p u k v = rnS t n p 4 0 0 → V E cX16_number "SecretVault$Reader" mX16_number (pN fun r h' => r = rnV t n p ∧ rnOk t n p lo hi ∧ h' = g_up h rd (1100, gO 14 [.ref tx, .int (nI (p + rnK t n p))])) (fun C q h' => C = "SecretVault$TextError" ∧ ¬ rnOk t n p lo hi ∧ TEf h h' rd q (p)) X (g_up h rd (1100, gO 14 [.ref tx, .int (nI (p + k))])) k (7 * k) 14 [some (.ref rd), some (.int (nI lo)), some (.int (nI hi)), some (.int (nI p)), some (.int (nI v))] [] := by
    intro u
    induction u with
    | zero =>
      intro k v hku hk hv hpn he
      have hr2 := g_up_self h rd (1100, gO 14 [.ref tx, .int (nI (p + k))])
      have hd2 := hd.fr (Fr.put (P := fun u => u = 1100) (e' := gO 14 [.ref tx, .int (nI (p + k))]) hr rfl) (by decide) (by decide)
      have hn40 := hd.le
      have hv4 : v < 10000 := Nat.lt_of_lt_of_le hv (Nat.pow_le_pow_right (by decide) (show k ≤ 4 by omega))
      have hv := hv_lt hd (p + k)
      have hin := hv_in (t := t) (n := n) (p := p + k) (lo := 48) (hi := 57) (by decide) (by decide)
      obtain rfl : k = 4 := by omega
      refine g_iload4 dX16_number_14 ?_
      first | refine g_ifN_le (tgt := 61) dX16_number_16 (by decide) (by omega) (fun c_16 => ?_) (fun c_16 => ?_) | refine g_if_le (tgt := 61) dX16_number_16 (by decide) (fun c_16 => ?_) (fun c_16 => ?_)
      · exact K6 4 v (by omega) (by omega) hv4 (he.symm.trans rfl)
      · first | refine g_aload0 dX16_number_19 ?_ | refine g_aloadQ0 dX16_number_19 ?_ | refine g_aloadN0 dX16_number_19 ?_
        refine g_get (k0 := 1) (by first | assumption | exact g_up_self _ _ _ | (refine g_upf ?_ ?_ <;> assumption) | (refine g_upt ?_ ?_ (by decide) <;> assumption)) in_X16 q1624 rfl (by decide) rfl dX16_number_20 ?_
        refine g_iload3 dX16_number_23 ?_
        refine g_iconst (nI 4) dX16_number_24 (by decide) ?_
        first | refine g_iaddN dX16_number_25 ?_ | refine g_iadd dX16_number_25 ?_
        first | refine g_icmpN_ge (tgt := 61) dX16_number_26 (by decide) (by omega) (by omega) (fun c_26 => ?_) (fun c_26 => ?_) | refine g_icmp_ge (tgt := 61) dX16_number_26 (by decide) (fun c_26 => ?_) (fun c_26 => ?_)
        · exact K6 4 v (by omega) (by omega) hv4 (he.symm.trans rfl)
        · omega
    | succ u ih =>
      intro k v hku hk hv hpn he
      have hr2 := g_up_self h rd (1100, gO 14 [.ref tx, .int (nI (p + k))])
      have hd2 := hd.fr (Fr.put (P := fun u => u = 1100) (e' := gO 14 [.ref tx, .int (nI (p + k))]) hr rfl) (by decide) (by decide)
      have hn40 := hd.le
      have hv4 : v < 10000 := Nat.lt_of_lt_of_le hv (Nat.pow_le_pow_right (by decide) (show k ≤ 4 by omega))
      have hv := hv_lt hd (p + k)
      have hin := hv_in (t := t) (n := n) (p := p + k) (lo := 48) (hi := 57) (by decide) (by decide)
      refine g_iload4 dX16_number_14 ?_
      first | refine g_ifN_le (tgt := 61) dX16_number_16 (by decide) (by omega) (fun c_16 => ?_) (fun c_16 => ?_) | refine g_if_le (tgt := 61) dX16_number_16 (by decide) (fun c_16 => ?_) (fun c_16 => ?_)
      · first | exact K6 k v hk (by omega) hv4 (he.symm.trans (rnS_n (fun z => by omega))) | exact K6 k v hk (by omega) hv4 (he.symm.trans (rnS_n (fun z => by have := i_37.mpr (hin.mpr z.1); omega)))
      · first | refine g_aload0 dX16_number_19 ?_ | refine g_aloadQ0 dX16_number_19 ?_ | refine g_aloadN0 dX16_number_19 ?_
        refine g_get (k0 := 1) (by first | assumption | exact g_up_self _ _ _ | (refine g_upf ?_ ?_ <;> assumption) | (refine g_upt ?_ ?_ (by decide) <;> assumption)) in_X16 q1624 rfl (by decide) rfl dX16_number_20 ?_
        refine g_iload3 dX16_number_23 ?_
        refine g_iconst (nI 4) dX16_number_24 (by decide) ?_
        first | refine g_iaddN dX16_number_25 ?_ | refine g_iadd dX16_number_25 ?_
        first | refine g_icmpN_ge (tgt := 61) dX16_number_26 (by decide) (by omega) (by omega) (fun c_26 => ?_) (fun c_26 => ?_) | refine g_icmp_ge (tgt := 61) dX16_number_26 (by decide) (fun c_26 => ?_) (fun c_26 => ?_)
        · first | exact K6 k v hk (by omega) hv4 (he.symm.trans (rnS_n (fun z => by omega))) | exact K6 k v hk (by omega) hv4 (he.symm.trans (rnS_n (fun z => by have := i_37.mpr (hin.mpr z.1); omega)))
        · first | refine g_aload0 dX16_number_29 ?_ | refine g_aloadQ0 dX16_number_29 ?_ | refine g_aloadN0 dX16_number_29 ?_
          refine g_callVR (ctX16_here hr2 hd2 (by omega)) kX16_here q1642 (gRv.g hr2 rfl rfl) (by decide) ⟨by show k + 0 ≤ 5; omega, by show 7 * k + 0 ≤ 35; omega⟩ rfl (Nat.le_of_ble_eq_true rfl) dX16_number_30 k_x (k_n (fun r_30 h_30 p_30 => ?_))
          obtain ⟨rfl, z_30⟩ := p_30
          rw [z_30]
          refine V.wide (k' := k) (n' := 7 * k) (Nat.le_refl _) (Nat.le_refl _) ?_
          refine g_bipush (nI 48) dX16_number_33 (by decide) ?_
          refine g_bipush (nI 57) dX16_number_35 (by decide) ?_
          refine g_callSN (ctX1_in _ _ _ (by omega) (by omega) (by omega)) kX1_in q1662 (by decide) ⟨by show k + 0 ≤ 5; omega, by show 7 * k + 0 ≤ 35; omega⟩ rfl (Nat.le_of_ble_eq_true rfl) dX16_number_37 k_x (k_n (fun r_37 h_37 p_37 => ?_))
          obtain ⟨b_37, i_37, z_37⟩ := p_37
          rw [z_37]
          refine V.wide (k' := k) (n' := 7 * k) (Nat.le_refl _) (Nat.le_refl _) ?_
          first | refine g_ifN_eq (tgt := 61) dX16_number_40 (by decide) (by omega) (fun c_40 => ?_) (fun c_40 => ?_) | refine g_if_eq (tgt := 61) dX16_number_40 (by decide) (fun c_40 => ?_) (fun c_40 => ?_)
          · first | exact K6 k v hk (by omega) hv4 (he.symm.trans (rnS_n (fun z => by omega))) | exact K6 k v hk (by omega) hv4 (he.symm.trans (rnS_n (fun z => by have := i_37.mpr (hin.mpr z.1); omega)))
          · refine g_bipush (nI 10) dX16_number_43 (by decide) ?_
            refine g_iload4 dX16_number_45 ?_
            first | refine g_imulN dX16_number_47 ?_ | refine g_imul dX16_number_47 ?_
            first | refine g_aload0 dX16_number_48 ?_ | refine g_aloadQ0 dX16_number_48 ?_ | refine g_aloadN0 dX16_number_48 ?_
            refine g_iconst (nI 0) dX16_number_49 (by decide) ?_
            refine g_bipush (nI 9) dX16_number_50 (by decide) ?_
            refine g_callVR (ctX16_digit 0 9 hr2 hd2 (by omega) (by decide)) kX16_digit q1638 (gRv.g hr2 rfl rfl) (by decide) ⟨by show k + 1 ≤ 5; omega, by show 7 * k + 7 ≤ 35; omega⟩ rfl (Nat.le_of_ble_eq_true rfl) dX16_number_52 (fun C_ q_ h2_ px => by obtain ⟨rfl, n_52, e_52⟩ := px; exact absurd (hin.mp (i_37.mp (by omega))) n_52) (k_n (fun r_52 h_52 p_52 => ?_))
            obtain ⟨rfl, d_52, z_52⟩ := p_52
            rw [z_52, g_upup]
            refine V.wide (k' := k + 1) (n' := 7 * (k + 1)) (Nat.le_refl _) (by show 7 * k + 7 ≤ _; omega) ?_
            first | refine g_iaddN dX16_number_55 ?_ | refine g_iadd dX16_number_55 ?_
            refine g_istore4 dX16_number_56 (by decide) ?_
            refine g_goto (tgt := 14) dX16_number_58 (by decide) ?_
            have d3 := hr_in (lo := 48) (by decide) (by have := d_52.1; omega)
            rw [show p + k + 1 = p + (k + 1) by omega]
            exact ih (k + 1) (10 * v + (hrF t n (p + k) - 48)) (by omega) (by omega) (by rw [Nat.pow_succ]; omega) (by omega) (by rw [← he]; exact (rnS_y d_52 (Or.inr (by omega))).symm)
  first | refine g_aload0 dX16_number_0 ?_ | refine g_aloadQ0 dX16_number_0 ?_ | refine g_aloadN0 dX16_number_0 ?_
  refine g_get (k0 := 1) (by first | assumption | exact g_up_self _ _ _ | (refine g_upf ?_ ?_ <;> assumption) | (refine g_upt ?_ ?_ (by decide) <;> assumption)) in_X16 q1624 rfl (by decide) rfl dX16_number_1 ?_
  refine g_istore3 dX16_number_4 (by decide) ?_
  first | refine g_aload0 dX16_number_5 ?_ | refine g_aloadQ0 dX16_number_5 ?_ | refine g_aloadN0 dX16_number_5 ?_
  refine g_iconst (nI 0) dX16_number_6 (by decide) ?_
  refine g_bipush (nI 9) dX16_number_7 (by decide) ?_
  refine g_callVR (ctX16_digit 0 9 hr hd (by omega) (by decide)) kX16_digit q1638 (gRv.g (by assumption) rfl rfl) (by decide) ⟨Nat.le_of_ble_eq_true rfl, Nat.le_of_ble_eq_true rfl⟩ rfl (Nat.le_of_ble_eq_true rfl) dX16_number_9 (fun C_ q_ h2_ px => by obtain ⟨rfl, n_9, e_9⟩ := px; exact gx_out0 rfl (⟨rfl, fun z => z.1 (by unfold rnK; rw [rnS_n (fun y => n_9 y.1)]), e_9⟩) (Nat.le_of_ble_eq_true rfl) (Nat.le_of_ble_eq_true rfl)) (k_n (fun r_9 h_9 p_9 => ?_))
  obtain ⟨rfl, d_9, z_9⟩ := p_9
  rw [z_9]
  refine g_istore4 dX16_number_12 (by decide) ?_
  have d3 := hr_in (lo := 48) (by decide) (by have := d_9.1; omega)
  refine V.wide (k' := 1) (n' := 7 * 1) (Nat.le_refl _) (Nat.le_refl _) ?_
  exact K 3 1 _ rfl (by decide) (by omega) (by omega) (by have z := rnS_y (u := 3) (k := 0) (v := 0) d_9 (Or.inl rfl); rw [z]; simp)
