/-! StringBuilder, String -/
set_option maxRecDepth 100000
/-- a StringBuilder at q (tags t, t + 1) that holds the characters L; its cells told -/
def SX (E : GE) (t : Nat) (h : AH) (q : Nat) (L : List Nat) (arr N ml : Nat) (F : Nat → Nat) : Prop := h q = some (t, gO 6 [.ref arr, .int (nI 0), .int (nI ml), .int (nI L.length)]) ∧ h arr = some (t + 1, gABn E N F) ∧ (N = 16 ∨ N = 34 ∨ N = 70 ∨ N = 142) ∧ L.length ≤ N ∧ ml < 2 ∧ (∀ i, F i < 128) ∧ ∀ (i c : Nat), L[i]? = some c → F i = c
def SB (E : GE) (t : Nat) (h : AH) (q : Nat) (L : List Nat) : Prop := ∃ arr N ml F, SX E t h q L arr N ml F
theorem SX.fr {E : GE} {t : Nat} {h h' : AH} {q : Nat} {L : List Nat} {arr N ml : Nat} {F : Nat → Nat} {P : Nat → Prop} (hx : SX E t h q L arr N ml F) (hf : Fr P h h') (h1 : ¬ P t) (h2 : ¬ P (t + 1)) : SX E t h' q L arr N ml F := ⟨hf _ _ _ hx.1 h1, hf _ _ _ hx.2.1 h2, hx.2.2⟩
theorem SB.fr {E : GE} {t : Nat} {h h' : AH} {q : Nat} {L : List Nat} {P : Nat → Prop} (hx : SB E t h q L) (hf : Fr P h h') (h1 : ¬ P t) (h2 : ¬ P (t + 1)) : SB E t h' q L := by
  obtain ⟨arr, N, ml, F, z⟩ := hx
  exact ⟨arr, N, ml, F, z.fr hf h1 h2⟩
theorem SX.rv {E : GE} {t : Nat} {h : AH} {q : Nat} {L : List Nat} {arr N ml : Nat} {F : Nat → Nat} (hx : SX E t h q L arr N ml F) : gRv E h q "java/lang/StringBuilder" := gRv.g hx.1 rfl rfl
theorem SB.rv {E : GE} {t : Nat} {h : AH} {q : Nat} {L : List Nat} (hx : SB E t h q L) : gRv E h q "java/lang/StringBuilder" := by
  obtain ⟨arr, N, ml, F, z⟩ := hx
  exact z.rv
theorem SB.lt {E : GE} {t : Nat} {h : AH} {q : Nat} {L : List Nat} (hx : SB E t h q L) : ∀ (i c : Nat), L[i]? = some c → c < 128 := fun i c z => by
  obtain ⟨arr, N, ml, F, a1, a2, a3, a4, a5, a6, a7⟩ := hx
  rw [← a7 i c z]
  exact a6 i
theorem SB.len {E : GE} {t : Nat} {h : AH} {q : Nat} {L : List Nat} (hx : SB E t h q L) : L.length ≤ 142 := by
  obtain ⟨arr, N, ml, F, a1, a2, a3, a4, a5, a6, a7⟩ := hx
  omega
theorem SX.app {E : GE} {t : Nat} {h h' : AH} {q : Nat} {L K : List Nat} {arr N ml : Nat} {F G : Nat → Nat} (hx : SX E t h q L arr N ml F) (e1 : h' q = some (t, gO 6 [.ref arr, .int (nI 0), .int (nI ml), .int (nI (L.length + K.length))])) (e2 : h' arr = some (t + 1, gABn E N G)) (hK : L.length + K.length ≤ N) (g1 : ∀ j, j < L.length → G j = F j) (g2 : ∀ (k c : Nat), K[k]? = some c → G (L.length + k) = c) (g3 : ∀ j, G j < 128) : SB E t h' q (L ++ K) := by
  obtain ⟨a1, a2, a3, a4, a5, a6, a7⟩ := hx
  refine ⟨arr, N, ml, G, ?_, e2, a3, ?_, a5, g3, fun i c z => ?_⟩
  · rw [List.length_append]
    exact e1
  · rw [List.length_append]
    exact hK
  · by_cases hi : i < L.length
    · rw [List.getElem?_append_left hi] at z
      rw [g1 i hi]
      exact a7 i c z
    · rw [List.getElem?_append_right (by omega)] at z
      have e := g2 _ c z
      rw [show L.length + (i - L.length) = i by omega] at e
      exact e
theorem SX.appM {E : GE} {t : Nat} {h h' : AH} {q : Nat} {L K : List Nat} {arr N ml m2 : Nat} {F G : Nat → Nat} (hx : SX E t h q L arr N ml F) (hm : m2 < 2) (e1 : h' q = some (t, gO 6 [.ref arr, .int (nI 0), .int (nI m2), .int (nI (L.length + K.length))])) (e2 : h' arr = some (t + 1, gABn E N G)) (hK : L.length + K.length ≤ N) (g1 : ∀ j, j < L.length → G j = F j) (g2 : ∀ (k c : Nat), K[k]? = some c → G (L.length + k) = c) (g3 : ∀ j, G j < 128) : SB E t h' q (L ++ K) := by
  obtain ⟨a1, a2, a3, a4, a5, a6, a7⟩ := hx
  exact SX.app (h := g_up h q (t, gO 6 [.ref arr, .int (nI 0), .int (nI m2), .int (nI L.length)])) ⟨g_up_self _ _ _, g_upt a2 a1 (by omega), a3, a4, hm, a6, a7⟩ e1 e2 hK g1 g2 g3
/-- a String (tags t, t + 1 if it is new) of the characters L, its array at arr -/
def STn (E : GE) (t : Nat) (h : AH) (s : Nat) (L : List Nat) (arr : Nat) (F : Nat → Nat) : Prop := h s = some (t, gO 7 [.ref arr, .int (nI 0), .int 0, .int 0]) ∧ h arr = some (t + 1, gABn E L.length F)
def STo (E : GE) (s : Nat) (L : List Nat) (arr : Nat) (F : Nat → Nat) : Prop := OldO E "java/lang/String" s ∧ gOF E "java/lang/String" "value" "[B" (.ref arr) s ∧ gOF E "java/lang/String" "coder" "B" (.int (nI 0)) s ∧ gTb E .byte arr L.length (fun j => .int (nI (F j)))
def ST (E : GE) (t : Nat) (h : AH) (s : Nat) (L : List Nat) : Prop := ∃ arr F, (STn E t h s L arr F ∨ STo E s L arr F) ∧ L.length ≤ 142 ∧ (∀ i, F i < 128) ∧ ∀ (i c : Nat), L[i]? = some c → F i = c
theorem ST.fr {E : GE} {t : Nat} {h h' : AH} {s : Nat} {L : List Nat} {P : Nat → Prop} (hx : ST E t h s L) (hf : Fr P h h') (h1 : ¬ P t) (h2 : ¬ P (t + 1)) : ST E t h' s L := by
  obtain ⟨arr, F, z, r⟩ := hx
  exact ⟨arr, F, z.imp (fun y => ⟨hf _ _ _ y.1 h1, hf _ _ _ y.2 h2⟩) id, r⟩
def STN (E : GE) (t : Nat) (h : AH) (s : Nat) (L : List Nat) : Prop := ∃ arr F, STn E t h s L arr F ∧ L.length ≤ 142 ∧ (∀ i, F i < 128) ∧ ∀ (i c : Nat), L[i]? = some c → F i = c
theorem STN.st {E : GE} {t : Nat} {h : AH} {s : Nat} {L : List Nat} (hx : STN E t h s L) : ST E t h s L := ⟨hx.choose, hx.choose_spec.choose, Or.inl hx.choose_spec.choose_spec.1, hx.choose_spec.choose_spec.2⟩
theorem ST.rv {E : GE} {t : Nat} {h : AH} {s : Nat} {L : List Nat} (hx : ST E t h s L) : gRv E h s "java/lang/String" := by
  obtain ⟨arr, F, z | z, r⟩ := hx
  · exact gRv.g z.1 rfl rfl
  · exact Or.inr z.1
theorem ST.lt {E : GE} {t : Nat} {h : AH} {s : Nat} {L : List Nat} (hx : ST E t h s L) : ∀ (i c : Nat), L[i]? = some c → c < 128 := fun i c z => by
  obtain ⟨arr, F, -, -, a6, a7⟩ := hx
  rw [← a7 i c z]
  exact a6 i
theorem ST.len {E : GE} {t : Nat} {h : AH} {s : Nat} {L : List Nat} (hx : ST E t h s L) : L.length ≤ 142 := hx.choose_spec.choose_spec.2.1
theorem narB0 : narrow .byte (.int (nI 0)) = .int (nI 0) := by decide +kernel
theorem narC : ∀ c, c < 128 → narrow .char (.int (nI c)) = .int (nI c) := by decide +kernel
abbrev mJ3_isLatin1 : GM := (yJ3_isLatin1, 1, (some .boolean), [], { frames := 0, cells := 0, slots := 0, locals := 0 }, 255)
theorem uJ3_isLatin1 : gCu cJ3_isLatin1 mJ3_isLatin1 0 := ⟨q287, q72, q290, ⟨by decide +kernel, by decide +kernel, by decide +kernel⟩, rfl⟩
set_option maxHeartbeats 400000 in
theorem ctJ3_isLatin1 {E : GE} {h : AH} {t q : Nat} {L : List Nat} {arr N ml : Nat} {F : Nat → Nat} (hx : SX E t h q L arr N ml F) : Ct E cJ3_isLatin1 mJ3_isLatin1 [.ref q] (h) (pN fun r h' => r = (1) ∧ h' = h) (noX) := by
  refine g_enter (own := "java/lang/AbstractStringBuilder") [some (.ref q)] (by decide +kernel) rfl rfl (Nat.le_of_ble_eq_true rfl) rfl rfl (fun X => ?_)
  obtain ⟨a1, a2, a3, a4, a5, a6, a7⟩ := id hx
  refine V.hE (fun hE => ?_)
  refine g_gets (ref := "java/lang/String") hE.cS q201 dJ3_isLatin1_0 ?_
  first | refine g_ifN_eq (tgt := 17) dJ3_isLatin1_3 (by decide) (by omega) (fun c_3 => ?_) (fun c_3 => ?_) | refine g_if_eq (tgt := 17) dJ3_isLatin1_3 (by decide) (fun c_3 => ?_) (fun c_3 => ?_)
  · omega
  · first | refine g_aload0 dJ3_isLatin1_6 ?_ | refine g_aloadQ0 dJ3_isLatin1_6 ?_ | refine g_aloadN0 dJ3_isLatin1_6 ?_
    refine g_get (k0 := 1) (by first | assumption | exact g_up_self _ _ _ | (refine g_upf ?_ ?_ <;> assumption) | (refine g_upt ?_ ?_ (by decide) <;> assumption)) in_J4 q211 rfl (by decide) rfl dJ3_isLatin1_7 ?_
    first | refine g_ifN_ne (tgt := 17) dJ3_isLatin1_10 (by decide) (by omega) (fun c_10 => ?_) (fun c_10 => ?_) | refine g_if_ne (tgt := 17) dJ3_isLatin1_10 (by decide) (fun c_10 => ?_) (fun c_10 => ?_)
    · omega
    · refine g_iconst (nI 1) dJ3_isLatin1_13 (by decide) ?_
      refine g_goto (tgt := 18) dJ3_isLatin1_14 (by decide) ?_
      exact g_zret dJ3_isLatin1_18 rfl (nar_zb (by omega)) ⟨_, rfl, rfl, rfl⟩
abbrev mJ3_getValue : GM := (yJ3_getValue, 1, (some (.array .byte)), [], { frames := 0, cells := 0, slots := 0, locals := 0 }, 255)
theorem uJ3_getValue : gCu cJ3_getValue mJ3_getValue 0 := ⟨q399, q72, q402, ⟨by decide +kernel, by decide +kernel, by decide +kernel⟩, rfl⟩
set_option maxHeartbeats 400000 in
theorem ctJ3_getValue {E : GE} {h : AH} {t q : Nat} {L : List Nat} {arr N ml : Nat} {F : Nat → Nat} (hx : SX E t h q L arr N ml F) : Ct E cJ3_getValue mJ3_getValue [.ref q] (h) (pR fun r h' => r = arr ∧ h' = h) (noX) := by
  refine g_enter (own := "java/lang/AbstractStringBuilder") [some (.ref q)] (by decide +kernel) rfl rfl (Nat.le_of_ble_eq_true rfl) rfl rfl (fun X => ?_)
  obtain ⟨a1, a2, a3, a4, a5, a6, a7⟩ := id hx
  first | refine g_aload0 dJ3_getValue_0 ?_ | refine g_aloadQ0 dJ3_getValue_0 ?_ | refine g_aloadN0 dJ3_getValue_0 ?_
  refine g_get (k0 := 0) (by first | assumption | exact g_up_self _ _ _ | (refine g_upf ?_ ?_ <;> assumption) | (refine g_upt ?_ ?_ (by decide) <;> assumption)) in_J4 q210 rfl (by decide) rfl dJ3_getValue_1 ?_
  exact g_aret dJ3_getValue_4 rfl (Or.inr ⟨_, rfl⟩) ⟨_, rfl, rfl, rfl⟩
abbrev mJ3_getCoder : GM := (yJ3_getCoder, 1, (some .byte), [], { frames := 0, cells := 0, slots := 0, locals := 0 }, 255)
theorem uJ3_getCoder : gCu cJ3_getCoder mJ3_getCoder 0 := ⟨q1732, q72, q1735, ⟨by decide +kernel, by decide +kernel, by decide +kernel⟩, rfl⟩
set_option maxHeartbeats 400000 in
theorem ctJ3_getCoder {E : GE} {h : AH} {t q : Nat} {L : List Nat} {arr N ml : Nat} {F : Nat → Nat} (hx : SX E t h q L arr N ml F) : Ct E cJ3_getCoder mJ3_getCoder [.ref q] (h) (pN fun r h' => r = (0) ∧ h' = h) (noX) := by
  refine g_enter (own := "java/lang/AbstractStringBuilder") [some (.ref q)] (by decide +kernel) rfl rfl (Nat.le_of_ble_eq_true rfl) rfl rfl (fun X => ?_)
  obtain ⟨a1, a2, a3, a4, a5, a6, a7⟩ := id hx
  refine V.hE (fun hE => ?_)
  refine g_gets (ref := "java/lang/String") hE.cS q201 dJ3_getCoder_0 ?_
  first | refine g_ifN_eq (tgt := 13) dJ3_getCoder_3 (by decide) (by omega) (fun c_3 => ?_) (fun c_3 => ?_) | refine g_if_eq (tgt := 13) dJ3_getCoder_3 (by decide) (fun c_3 => ?_) (fun c_3 => ?_)
  · omega
  · first | refine g_aload0 dJ3_getCoder_6 ?_ | refine g_aloadQ0 dJ3_getCoder_6 ?_ | refine g_aloadN0 dJ3_getCoder_6 ?_
    refine g_get (k0 := 1) (by first | assumption | exact g_up_self _ _ _ | (refine g_upf ?_ ?_ <;> assumption) | (refine g_upt ?_ ?_ (by decide) <;> assumption)) in_J4 q211 rfl (by decide) rfl dJ3_getCoder_7 ?_
    refine g_goto (tgt := 14) dJ3_getCoder_10 (by decide) ?_
    exact g_zret dJ3_getCoder_14 rfl narB0 ⟨_, rfl, rfl, rfl⟩
abbrev mJ3_length : GM := (yJ3_length, 1, (some .int), [], { frames := 0, cells := 0, slots := 0, locals := 0 }, 255)
theorem uJ3_length : gCu cJ3_length mJ3_length 0 := ⟨q404, q72, q410, ⟨by decide +kernel, by decide +kernel, by decide +kernel⟩, rfl⟩
set_option maxHeartbeats 400000 in
theorem ctJ3_length {E : GE} {h : AH} {t q : Nat} {L : List Nat} {arr N ml : Nat} {F : Nat → Nat} (hx : SX E t h q L arr N ml F) : Ct E cJ3_length mJ3_length [.ref q] (h) (pN fun r h' => r = (L.length) ∧ h' = h) (noX) := by
  refine g_enter (own := "java/lang/AbstractStringBuilder") [some (.ref q)] (by decide +kernel) rfl rfl (Nat.le_of_ble_eq_true rfl) rfl rfl (fun X => ?_)
  obtain ⟨a1, a2, a3, a4, a5, a6, a7⟩ := id hx
  first | refine g_aload0 dJ3_length_0 ?_ | refine g_aloadQ0 dJ3_length_0 ?_ | refine g_aloadN0 dJ3_length_0 ?_
  refine g_get (k0 := 3) (by first | assumption | exact g_up_self _ _ _ | (refine g_upf ?_ ?_ <;> assumption) | (refine g_upt ?_ ?_ (by decide) <;> assumption)) in_J4 q214 rfl (by decide) rfl dJ3_length_1 ?_
  exact g_iret dJ3_length_4 rfl ⟨_, rfl, rfl, rfl⟩
abbrev mJ4_length : GM := (yJ4_length, 1, (some .int), [], { frames := 1, cells := 0, slots := 0, locals := 20 }, 255)
theorem kJ4_length : gCv cJ4_length mJ4_length 0 := ⟨q407, q2545, q73, q408, ⟨by decide +kernel, by decide +kernel, by decide +kernel⟩, rfl⟩
theorem uJ4_length : gCu cJ4_length mJ4_length 0 := ⟨q407, q73, q408, ⟨by decide +kernel, by decide +kernel, by decide +kernel⟩, rfl⟩
set_option maxHeartbeats 400000 in
theorem ctJ4_length {E : GE} {h : AH} {t q : Nat} {L : List Nat} {arr N ml : Nat} {F : Nat → Nat} (hx : SX E t h q L arr N ml F) : Ct E cJ4_length mJ4_length [.ref q] (h) (pN fun r h' => r = (L.length) ∧ h' = h) (noX) := by
  refine g_enter (own := "java/lang/StringBuilder") [some (.ref q)] (by decide +kernel) rfl rfl (Nat.le_of_ble_eq_true rfl) rfl rfl (fun X => ?_)
  obtain ⟨a1, a2, a3, a4, a5, a6, a7⟩ := id hx
  first | refine g_aload0 dJ4_length_0 ?_ | refine g_aloadQ0 dJ4_length_0 ?_ | refine g_aloadN0 dJ4_length_0 ?_
  refine g_callSU (ctJ3_length (by assumption)) uJ3_length q409 q405 q223 (by decide) (by assumption) rfl (by decide) ⟨Nat.le_of_ble_eq_true rfl, Nat.le_of_ble_eq_true rfl⟩ rfl (Nat.le_of_ble_eq_true rfl) dJ4_length_1 k_x (k_n (fun r_1 h_1 p_1 => ?_))
  obtain ⟨rfl, z_1⟩ := p_1
  rw [z_1]
  exact g_iret dJ4_length_4 rfl ⟨_, rfl, rfl, rfl⟩
theorem ctJ4_lengthS {E : GE} {h : AH} {t q : Nat} {L : List Nat} (hx : SB E t h q L) : Ct E cJ4_length mJ4_length [.ref q] h (pN fun r h' => r = L.length ∧ h' = h) noX := by
  obtain ⟨arr, N, ml, F, z⟩ := hx
  exact ctJ4_length z
abbrev mJ3_newCapacity : GM := (yJ3_newCapacity, 6, (some .int), [], { frames := 2, cells := 0, slots := 0, locals := 44 }, 255)
theorem uJ3_newCapacity : gCu cJ3_newCapacity mJ3_newCapacity 1 := ⟨q257, q72, q258, ⟨by decide +kernel, by decide +kernel, by decide +kernel⟩, rfl⟩
set_option maxHeartbeats 400000 in
theorem ctJ3_newCapacity {E : GE} {h : AH} {t q : Nat} {L : List Nat} {arr N ml : Nat} {F : Nat → Nat} (m : Nat) (hx : SX E t h q L arr N ml F) (hm : N < m) (hm2 : m ≤ N + 18) : Ct E cJ3_newCapacity mJ3_newCapacity [.ref q, .int (nI m)] (h) (pN fun r h' => r = (2 * N + 2) ∧ h' = h) (noX) := by
  refine g_enter (own := "java/lang/AbstractStringBuilder") [some (.ref q), some (.int (nI m)), none, none, none, none] (by decide +kernel) rfl rfl (Nat.le_of_ble_eq_true rfl) rfl rfl (fun X => ?_)
  obtain ⟨a1, a2, a3, a4, a5, a6, a7⟩ := id hx
  first | refine g_aload0 dJ3_newCapacity_0 ?_ | refine g_aloadQ0 dJ3_newCapacity_0 ?_ | refine g_aloadN0 dJ3_newCapacity_0 ?_
  refine g_get (k0 := 0) (by first | assumption | exact g_up_self _ _ _ | (refine g_upf ?_ ?_ <;> assumption) | (refine g_upt ?_ ?_ (by decide) <;> assumption)) in_J4 q210 rfl (by decide) rfl dJ3_newCapacity_1 ?_
  refine g_alen (by first | assumption | exact g_up_self _ _ _ | (refine g_upf ?_ ?_ <;> assumption) | (refine g_upt ?_ ?_ (by decide) <;> assumption)) (by first | exact Or.inl ⟨_, rfl⟩ | exact Or.inr (Or.inr (Or.inl ⟨_, rfl⟩)) | exact Or.inr (Or.inr (Or.inr (Or.inl ⟨_, rfl⟩))) | exact Or.inr (Or.inr (Or.inr (Or.inr (Or.inr ⟨_, _, by decide, by decide, rfl⟩))))) rfl dJ3_newCapacity_4 ?_
  rw [show Int32.ofNat N = nI N from rfl]
  refine g_istore2 dJ3_newCapacity_5 (by decide) ?_
  refine g_iload1 dJ3_newCapacity_6 ?_
  first | refine g_aload0 dJ3_newCapacity_7 ?_ | refine g_aloadQ0 dJ3_newCapacity_7 ?_ | refine g_aloadN0 dJ3_newCapacity_7 ?_
  refine g_get (k0 := 1) (by first | assumption | exact g_up_self _ _ _ | (refine g_upf ?_ ?_ <;> assumption) | (refine g_upt ?_ ?_ (by decide) <;> assumption)) in_J4 q211 rfl (by decide) rfl dJ3_newCapacity_8 ?_
  refine g_ishlN dJ3_newCapacity_11 (by omega) (by omega) ?_
  refine g_istore3 dJ3_newCapacity_12 (by decide) ?_
  refine g_iload3 dJ3_newCapacity_13 ?_
  refine g_iload2 dJ3_newCapacity_14 ?_
  first | refine g_isubN dJ3_newCapacity_15 (by omega) ?_ | refine g_isub dJ3_newCapacity_15 ?_
  refine g_istore4 dJ3_newCapacity_16 (by decide) ?_
  refine g_iload2 dJ3_newCapacity_18 ?_
  refine g_iload4 dJ3_newCapacity_19 ?_
  refine g_iload2 dJ3_newCapacity_21 ?_
  refine g_iconst (nI 2) dJ3_newCapacity_22 (by decide) ?_
  first | refine g_aload0 dJ3_newCapacity_23 ?_ | refine g_aloadQ0 dJ3_newCapacity_23 ?_ | refine g_aloadN0 dJ3_newCapacity_23 ?_
  refine g_get (k0 := 1) (by first | assumption | exact g_up_self _ _ _ | (refine g_upf ?_ ?_ <;> assumption) | (refine g_upt ?_ ?_ (by decide) <;> assumption)) in_J4 q211 rfl (by decide) rfl dJ3_newCapacity_24 ?_
  refine g_ishlN dJ3_newCapacity_27 (by omega) (by omega) ?_
  first | refine g_iaddN dJ3_newCapacity_28 ?_ | refine g_iadd dJ3_newCapacity_28 ?_
  refine g_callS (ctJ12_newLength _ _ _ (by omega) (by omega) (by omega) (by omega)) kJ12_newLength q259 (by decide) ⟨Nat.le_of_ble_eq_true rfl, Nat.le_of_ble_eq_true rfl⟩ rfl (Nat.le_of_ble_eq_true rfl) dJ3_newCapacity_29 k_x (k_n (fun r_29 h_29 p_29 => ?_))
  obtain ⟨rfl, rfl⟩ := p_29
  refine g_istore5 dJ3_newCapacity_32 (by decide) ?_
  refine g_iload5 dJ3_newCapacity_34 ?_
  refine g_ldcN 2147483647 q269 (by decide) dJ3_newCapacity_36 ?_
  first | refine g_icmpN_ne (tgt := 51) dJ3_newCapacity_38 (by decide) (by omega) (by omega) (fun c_38 => ?_) (fun c_38 => ?_) | refine g_icmpU_ne (tgt := 51) dJ3_newCapacity_38 (by decide) (by omega) (by omega) (fun c_38 => ?_) (fun c_38 => ?_) | refine g_icmp_ne (tgt := 51) dJ3_newCapacity_38 (by decide) (fun c_38 => ?_) (fun c_38 => ?_)
  · refine g_iload5 dJ3_newCapacity_51 ?_
    first | refine g_aload0 dJ3_newCapacity_53 ?_ | refine g_aloadQ0 dJ3_newCapacity_53 ?_ | refine g_aloadN0 dJ3_newCapacity_53 ?_
    refine g_get (k0 := 1) (by first | assumption | exact g_up_self _ _ _ | (refine g_upf ?_ ?_ <;> assumption) | (refine g_upt ?_ ?_ (by decide) <;> assumption)) in_J4 q211 rfl (by decide) rfl dJ3_newCapacity_54 ?_
    refine g_ishrN dJ3_newCapacity_57 (by omega) (by omega) ?_
    exact g_iret dJ3_newCapacity_58 rfl ⟨_, rfl, by omega, rfl⟩
  · omega
abbrev mJ3_ensureCapacityInternal : GM := (yJ3_ensureCapacityInternal, 3, none, [], { frames := 3, cells := 1, slots := 142, locals := 82 }, 255)
theorem uJ3_ensureCapacityInternal : gCu cJ3_ensureCapacityInternal mJ3_ensureCapacityInternal 1 := ⟨q253, q72, q254, ⟨by decide +kernel, by decide +kernel, by decide +kernel⟩, rfl⟩
set_option maxHeartbeats 400000 in
theorem ctJ3_ensureCapacityInternal {E : GE} {h : AH} {t q : Nat} {L : List Nat} {arr N ml : Nat} {F : Nat → Nat} (m : Nat) (hx : SX E t h q L arr N ml F) (hm2 : m ≤ N + 18) (hm3 : m ≤ 142) : Ct E cJ3_ensureCapacityInternal mJ3_ensureCapacityInternal [.ref q, .int (nI m)] (h) (pV fun h' => ∃ arr' N' F', SX E t h' q L arr' N' ml F' ∧ m ≤ N' ∧ Fr (fun u => u = t ∨ u = t + 1) h h') (noX) := by
  refine g_enter (own := "java/lang/AbstractStringBuilder") [some (.ref q), some (.int (nI m)), none] (by decide +kernel) rfl rfl (Nat.le_of_ble_eq_true rfl) rfl rfl (fun X => ?_)
  obtain ⟨a1, a2, a3, a4, a5, a6, a7⟩ := id hx
  by_cases hmN : m ≤ N
  · skip
    first | refine g_aload0 dJ3_ensureCapacityInternal_0 ?_ | refine g_aloadQ0 dJ3_ensureCapacityInternal_0 ?_ | refine g_aloadN0 dJ3_ensureCapacityInternal_0 ?_
    refine g_get (k0 := 0) (by first | assumption | exact g_up_self _ _ _ | (refine g_upf ?_ ?_ <;> assumption) | (refine g_upt ?_ ?_ (by decide) <;> assumption)) in_J4 q210 rfl (by decide) rfl dJ3_ensureCapacityInternal_1 ?_
    refine g_alen (by first | assumption | exact g_up_self _ _ _ | (refine g_upf ?_ ?_ <;> assumption) | (refine g_upt ?_ ?_ (by decide) <;> assumption)) (by first | exact Or.inl ⟨_, rfl⟩ | exact Or.inr (Or.inr (Or.inl ⟨_, rfl⟩)) | exact Or.inr (Or.inr (Or.inr (Or.inl ⟨_, rfl⟩))) | exact Or.inr (Or.inr (Or.inr (Or.inr (Or.inr ⟨_, _, by decide, by decide, rfl⟩))))) rfl dJ3_ensureCapacityInternal_4 ?_
    rw [show Int32.ofNat N = nI N from rfl]
    first | refine g_aload0 dJ3_ensureCapacityInternal_5 ?_ | refine g_aloadQ0 dJ3_ensureCapacityInternal_5 ?_ | refine g_aloadN0 dJ3_ensureCapacityInternal_5 ?_
    refine g_get (k0 := 1) (by first | assumption | exact g_up_self _ _ _ | (refine g_upf ?_ ?_ <;> assumption) | (refine g_upt ?_ ?_ (by decide) <;> assumption)) in_J4 q211 rfl (by decide) rfl dJ3_ensureCapacityInternal_6 ?_
    refine g_ishrN dJ3_ensureCapacityInternal_9 (by omega) (by omega) ?_
    refine g_istore2 dJ3_ensureCapacityInternal_10 (by decide) ?_
    refine g_iload1 dJ3_ensureCapacityInternal_11 ?_
    refine g_iload2 dJ3_ensureCapacityInternal_12 ?_
    refine g_isub dJ3_ensureCapacityInternal_13 ?_
    refine g_if_le (tgt := 38) dJ3_ensureCapacityInternal_14 (by decide) (fun _ => ?_) (fun c => absurd (by rw [show N / 2 ^ 0 = N by omega]; exact sub_le0 hmN (by omega)) c)
    exact g_vret dJ3_ensureCapacityInternal_38 rfl ⟨rfl, ⟨arr, N, F, hx, hmN, Fr.rf⟩⟩
  · skip
    first | refine g_aload0 dJ3_ensureCapacityInternal_0 ?_ | refine g_aloadQ0 dJ3_ensureCapacityInternal_0 ?_ | refine g_aloadN0 dJ3_ensureCapacityInternal_0 ?_
    refine g_get (k0 := 0) (by first | assumption | exact g_up_self _ _ _ | (refine g_upf ?_ ?_ <;> assumption) | (refine g_upt ?_ ?_ (by decide) <;> assumption)) in_J4 q210 rfl (by decide) rfl dJ3_ensureCapacityInternal_1 ?_
    refine g_alen (by first | assumption | exact g_up_self _ _ _ | (refine g_upf ?_ ?_ <;> assumption) | (refine g_upt ?_ ?_ (by decide) <;> assumption)) (by first | exact Or.inl ⟨_, rfl⟩ | exact Or.inr (Or.inr (Or.inl ⟨_, rfl⟩)) | exact Or.inr (Or.inr (Or.inr (Or.inl ⟨_, rfl⟩))) | exact Or.inr (Or.inr (Or.inr (Or.inr (Or.inr ⟨_, _, by decide, by decide, rfl⟩))))) rfl dJ3_ensureCapacityInternal_4 ?_
    rw [show Int32.ofNat N = nI N from rfl]
    first | refine g_aload0 dJ3_ensureCapacityInternal_5 ?_ | refine g_aloadQ0 dJ3_ensureCapacityInternal_5 ?_ | refine g_aloadN0 dJ3_ensureCapacityInternal_5 ?_
    refine g_get (k0 := 1) (by first | assumption | exact g_up_self _ _ _ | (refine g_upf ?_ ?_ <;> assumption) | (refine g_upt ?_ ?_ (by decide) <;> assumption)) in_J4 q211 rfl (by decide) rfl dJ3_ensureCapacityInternal_6 ?_
    refine g_ishrN dJ3_ensureCapacityInternal_9 (by omega) (by omega) ?_
    refine g_istore2 dJ3_ensureCapacityInternal_10 (by decide) ?_
    refine g_iload1 dJ3_ensureCapacityInternal_11 ?_
    refine g_iload2 dJ3_ensureCapacityInternal_12 ?_
    first | refine g_isubN dJ3_ensureCapacityInternal_13 (by omega) ?_ | refine g_isub dJ3_ensureCapacityInternal_13 ?_
    first | refine g_ifN_le (tgt := 38) dJ3_ensureCapacityInternal_14 (by decide) (by omega) (fun c_14 => ?_) (fun c_14 => ?_) | refine g_if_le (tgt := 38) dJ3_ensureCapacityInternal_14 (by decide) (fun c_14 => ?_) (fun c_14 => ?_)
    · omega
    · first | refine g_aload0 dJ3_ensureCapacityInternal_17 ?_ | refine g_aloadQ0 dJ3_ensureCapacityInternal_17 ?_ | refine g_aloadN0 dJ3_ensureCapacityInternal_17 ?_
      first | refine g_aload0 dJ3_ensureCapacityInternal_18 ?_ | refine g_aloadQ0 dJ3_ensureCapacityInternal_18 ?_ | refine g_aloadN0 dJ3_ensureCapacityInternal_18 ?_
      refine g_get (k0 := 0) (by first | assumption | exact g_up_self _ _ _ | (refine g_upf ?_ ?_ <;> assumption) | (refine g_upt ?_ ?_ (by decide) <;> assumption)) in_J4 q210 rfl (by decide) rfl dJ3_ensureCapacityInternal_19 ?_
      first | refine g_aload0 dJ3_ensureCapacityInternal_22 ?_ | refine g_aloadQ0 dJ3_ensureCapacityInternal_22 ?_ | refine g_aloadN0 dJ3_ensureCapacityInternal_22 ?_
      refine g_iload1 dJ3_ensureCapacityInternal_23 ?_
      refine g_callVP (ctJ3_newCapacity _ (by assumption) (by omega) (by omega)) uJ3_newCapacity q255 q256 q2538 (SX.rv (by assumption)) (by decide) ⟨Nat.le_of_ble_eq_true rfl, Nat.le_of_ble_eq_true rfl⟩ rfl (Nat.le_of_ble_eq_true rfl) dJ3_ensureCapacityInternal_24 k_x (k_n (fun r_24 h_24 p_24 => ?_))
      obtain ⟨rfl, z_24⟩ := p_24
      rw [z_24]
      first | refine g_aload0 dJ3_ensureCapacityInternal_27 ?_ | refine g_aloadQ0 dJ3_ensureCapacityInternal_27 ?_ | refine g_aloadN0 dJ3_ensureCapacityInternal_27 ?_
      refine g_get (k0 := 1) (by first | assumption | exact g_up_self _ _ _ | (refine g_upf ?_ ?_ <;> assumption) | (refine g_upt ?_ ?_ (by decide) <;> assumption)) in_J4 q211 rfl (by decide) rfl dJ3_ensureCapacityInternal_28 ?_
      refine g_ishlN dJ3_ensureCapacityInternal_31 (by omega) (by omega) ?_
      rw [show (2 * N + 2) * 2 ^ 0 = 2 * N + 2 by omega]
      refine g_callS (ctJ2_copyOf (t + 1) _ (by assumption) (by assumption) (by omega) (by omega) (by omega)) kJ2_copyOf q270 (by decide) ⟨Nat.le_of_ble_eq_true rfl, Nat.le_of_ble_eq_true rfl⟩ rfl (Nat.le_of_ble_eq_true rfl) dJ3_ensureCapacityInternal_32 k_x (k_r (fun r_32 h_32 p_32 => ?_))
      obtain ⟨e_32, G_32, z_32, w_32, v_32⟩ := p_32
      rw [z_32]
      have b1 := g_upf (z := (t + 1, gABn E (2 * N + 2) G_32)) a1 e_32
      refine g_put (k0 := 0) (by first | assumption | exact g_up_self _ _ _ | (refine g_upf ?_ ?_ <;> assumption) | (refine g_upt ?_ ?_ (by decide) <;> assumption)) in_J4 q210 tyJ4_ok nmJ4 rfl (by decide) rfl (by rfl) (by rfl) (Nat.le_of_ble_eq_true rfl) dJ3_ensureCapacityInternal_35 ?_
      exact g_vret dJ3_ensureCapacityInternal_38 rfl ⟨rfl, ⟨r_32, 2 * N + 2, G_32, ⟨g_up_self _ _ _, g_up_of (g_up_self _ _ _) (fun z => g_fne e_32 a1 z.symm), by omega, by omega, a5, v_32, fun i c z => (w_32 i (by have := (List.getElem?_eq_some_iff.mp z).1; omega) (by have := (List.getElem?_eq_some_iff.mp z).1; omega)).trans (a7 i c z)⟩, by omega, (Fr.new e_32).put2 b1 (Or.inl rfl) rfl⟩⟩
theorem cpN_lo {F G : Nat → Nat} {sp dp n j : Nat} (h : j < dp) : cpN F G sp dp n j = G j := if_neg (by omega)
theorem cpN_hi {F G : Nat → Nat} {dp n k : Nat} (h : k < n) : cpN F G 0 dp n (dp + k) = F k := by
  show (if dp ≤ dp + k ∧ dp + k < dp + n then F (0 + (dp + k - dp)) else G (dp + k)) = F k
  rw [if_pos (by omega)]
  congr 1
  omega
theorem STq.fr {E : GE} {t : Nat} {h h' : AH} {s : Nat} {L : List Nat} {arr : Nat} {F : Nat → Nat} {P : Nat → Prop} (hx : STn E t h s L arr F ∨ STo E s L arr F) (hf : Fr P h h') (h1 : ¬ P t) (h2 : ¬ P (t + 1)) : STn E t h' s L arr F ∨ STo E s L arr F := hx.imp (fun y => ⟨hf _ _ _ y.1 h1, hf _ _ _ y.2 h2⟩) id
theorem STq.rv {E : GE} {t : Nat} {h : AH} {s : Nat} {L : List Nat} {arr : Nat} {F : Nat → Nat} (hx : STn E t h s L arr F ∨ STo E s L arr F) : gRv E h s "java/lang/String" := by
  rcases hx with z | z
  · exact gRv.g z.1 rfl rfl
  · exact Or.inr z.1
theorem dgL_at {v k c : Nat} (h : (dgL v)[k]? = some c) : k < sb_dg v ∧ c = sb_dec v k := by
  have h1 : k < (dgL v).length := (List.getElem?_eq_some_iff.mp h).1
  rw [dgL_len] at h1
  refine ⟨h1, ?_⟩
  unfold dgL at h
  rw [List.getElem?_map, List.getElem?_range h1] at h
  exact (Option.some.inj h).symm
theorem sb_dg6 {v : Nat} (hv : v < 1000000) : sb_dg v ≤ 6 := by
  unfold sb_dg
  repeat' split
  all_goals omega
theorem fitZ : ∀ x, x < 2 → fits .boolean (.int (nI x)) = true := by decide +kernel
theorem or2 : ∀ a, a < 2 → ∀ b, b < 2 → a ||| b < 2 := by decide +kernel
abbrev mJ5_coder : GM := (yJ5_coder, 1, (some .byte), [], { frames := 0, cells := 0, slots := 0, locals := 0 }, 255)
theorem kJ5_coder : gCv cJ5_coder mJ5_coder 0 := ⟨q322, q323, q74, q324, ⟨by decide +kernel, by decide +kernel, by decide +kernel⟩, rfl⟩
theorem uJ5_coder : gCu cJ5_coder mJ5_coder 0 := ⟨q322, q74, q324, ⟨by decide +kernel, by decide +kernel, by decide +kernel⟩, rfl⟩
set_option maxHeartbeats 400000 in
theorem ctJ5_coder {E : GE} {h : AH} {t s : Nat} {L : List Nat} {arr : Nat} {F : Nat → Nat} (hs : STn E t h s L arr F ∨ STo E s L arr F) : Ct E cJ5_coder mJ5_coder [.ref s] (h) (pN fun r h' => r = (0) ∧ h' = h) (noX) := by
  refine g_enter (own := "java/lang/String") [some (.ref s)] (by decide +kernel) rfl rfl (Nat.le_of_ble_eq_true rfl) rfl rfl (fun X => ?_)
  refine V.hE (fun hE => ?_)
  rcases hs with ⟨b1, b2⟩ | ⟨b0, b1, b2, b3⟩
  · skip
    refine g_gets (ref := "java/lang/String") hE.cS q325 dJ5_coder_0 ?_
    first | refine g_ifN_eq (tgt := 13) dJ5_coder_3 (by decide) (by omega) (fun c_3 => ?_) (fun c_3 => ?_) | refine g_if_eq (tgt := 13) dJ5_coder_3 (by decide) (fun c_3 => ?_) (fun c_3 => ?_)
    · omega
    · first | refine g_aload0 dJ5_coder_6 ?_ | refine g_aloadQ0 dJ5_coder_6 ?_ | refine g_aloadN0 dJ5_coder_6 ?_
      refine g_get (k0 := 1) (by first | assumption | exact g_up_self _ _ _ | (refine g_upf ?_ ?_ <;> assumption) | (refine g_upt ?_ ?_ (by decide) <;> assumption)) in_J5 q517 rfl (by decide) rfl dJ5_coder_7 ?_
      refine g_goto (tgt := 14) dJ5_coder_10 (by decide) ?_
      exact g_zret dJ5_coder_14 rfl narB0 ⟨_, rfl, rfl, rfl⟩
  · skip
    refine g_gets (ref := "java/lang/String") hE.cS q325 dJ5_coder_0 ?_
    first | refine g_ifN_eq (tgt := 13) dJ5_coder_3 (by decide) (by omega) (fun c_3 => ?_) (fun c_3 => ?_) | refine g_if_eq (tgt := 13) dJ5_coder_3 (by decide) (fun c_3 => ?_) (fun c_3 => ?_)
    · omega
    · first | refine g_aload0 dJ5_coder_6 ?_ | refine g_aloadQ0 dJ5_coder_6 ?_ | refine g_aloadN0 dJ5_coder_6 ?_
      refine g_getO (o := "java/lang/String") b2 q517 (fun _ z => z) dJ5_coder_7 rfl ?_
      refine g_goto (tgt := 14) dJ5_coder_10 (by decide) ?_
      exact g_zret dJ5_coder_14 rfl narB0 ⟨_, rfl, rfl, rfl⟩
abbrev mJ5_length : GM := (yJ5_length, 1, (some .int), [], { frames := 1, cells := 0, slots := 0, locals := 20 }, 255)
theorem kJ5_length : gCv cJ5_length mJ5_length 0 := ⟨q318, q319, q74, q320, ⟨by decide +kernel, by decide +kernel, by decide +kernel⟩, rfl⟩
theorem uJ5_length : gCu cJ5_length mJ5_length 0 := ⟨q318, q74, q320, ⟨by decide +kernel, by decide +kernel, by decide +kernel⟩, rfl⟩
set_option maxHeartbeats 400000 in
theorem ctJ5_length {E : GE} {h : AH} {t s : Nat} {L : List Nat} {arr : Nat} {F : Nat → Nat} (hs : STn E t h s L arr F ∨ STo E s L arr F) (hL : L.length ≤ 142) : Ct E cJ5_length mJ5_length [.ref s] (h) (pN fun r h' => r = (L.length) ∧ h' = h) (noX) := by
  refine g_enter (own := "java/lang/String") [some (.ref s)] (by decide +kernel) rfl rfl (Nat.le_of_ble_eq_true rfl) rfl rfl (fun X => ?_)
  have hs2 := hs
  rcases hs2 with ⟨b1, b2⟩ | ⟨b0, b1, b2, b3⟩
  · skip
    first | refine g_aload0 dJ5_length_0 ?_ | refine g_aloadQ0 dJ5_length_0 ?_ | refine g_aloadN0 dJ5_length_0 ?_
    refine g_get (k0 := 0) (by first | assumption | exact g_up_self _ _ _ | (refine g_upf ?_ ?_ <;> assumption) | (refine g_upt ?_ ?_ (by decide) <;> assumption)) in_J5 q516 rfl (by decide) rfl dJ5_length_1 ?_
    refine g_alen (by first | assumption | exact g_up_self _ _ _ | (refine g_upf ?_ ?_ <;> assumption) | (refine g_upt ?_ ?_ (by decide) <;> assumption)) (by first | exact Or.inl ⟨_, rfl⟩ | exact Or.inr (Or.inr (Or.inl ⟨_, rfl⟩)) | exact Or.inr (Or.inr (Or.inr (Or.inl ⟨_, rfl⟩))) | exact Or.inr (Or.inr (Or.inr (Or.inr (Or.inr ⟨_, _, by decide, by decide, rfl⟩))))) rfl dJ5_length_4 ?_
    rw [show Int32.ofNat L.length = nI L.length from rfl]
    first | refine g_aload0 dJ5_length_5 ?_ | refine g_aloadQ0 dJ5_length_5 ?_ | refine g_aloadN0 dJ5_length_5 ?_
    refine g_callVR (ctJ5_coder hs) kJ5_coder q321 (STq.rv hs) (by decide) ⟨Nat.le_of_ble_eq_true rfl, Nat.le_of_ble_eq_true rfl⟩ rfl (Nat.le_of_ble_eq_true rfl) dJ5_length_6 k_x (k_n (fun r_6 h_6 p_6 => ?_))
    obtain ⟨rfl, z_6⟩ := p_6
    rw [z_6]
    refine g_ishrN dJ5_length_9 (by omega) (by omega) ?_
    exact g_iret dJ5_length_10 rfl ⟨_, rfl, by omega, rfl⟩
  · skip
    first | refine g_aload0 dJ5_length_0 ?_ | refine g_aloadQ0 dJ5_length_0 ?_ | refine g_aloadN0 dJ5_length_0 ?_
    refine g_getO (o := "java/lang/String") b1 q516 (fun _ z => z) dJ5_length_1 rfl ?_
    refine g_tlen b3 rfl dJ5_length_4 ?_
    rw [show Int32.ofNat L.length = nI L.length from rfl]
    first | refine g_aload0 dJ5_length_5 ?_ | refine g_aloadQ0 dJ5_length_5 ?_ | refine g_aloadN0 dJ5_length_5 ?_
    refine g_callVR (ctJ5_coder hs) kJ5_coder q321 (STq.rv hs) (by decide) ⟨Nat.le_of_ble_eq_true rfl, Nat.le_of_ble_eq_true rfl⟩ rfl (Nat.le_of_ble_eq_true rfl) dJ5_length_6 k_x (k_n (fun r_6 h_6 p_6 => ?_))
    obtain ⟨rfl, z_6⟩ := p_6
    rw [z_6]
    refine g_ishrN dJ5_length_9 (by omega) (by omega) ?_
    exact g_iret dJ5_length_10 rfl ⟨_, rfl, by omega, rfl⟩
theorem ctJ5_lengthS {E : GE} {h : AH} {t s : Nat} {L : List Nat} (hs : ST E t h s L) : Ct E cJ5_length mJ5_length [.ref s] h (pN fun r h' => r = L.length ∧ h' = h) noX := by
  obtain ⟨arr, F, z, a, -⟩ := hs
  exact ctJ5_length z a
abbrev mJ5_getBytes : GM := (yJ5_getBytes, 4, none, [], { frames := 2, cells := 0, slots := 0, locals := 60 }, 255)
theorem kJ5_getBytes : gCv cJ5_getBytes mJ5_getBytes 3 := ⟨q355, q356, q74, q357, ⟨by decide +kernel, by decide +kernel, by decide +kernel⟩, rfl⟩
theorem uJ5_getBytes : gCu cJ5_getBytes mJ5_getBytes 3 := ⟨q355, q74, q357, ⟨by decide +kernel, by decide +kernel, by decide +kernel⟩, rfl⟩
set_option maxHeartbeats 400000 in
theorem ctJ5_getBytes {E : GE} {h : AH} {t s : Nat} {L : List Nat} {arr : Nat} {F : Nat → Nat} {a ta N i : Nat} {G : Nat → Nat} (hs : STn E t h s L arr F ∨ STo E s L arr F) (hF : ∀ j, F j < 128) (hL : L.length ≤ 142) (ha : h a = some (ta, gABn E N G)) (hN : i + L.length ≤ N) (hN2 : N ≤ 142) : Ct E cJ5_getBytes mJ5_getBytes [.ref s, .ref a, .int (nI i), .int (nI 0)] (h) (pV fun h' => h' = g_up h a (ta, gABn E N (cpN F G 0 i L.length))) (noX) := by
  refine g_enter (own := "java/lang/String") [some (.ref s), some (.ref a), some (.int (nI i)), some (.int (nI 0))] (by decide +kernel) rfl rfl (Nat.le_of_ble_eq_true rfl) rfl rfl (fun X => ?_)
  have hs2 := hs
  rcases hs2 with ⟨b1, b2⟩ | ⟨b0, b1, b2, b3⟩
  · skip
    first | refine g_aload0 dJ5_getBytes_0 ?_ | refine g_aloadQ0 dJ5_getBytes_0 ?_ | refine g_aloadN0 dJ5_getBytes_0 ?_
    refine g_callVR (ctJ5_coder hs) kJ5_coder q321 (STq.rv hs) (by decide) ⟨Nat.le_of_ble_eq_true rfl, Nat.le_of_ble_eq_true rfl⟩ rfl (Nat.le_of_ble_eq_true rfl) dJ5_getBytes_1 k_x (k_n (fun r_1 h_1 p_1 => ?_))
    obtain ⟨rfl, z_1⟩ := p_1
    rw [z_1]
    refine g_iload3 dJ5_getBytes_4 ?_
    first | refine g_icmpN_ne (tgt := 28) dJ5_getBytes_5 (by decide) (by omega) (by omega) (fun c_5 => ?_) (fun c_5 => ?_) | refine g_icmpU_ne (tgt := 28) dJ5_getBytes_5 (by decide) (by omega) (by omega) (fun c_5 => ?_) (fun c_5 => ?_) | refine g_icmp_ne (tgt := 28) dJ5_getBytes_5 (by decide) (fun c_5 => ?_) (fun c_5 => ?_)
    · omega
    · first | refine g_aload0 dJ5_getBytes_8 ?_ | refine g_aloadQ0 dJ5_getBytes_8 ?_ | refine g_aloadN0 dJ5_getBytes_8 ?_
      refine g_get (k0 := 0) (by first | assumption | exact g_up_self _ _ _ | (refine g_upf ?_ ?_ <;> assumption) | (refine g_upt ?_ ?_ (by decide) <;> assumption)) in_J5 q516 rfl (by decide) rfl dJ5_getBytes_9 ?_
      refine g_iconst (nI 0) dJ5_getBytes_12 (by decide) ?_
      first | refine g_aload1 dJ5_getBytes_13 ?_ | refine g_aloadQ1 dJ5_getBytes_13 ?_ | refine g_aloadN1 dJ5_getBytes_13 ?_
      refine g_iload2 dJ5_getBytes_14 ?_
      refine g_iload3 dJ5_getBytes_15 ?_
      refine g_ishlN dJ5_getBytes_16 (by omega) (by omega) ?_
      first | refine g_aload0 dJ5_getBytes_17 ?_ | refine g_aloadQ0 dJ5_getBytes_17 ?_ | refine g_aloadN0 dJ5_getBytes_17 ?_
      refine g_get (k0 := 0) (by first | assumption | exact g_up_self _ _ _ | (refine g_upf ?_ ?_ <;> assumption) | (refine g_upt ?_ ?_ (by decide) <;> assumption)) in_J5 q516 rfl (by decide) rfl dJ5_getBytes_18 ?_
      refine g_alen (by first | assumption | exact g_up_self _ _ _ | (refine g_upf ?_ ?_ <;> assumption) | (refine g_upt ?_ ?_ (by decide) <;> assumption)) (by first | exact Or.inl ⟨_, rfl⟩ | exact Or.inr (Or.inr (Or.inl ⟨_, rfl⟩)) | exact Or.inr (Or.inr (Or.inr (Or.inl ⟨_, rfl⟩))) | exact Or.inr (Or.inr (Or.inr (Or.inr (Or.inr ⟨_, _, by decide, by decide, rfl⟩))))) rfl dJ5_getBytes_21 ?_
      rw [show Int32.ofNat L.length = nI L.length from rfl, show i * 2 ^ 0 = i by omega]
      refine g_copyI (j := 3) (ty := .byte) (F := F) (G := G) (sp := 0) (dp := i) (m := L.length) ⟨q358, q285, q284, q83⟩ b2 ha rfl rfl (fun k hk => fit_b _ (hF _)) (by omega) (by omega) ⟨by omega, by omega⟩ (Nat.le_of_ble_eq_true rfl) (Nat.le_of_ble_eq_true rfl) dJ5_getBytes_22 ?_
      refine g_goto (tgt := 43) dJ5_getBytes_25 (by decide) ?_
      exact g_vret dJ5_getBytes_43 rfl ⟨rfl, rfl⟩
  · skip
    first | refine g_aload0 dJ5_getBytes_0 ?_ | refine g_aloadQ0 dJ5_getBytes_0 ?_ | refine g_aloadN0 dJ5_getBytes_0 ?_
    refine g_callVR (ctJ5_coder hs) kJ5_coder q321 (STq.rv hs) (by decide) ⟨Nat.le_of_ble_eq_true rfl, Nat.le_of_ble_eq_true rfl⟩ rfl (Nat.le_of_ble_eq_true rfl) dJ5_getBytes_1 k_x (k_n (fun r_1 h_1 p_1 => ?_))
    obtain ⟨rfl, z_1⟩ := p_1
    rw [z_1]
    refine g_iload3 dJ5_getBytes_4 ?_
    first | refine g_icmpN_ne (tgt := 28) dJ5_getBytes_5 (by decide) (by omega) (by omega) (fun c_5 => ?_) (fun c_5 => ?_) | refine g_icmpU_ne (tgt := 28) dJ5_getBytes_5 (by decide) (by omega) (by omega) (fun c_5 => ?_) (fun c_5 => ?_) | refine g_icmp_ne (tgt := 28) dJ5_getBytes_5 (by decide) (fun c_5 => ?_) (fun c_5 => ?_)
    · omega
    · first | refine g_aload0 dJ5_getBytes_8 ?_ | refine g_aloadQ0 dJ5_getBytes_8 ?_ | refine g_aloadN0 dJ5_getBytes_8 ?_
      refine g_getO (o := "java/lang/String") b1 q516 (fun _ z => z) dJ5_getBytes_9 rfl ?_
      refine g_iconst (nI 0) dJ5_getBytes_12 (by decide) ?_
      first | refine g_aload1 dJ5_getBytes_13 ?_ | refine g_aloadQ1 dJ5_getBytes_13 ?_ | refine g_aloadN1 dJ5_getBytes_13 ?_
      refine g_iload2 dJ5_getBytes_14 ?_
      refine g_iload3 dJ5_getBytes_15 ?_
      refine g_ishlN dJ5_getBytes_16 (by omega) (by omega) ?_
      first | refine g_aload0 dJ5_getBytes_17 ?_ | refine g_aloadQ0 dJ5_getBytes_17 ?_ | refine g_aloadN0 dJ5_getBytes_17 ?_
      refine g_getO (o := "java/lang/String") b1 q516 (fun _ z => z) dJ5_getBytes_18 rfl ?_
      refine g_tlen b3 rfl dJ5_getBytes_21 ?_
      rw [show Int32.ofNat L.length = nI L.length from rfl, show i * 2 ^ 0 = i by omega]
      refine g_copyT (F := F) (G := G) (sp := 0) (dp := i) (m := L.length) ⟨q358, q285, q284, q83⟩ b3 ha (fun k hk => fit_b _ (hF _)) (by omega) (by omega) ⟨by omega, by omega⟩ (Nat.le_of_ble_eq_true rfl) (Nat.le_of_ble_eq_true rfl) dJ5_getBytes_22 ?_
      refine g_goto (tgt := 43) dJ5_getBytes_25 (by decide) ?_
      exact g_vret dJ5_getBytes_43 rfl ⟨rfl, rfl⟩
abbrev mJ3_inflateIfNeededFor : GM := (yJ3_inflateIfNeededFor, 2, none, [], { frames := 1, cells := 0, slots := 0, locals := 20 }, 255)
theorem uJ3_inflateIfNeededFor : gCu cJ3_inflateIfNeededFor mJ3_inflateIfNeededFor 1 := ⟨q332, q72, q333, ⟨by decide +kernel, by decide +kernel, by decide +kernel⟩, rfl⟩
set_option maxHeartbeats 400000 in
theorem ctJ3_inflateIfNeededFor {E : GE} {h : AH} {t q : Nat} {L : List Nat} {arr N ml : Nat} {F : Nat → Nat} {u s : Nat} {K : List Nat} {arK : Nat} {FK : Nat → Nat} (hx : SX E t h q L arr N ml F) (hs : STn E u h s K arK FK ∨ STo E s K arK FK) : Ct E cJ3_inflateIfNeededFor mJ3_inflateIfNeededFor [.ref q, .ref s] (h) (pV fun h' => h' = h) (noX) := by
  refine g_enter (own := "java/lang/AbstractStringBuilder") [some (.ref q), some (.ref s)] (by decide +kernel) rfl rfl (Nat.le_of_ble_eq_true rfl) rfl rfl (fun X => ?_)
  obtain ⟨a1, a2, a3, a4, a5, a6, a7⟩ := id hx
  refine V.hE (fun hE => ?_)
  refine g_gets (ref := "java/lang/String") hE.cS q201 dJ3_inflateIfNeededFor_0 ?_
  first | refine g_ifN_eq (tgt := 21) dJ3_inflateIfNeededFor_3 (by decide) (by omega) (fun c_3 => ?_) (fun c_3 => ?_) | refine g_if_eq (tgt := 21) dJ3_inflateIfNeededFor_3 (by decide) (fun c_3 => ?_) (fun c_3 => ?_)
  · omega
  · first | refine g_aload0 dJ3_inflateIfNeededFor_6 ?_ | refine g_aloadQ0 dJ3_inflateIfNeededFor_6 ?_ | refine g_aloadN0 dJ3_inflateIfNeededFor_6 ?_
    refine g_get (k0 := 1) (by first | assumption | exact g_up_self _ _ _ | (refine g_upf ?_ ?_ <;> assumption) | (refine g_upt ?_ ?_ (by decide) <;> assumption)) in_J4 q211 rfl (by decide) rfl dJ3_inflateIfNeededFor_7 ?_
    first | refine g_aload1 dJ3_inflateIfNeededFor_10 ?_ | refine g_aloadQ1 dJ3_inflateIfNeededFor_10 ?_ | refine g_aloadN1 dJ3_inflateIfNeededFor_10 ?_
    refine g_callVR (ctJ5_coder hs) kJ5_coder q334 (STq.rv hs) (by decide) ⟨Nat.le_of_ble_eq_true rfl, Nat.le_of_ble_eq_true rfl⟩ rfl (Nat.le_of_ble_eq_true rfl) dJ3_inflateIfNeededFor_11 k_x (k_n (fun r_11 h_11 p_11 => ?_))
    obtain ⟨rfl, z_11⟩ := p_11
    rw [z_11]
    first | refine g_icmpN_eq (tgt := 21) dJ3_inflateIfNeededFor_14 (by decide) (by omega) (by omega) (fun c_14 => ?_) (fun c_14 => ?_) | refine g_icmpU_eq (tgt := 21) dJ3_inflateIfNeededFor_14 (by decide) (by omega) (by omega) (fun c_14 => ?_) (fun c_14 => ?_) | refine g_icmp_eq (tgt := 21) dJ3_inflateIfNeededFor_14 (by decide) (fun c_14 => ?_) (fun c_14 => ?_)
    · exact g_vret dJ3_inflateIfNeededFor_21 rfl ⟨rfl, rfl⟩
    · omega
abbrev mJ3_putStringAt : GM := (yJ3_putStringAt, 3, none, [], { frames := 3, cells := 0, slots := 0, locals := 83 }, 255)
theorem uJ3_putStringAt : gCu cJ3_putStringAt mJ3_putStringAt 2 := ⟨q328, q72, q329, ⟨by decide +kernel, by decide +kernel, by decide +kernel⟩, rfl⟩
set_option maxHeartbeats 400000 in
theorem ctJ3_putStringAt {E : GE} {h : AH} {t q : Nat} {L : List Nat} {arr N ml : Nat} {F : Nat → Nat} {u s : Nat} {K : List Nat} {arK : Nat} {FK : Nat → Nat} {i : Nat} (hx : SX E t h q L arr N ml F) (hs : STn E u h s K arK FK ∨ STo E s K arK FK) (hFK : ∀ j, FK j < 128) (hK : K.length ≤ 142) (hN : i + K.length ≤ N) : Ct E cJ3_putStringAt mJ3_putStringAt [.ref q, .int (nI i), .ref s] (h) (pV fun h' => h' = g_up h arr (t + 1, gABn E N (cpN FK F 0 i K.length))) (noX) := by
  refine g_enter (own := "java/lang/AbstractStringBuilder") [some (.ref q), some (.int (nI i)), some (.ref s)] (by decide +kernel) rfl rfl (Nat.le_of_ble_eq_true rfl) rfl rfl (fun X => ?_)
  obtain ⟨a1, a2, a3, a4, a5, a6, a7⟩ := id hx
  first | refine g_aload0 dJ3_putStringAt_0 ?_ | refine g_aloadQ0 dJ3_putStringAt_0 ?_ | refine g_aloadN0 dJ3_putStringAt_0 ?_
  first | refine g_aload2 dJ3_putStringAt_1 ?_ | refine g_aloadQ2 dJ3_putStringAt_1 ?_ | refine g_aloadN2 dJ3_putStringAt_1 ?_
  refine g_callVP (ctJ3_inflateIfNeededFor hx hs) uJ3_inflateIfNeededFor q330 q331 q2540 hx.rv (by decide) ⟨Nat.le_of_ble_eq_true rfl, Nat.le_of_ble_eq_true rfl⟩ rfl (Nat.le_of_ble_eq_true rfl) dJ3_putStringAt_2 k_x (k_v (fun h_2 p_2 => ?_))
  rw [p_2]
  first | refine g_aload2 dJ3_putStringAt_5 ?_ | refine g_aloadQ2 dJ3_putStringAt_5 ?_ | refine g_aloadN2 dJ3_putStringAt_5 ?_
  first | refine g_aload0 dJ3_putStringAt_6 ?_ | refine g_aloadQ0 dJ3_putStringAt_6 ?_ | refine g_aloadN0 dJ3_putStringAt_6 ?_
  refine g_get (k0 := 0) (by first | assumption | exact g_up_self _ _ _ | (refine g_upf ?_ ?_ <;> assumption) | (refine g_upt ?_ ?_ (by decide) <;> assumption)) in_J4 q210 rfl (by decide) rfl dJ3_putStringAt_7 ?_
  refine g_iload1 dJ3_putStringAt_10 ?_
  first | refine g_aload0 dJ3_putStringAt_11 ?_ | refine g_aloadQ0 dJ3_putStringAt_11 ?_ | refine g_aloadN0 dJ3_putStringAt_11 ?_
  refine g_get (k0 := 1) (by first | assumption | exact g_up_self _ _ _ | (refine g_upf ?_ ?_ <;> assumption) | (refine g_upt ?_ ?_ (by decide) <;> assumption)) in_J4 q211 rfl (by decide) rfl dJ3_putStringAt_12 ?_
  refine g_callVR (ctJ5_getBytes hs hFK hK a2 (by omega) (by omega)) kJ5_getBytes q354 (STq.rv hs) (by decide) ⟨Nat.le_of_ble_eq_true rfl, Nat.le_of_ble_eq_true rfl⟩ rfl (Nat.le_of_ble_eq_true rfl) dJ3_putStringAt_15 k_x (k_v (fun h_15 p_15 => ?_))
  rw [p_15]
  exact g_vret dJ3_putStringAt_18 rfl ⟨rfl, rfl⟩
abbrev mJ3_append : GM := (yJ3_append, 3, (some (.object "java/lang/AbstractStringBuilder")), [], { frames := 4, cells := 1, slots := 142, locals := 105 }, 255)
theorem uJ3_append : gCu cJ3_append mJ3_append 1 := ⟨q245, q72, q246, ⟨by decide +kernel, by decide +kernel, by decide +kernel⟩, rfl⟩
set_option maxHeartbeats 400000 in
theorem ctJ3_append {E : GE} {h : AH} {t q : Nat} {L : List Nat} {arr N ml : Nat} {F : Nat → Nat} {u s : Nat} {K : List Nat} {arK : Nat} {FK : Nat → Nat} (hx : SX E t h q L arr N ml F) (hs : STn E u h s K arK FK ∨ STo E s K arK FK) (hFK : ∀ j, FK j < 128) (hKc : ∀ (i c : Nat), K[i]? = some c → FK i = c) (hK : K.length ≤ 142) (hu : u ≠ t ∧ u ≠ t + 1 ∧ u + 1 ≠ t) (hl : L.length + K.length ≤ 142) (hk : K.length ≤ 18) : Ct E cJ3_append mJ3_append [.ref q, .ref s] (h) (pR fun r h' => r = q ∧ SB E t h' q (L ++ K) ∧ Fr (fun u => u = t ∨ u = t + 1) h h') (noX) := by
  refine g_enter (own := "java/lang/AbstractStringBuilder") [some (.ref q), some (.ref s), none] (by decide +kernel) rfl rfl (Nat.le_of_ble_eq_true rfl) rfl rfl (fun X => ?_)
  obtain ⟨a1, a2, a3, a4, a5, a6, a7⟩ := id hx
  first | refine g_aload1 dJ3_append_0 ?_ | refine g_aloadQ1 dJ3_append_0 ?_ | refine g_aloadN1 dJ3_append_0 ?_
  refine g_ifnonnullR (tgt := 9) dJ3_append_1 (by decide) ?_
  first | refine g_aload1 dJ3_append_9 ?_ | refine g_aloadQ1 dJ3_append_9 ?_ | refine g_aloadN1 dJ3_append_9 ?_
  refine g_callVR (ctJ5_length hs (by omega)) kJ5_length q317 (STq.rv hs) (by decide) ⟨Nat.le_of_ble_eq_true rfl, Nat.le_of_ble_eq_true rfl⟩ rfl (Nat.le_of_ble_eq_true rfl) dJ3_append_10 k_x (k_n (fun r_10 h_10 p_10 => ?_))
  obtain ⟨rfl, z_10⟩ := p_10
  rw [z_10]
  refine g_istore2 dJ3_append_13 (by decide) ?_
  first | refine g_aload0 dJ3_append_14 ?_ | refine g_aloadQ0 dJ3_append_14 ?_ | refine g_aloadN0 dJ3_append_14 ?_
  first | refine g_aload0 dJ3_append_15 ?_ | refine g_aloadQ0 dJ3_append_15 ?_ | refine g_aloadN0 dJ3_append_15 ?_
  refine g_get (k0 := 3) (by first | assumption | exact g_up_self _ _ _ | (refine g_upf ?_ ?_ <;> assumption) | (refine g_upt ?_ ?_ (by decide) <;> assumption)) in_J4 q214 rfl (by decide) rfl dJ3_append_16 ?_
  refine g_iload2 dJ3_append_19 ?_
  first | refine g_iaddN dJ3_append_20 ?_ | refine g_iadd dJ3_append_20 ?_
  refine g_callVP (ctJ3_ensureCapacityInternal _ hx (by omega) (by omega)) uJ3_ensureCapacityInternal q251 q252 q2537 hx.rv (by decide) ⟨Nat.le_of_ble_eq_true rfl, Nat.le_of_ble_eq_true rfl⟩ rfl (Nat.le_of_ble_eq_true rfl) dJ3_append_21 k_x (k_v (fun h_21 p_21 => ?_))
  obtain ⟨arr2, N2, F2, hx2, hN2, f_21⟩ := p_21
  obtain ⟨c1, c2, c3, c4, c5, c6, c7⟩ := id hx2
  have hs2 := STq.fr hs f_21 (by omega) (by omega)
  first | refine g_aload0 dJ3_append_24 ?_ | refine g_aloadQ0 dJ3_append_24 ?_ | refine g_aloadN0 dJ3_append_24 ?_
  first | refine g_aload0 dJ3_append_25 ?_ | refine g_aloadQ0 dJ3_append_25 ?_ | refine g_aloadN0 dJ3_append_25 ?_
  refine g_get (k0 := 3) (by first | assumption | exact g_up_self _ _ _ | (refine g_upf ?_ ?_ <;> assumption) | (refine g_upt ?_ ?_ (by decide) <;> assumption)) in_J4 q214 rfl (by decide) rfl dJ3_append_26 ?_
  first | refine g_aload1 dJ3_append_29 ?_ | refine g_aloadQ1 dJ3_append_29 ?_ | refine g_aloadN1 dJ3_append_29 ?_
  refine g_callVP (ctJ3_putStringAt hx2 hs2 hFK hK (by omega)) uJ3_putStringAt q326 q327 q2539 hx2.rv (by decide) ⟨Nat.le_of_ble_eq_true rfl, Nat.le_of_ble_eq_true rfl⟩ rfl (Nat.le_of_ble_eq_true rfl) dJ3_append_30 k_x (k_v (fun h_30 p_30 => ?_))
  rw [p_30]
  have d1 := g_upt (x' := gABn E N2 (cpN FK F2 0 L.length K.length)) c1 c2 (by omega)
  first | refine g_aload0 dJ3_append_33 ?_ | refine g_aloadQ0 dJ3_append_33 ?_ | refine g_aloadN0 dJ3_append_33 ?_
  refine g_dup dJ3_append_34 rfl ?_
  refine g_get (k0 := 3) (by first | assumption | exact g_up_self _ _ _ | (refine g_upf ?_ ?_ <;> assumption) | (refine g_upt ?_ ?_ (by decide) <;> assumption)) in_J4 q214 rfl (by decide) rfl dJ3_append_35 ?_
  refine g_iload2 dJ3_append_38 ?_
  first | refine g_iaddN dJ3_append_39 ?_ | refine g_iadd dJ3_append_39 ?_
  refine g_put (k0 := 3) (by first | assumption | exact g_up_self _ _ _ | (refine g_upf ?_ ?_ <;> assumption) | (refine g_upt ?_ ?_ (by decide) <;> assumption)) in_J4 q214 tyJ4_ok nmJ4 rfl (by decide) rfl (by rfl) (by rfl) (Nat.le_of_ble_eq_true rfl) dJ3_append_40 ?_
  first | refine g_aload0 dJ3_append_43 ?_ | refine g_aloadQ0 dJ3_append_43 ?_ | refine g_aloadN0 dJ3_append_43 ?_
  exact g_aret dJ3_append_44 rfl (Or.inl ⟨_, rfl⟩) ⟨_, rfl, rfl, hx2.app (g_up_self _ _ _) (g_upt (g_up_self _ _ _) d1 (by omega)) hN2 (fun j hj => cpN_lo hj) (fun k c z => (cpN_hi (List.getElem?_eq_some_iff.mp z).1).trans (hKc k c z)) (cpN_lt hFK c6), (f_21.put2 c2 (Or.inr rfl) rfl).put2 d1 (Or.inl rfl) rfl⟩
abbrev mJ4_append : GM := (yJ4_append, 2, (some (.object "java/lang/StringBuilder")), [], { frames := 5, cells := 1, slots := 142, locals := 127 }, 255)
theorem kJ4_append : gCv cJ4_append mJ4_append 1 := ⟨q241, q242, q73, q243, ⟨by decide +kernel, by decide +kernel, by decide +kernel⟩, rfl⟩
theorem uJ4_append : gCu cJ4_append mJ4_append 1 := ⟨q241, q73, q243, ⟨by decide +kernel, by decide +kernel, by decide +kernel⟩, rfl⟩
set_option maxHeartbeats 400000 in
theorem ctJ4_append {E : GE} {h : AH} {t q u s : Nat} {L K : List Nat} (hx : SB E t h q L) (hs : ST E u h s K) (hu : u ≠ t ∧ u ≠ t + 1 ∧ u + 1 ≠ t) (hl : L.length + K.length ≤ 142) (hk : K.length ≤ 18) : Ct E cJ4_append mJ4_append [.ref q, .ref s] (h) (pR fun r h' => r = q ∧ SB E t h' q (L ++ K) ∧ Fr (fun u => u = t ∨ u = t + 1) h h') (noX) := by
  refine g_enter (own := "java/lang/StringBuilder") [some (.ref q), some (.ref s)] (by decide +kernel) rfl rfl (Nat.le_of_ble_eq_true rfl) rfl rfl (fun X => ?_)
  obtain ⟨arr, N, ml, F, hx⟩ := hx
  obtain ⟨arK, FK, hs, hK, hFK, hKc⟩ := hs
  obtain ⟨a1, a2, a3, a4, a5, a6, a7⟩ := id hx
  first | refine g_aload0 dJ4_append_0 ?_ | refine g_aloadQ0 dJ4_append_0 ?_ | refine g_aloadN0 dJ4_append_0 ?_
  first | refine g_aload1 dJ4_append_1 ?_ | refine g_aloadQ1 dJ4_append_1 ?_ | refine g_aloadN1 dJ4_append_1 ?_
  refine g_callSU (ctJ3_append hx hs hFK hKc hK hu hl hk) uJ3_append q244 q2535 q223 (by decide) a1 rfl (by decide) ⟨Nat.le_of_ble_eq_true rfl, Nat.le_of_ble_eq_true rfl⟩ rfl (Nat.le_of_ble_eq_true rfl) dJ4_append_2 k_x (k_r (fun r_2 h_2 p_2 => ?_))
  obtain ⟨rfl, x_2, f_2⟩ := p_2
  refine g_pop dJ4_append_5 (by first | rfl | exact cat_rf _) ?_
  first | refine g_aload0 dJ4_append_6 ?_ | refine g_aloadQ0 dJ4_append_6 ?_ | refine g_aloadN0 dJ4_append_6 ?_
  exact g_aret dJ4_append_7 rfl (Or.inl ⟨_, rfl⟩) ⟨_, rfl, rfl, x_2, f_2⟩
abbrev mJ3_append_2 : GM := (yJ3_append_2, 4, (some (.object "java/lang/AbstractStringBuilder")), [], { frames := 4, cells := 1, slots := 142, locals := 104 }, 255)
theorem uJ3_append_2 : gCu cJ3_append_2 mJ3_append_2 1 := ⟨q365, q72, q366, ⟨by decide +kernel, by decide +kernel, by decide +kernel⟩, rfl⟩
set_option maxHeartbeats 400000 in
theorem ctJ3_append_2 {E : GE} {h : AH} {t q : Nat} {L : List Nat} {arr N ml : Nat} {F : Nat → Nat} (v : Nat) (hx : SX E t h q L arr N ml F) (hv : v < 1000000) (hl : L.length + 6 ≤ 142) : Ct E cJ3_append_2 mJ3_append_2 [.ref q, .int (nI v)] (h) (pR fun r h' => r = q ∧ SB E t h' q (L ++ dgL v) ∧ Fr (fun u => u = t ∨ u = t + 1) h h') (noX) := by
  refine g_enter (own := "java/lang/AbstractStringBuilder") [some (.ref q), some (.int (nI v)), none, none] (by decide +kernel) rfl rfl (Nat.le_of_ble_eq_true rfl) rfl rfl (fun X => ?_)
  obtain ⟨a1, a2, a3, a4, a5, a6, a7⟩ := id hx
  have h6 := sb_dg6 hv
  first | refine g_aload0 dJ3_append_2_0 ?_ | refine g_aloadQ0 dJ3_append_2_0 ?_ | refine g_aloadN0 dJ3_append_2_0 ?_
  refine g_get (k0 := 3) (by first | assumption | exact g_up_self _ _ _ | (refine g_upf ?_ ?_ <;> assumption) | (refine g_upt ?_ ?_ (by decide) <;> assumption)) in_J4 q214 rfl (by decide) rfl dJ3_append_2_1 ?_
  refine g_istore2 dJ3_append_2_4 (by decide) ?_
  refine g_iload2 dJ3_append_2_5 ?_
  refine g_iload1 dJ3_append_2_6 ?_
  refine g_callS (ctJ17_stringSize _ (by omega)) kJ17_stringSize q367 (by decide) ⟨Nat.le_of_ble_eq_true rfl, Nat.le_of_ble_eq_true rfl⟩ rfl (Nat.le_of_ble_eq_true rfl) dJ3_append_2_7 k_x (k_n (fun r_7 h_7 p_7 => ?_))
  obtain ⟨rfl, z_7⟩ := p_7
  rw [z_7]
  first | refine g_iaddN dJ3_append_2_10 ?_ | refine g_iadd dJ3_append_2_10 ?_
  refine g_istore3 dJ3_append_2_11 (by decide) ?_
  first | refine g_aload0 dJ3_append_2_12 ?_ | refine g_aloadQ0 dJ3_append_2_12 ?_ | refine g_aloadN0 dJ3_append_2_12 ?_
  refine g_iload3 dJ3_append_2_13 ?_
  refine g_callVP (ctJ3_ensureCapacityInternal _ hx (by omega) (by omega)) uJ3_ensureCapacityInternal q251 q252 q2537 hx.rv (by decide) ⟨Nat.le_of_ble_eq_true rfl, Nat.le_of_ble_eq_true rfl⟩ rfl (Nat.le_of_ble_eq_true rfl) dJ3_append_2_14 k_x (k_v (fun h_14 p_14 => ?_))
  obtain ⟨arr2, N2, F2, hx2, hN2, f_14⟩ := p_14
  obtain ⟨c1, c2, c3, c4, c5, c6, c7⟩ := id hx2
  first | refine g_aload0 dJ3_append_2_17 ?_ | refine g_aloadQ0 dJ3_append_2_17 ?_ | refine g_aloadN0 dJ3_append_2_17 ?_
  refine g_callU (ctJ3_isLatin1 (by assumption)) uJ3_isLatin1 q286 q288 q289 rfl (SX.rv (by assumption)) (by decide) ⟨Nat.le_of_ble_eq_true rfl, Nat.le_of_ble_eq_true rfl⟩ rfl (Nat.le_of_ble_eq_true rfl) dJ3_append_2_18 k_x (k_n (fun r_18 h_18 p_18 => ?_))
  obtain ⟨rfl, z_18⟩ := p_18
  rw [z_18]
  first | refine g_ifN_eq (tgt := 37) dJ3_append_2_21 (by decide) (by omega) (fun c_21 => ?_) (fun c_21 => ?_) | refine g_if_eq (tgt := 37) dJ3_append_2_21 (by decide) (fun c_21 => ?_) (fun c_21 => ?_)
  · omega
  · refine g_iload1 dJ3_append_2_24 ?_
    refine g_iload3 dJ3_append_2_25 ?_
    first | refine g_aload0 dJ3_append_2_26 ?_ | refine g_aloadQ0 dJ3_append_2_26 ?_ | refine g_aloadN0 dJ3_append_2_26 ?_
    refine g_get (k0 := 0) (by first | assumption | exact g_up_self _ _ _ | (refine g_upf ?_ ?_ <;> assumption) | (refine g_upt ?_ ?_ (by decide) <;> assumption)) in_J4 q210 rfl (by decide) rfl dJ3_append_2_27 ?_
    refine g_callS (ctJ17_getChars _ L.length c2 c6 (by omega) (by omega) (by omega)) kJ17_getChars q370 (by decide) ⟨Nat.le_of_ble_eq_true rfl, Nat.le_of_ble_eq_true rfl⟩ rfl (Nat.le_of_ble_eq_true rfl) dJ3_append_2_30 k_x (k_n (fun r_30 h_30 p_30 => ?_))
    obtain ⟨rfl, G, z_30, d2, d3, d4⟩ := p_30
    rw [z_30]
    have d1 := g_upt (x' := gABn E N2 G) c1 c2 (by omega)
    refine g_pop dJ3_append_2_33 (by first | rfl | exact cat_rf _) ?_
    refine g_goto (tgt := 48) dJ3_append_2_34 (by decide) ?_
    first | refine g_aload0 dJ3_append_2_48 ?_ | refine g_aloadQ0 dJ3_append_2_48 ?_ | refine g_aloadN0 dJ3_append_2_48 ?_
    refine g_iload3 dJ3_append_2_49 ?_
    refine g_put (k0 := 3) (by first | assumption | exact g_up_self _ _ _ | (refine g_upf ?_ ?_ <;> assumption) | (refine g_upt ?_ ?_ (by decide) <;> assumption)) in_J4 q214 tyJ4_ok nmJ4 rfl (by decide) rfl (by rfl) (by rfl) (Nat.le_of_ble_eq_true rfl) dJ3_append_2_50 ?_
    first | refine g_aload0 dJ3_append_2_53 ?_ | refine g_aloadQ0 dJ3_append_2_53 ?_ | refine g_aloadN0 dJ3_append_2_53 ?_
    exact g_aret dJ3_append_2_54 rfl (Or.inl ⟨_, rfl⟩) ⟨_, rfl, rfl, hx2.app (by rw [dgL_len]; exact g_up_self _ _ _) (g_upt (g_up_self _ _ _) d1 (by omega)) (by rw [dgL_len]; exact hN2) d2 (fun k c z => (by obtain ⟨z1, rfl⟩ := dgL_at z; exact d3 k z1)) d4, (f_14.put2 c2 (Or.inr rfl) rfl).put2 d1 (Or.inl rfl) rfl⟩
abbrev mJ4_append_2 : GM := (yJ4_append_2, 2, (some (.object "java/lang/StringBuilder")), [], { frames := 5, cells := 1, slots := 142, locals := 127 }, 255)
theorem kJ4_append_2 : gCv cJ4_append_2 mJ4_append_2 1 := ⟨q361, q362, q73, q363, ⟨by decide +kernel, by decide +kernel, by decide +kernel⟩, rfl⟩
theorem uJ4_append_2 : gCu cJ4_append_2 mJ4_append_2 1 := ⟨q361, q73, q363, ⟨by decide +kernel, by decide +kernel, by decide +kernel⟩, rfl⟩
set_option maxHeartbeats 400000 in
theorem ctJ4_append_2 {E : GE} {h : AH} {t q : Nat} {L : List Nat} (v : Nat) (hx : SB E t h q L) (hv : v < 1000000) (hl : L.length + 6 ≤ 142) : Ct E cJ4_append_2 mJ4_append_2 [.ref q, .int (nI v)] (h) (pR fun r h' => r = q ∧ SB E t h' q (L ++ dgL v) ∧ Fr (fun u => u = t ∨ u = t + 1) h h') (noX) := by
  refine g_enter (own := "java/lang/StringBuilder") [some (.ref q), some (.int (nI v))] (by decide +kernel) rfl rfl (Nat.le_of_ble_eq_true rfl) rfl rfl (fun X => ?_)
  obtain ⟨arr, N, ml, F, hx⟩ := hx
  obtain ⟨a1, a2, a3, a4, a5, a6, a7⟩ := id hx
  first | refine g_aload0 dJ4_append_2_0 ?_ | refine g_aloadQ0 dJ4_append_2_0 ?_ | refine g_aloadN0 dJ4_append_2_0 ?_
  refine g_iload1 dJ4_append_2_1 ?_
  refine g_callSU (ctJ3_append_2 _ hx (by omega) (by omega)) uJ3_append_2 q364 q2542 q223 (by decide) a1 rfl (by decide) ⟨Nat.le_of_ble_eq_true rfl, Nat.le_of_ble_eq_true rfl⟩ rfl (Nat.le_of_ble_eq_true rfl) dJ4_append_2_2 k_x (k_r (fun r_2 h_2 p_2 => ?_))
  obtain ⟨rfl, x_2, f_2⟩ := p_2
  refine g_pop dJ4_append_2_5 (by first | rfl | exact cat_rf _) ?_
  first | refine g_aload0 dJ4_append_2_6 ?_ | refine g_aloadQ0 dJ4_append_2_6 ?_ | refine g_aloadN0 dJ4_append_2_6 ?_
  exact g_aret dJ4_append_2_7 rfl (Or.inl ⟨_, rfl⟩) ⟨_, rfl, rfl, x_2, f_2⟩
abbrev mJ15_canEncode : GM := (yJ15_canEncode, 1, (some .boolean), [], { frames := 0, cells := 0, slots := 0, locals := 0 }, 255)
theorem kJ15_canEncode : gCs cJ15_canEncode mJ15_canEncode 1 := ⟨q1578, q85, q1579, ⟨by decide +kernel, by decide +kernel, by decide +kernel⟩, rfl⟩
set_option maxHeartbeats 400000 in
theorem ctJ15_canEncode {E : GE} {h : AH} (c : Nat) (hc : c < 128) : Ct E cJ15_canEncode mJ15_canEncode [.int (nI c)] (h) (pN fun r h' => r = (1) ∧ h' = h) (noX) := by
  refine g_enter (own := "java/lang/StringLatin1") [some (.int (nI c))] (by decide +kernel) rfl rfl (Nat.le_of_ble_eq_true rfl) rfl rfl (fun X => ?_)
  refine g_iload0 dJ15_canEncode_0 ?_
  refine g_sipush (nI 255) dJ15_canEncode_1 (by decide) ?_
  first | refine g_icmpN_gt (tgt := 11) dJ15_canEncode_4 (by decide) (by omega) (by omega) (fun c_4 => ?_) (fun c_4 => ?_) | refine g_icmp_gt (tgt := 11) dJ15_canEncode_4 (by decide) (fun c_4 => ?_) (fun c_4 => ?_)
  · omega
  · refine g_iconst (nI 1) dJ15_canEncode_7 (by decide) ?_
    refine g_goto (tgt := 12) dJ15_canEncode_8 (by decide) ?_
    exact g_zret dJ15_canEncode_12 rfl (nar_zb (by omega)) ⟨_, rfl, rfl, rfl⟩
abbrev mJ3_append_3 : GM := (yJ3_append_3, 2, (some (.object "java/lang/AbstractStringBuilder")), [], { frames := 4, cells := 1, slots := 142, locals := 104 }, 255)
theorem uJ3_append_3 : gCu cJ3_append_3 mJ3_append_3 1 := ⟨q1575, q72, q1576, ⟨by decide +kernel, by decide +kernel, by decide +kernel⟩, rfl⟩
set_option maxHeartbeats 400000 in
theorem ctJ3_append_3 {E : GE} {h : AH} {t q : Nat} {L : List Nat} {arr N ml : Nat} {F : Nat → Nat} (c : Nat) (hx : SX E t h q L arr N ml F) (hc : c < 128) (hl : L.length + 1 ≤ 142) : Ct E cJ3_append_3 mJ3_append_3 [.ref q, .int (nI c)] (h) (pR fun r h' => r = q ∧ SB E t h' q (L ++ [c]) ∧ Fr (fun u => u = t ∨ u = t + 1) h h') (noX) := by
  refine g_enter (own := "java/lang/AbstractStringBuilder") [some (.ref q), some (.int (nI c))] (by decide +kernel) rfl rfl (Nat.le_of_ble_eq_true rfl) rfl rfl (fun X => ?_)
  obtain ⟨a1, a2, a3, a4, a5, a6, a7⟩ := id hx
  first | refine g_aload0 dJ3_append_3_0 ?_ | refine g_aloadQ0 dJ3_append_3_0 ?_ | refine g_aloadN0 dJ3_append_3_0 ?_
  first | refine g_aload0 dJ3_append_3_1 ?_ | refine g_aloadQ0 dJ3_append_3_1 ?_ | refine g_aloadN0 dJ3_append_3_1 ?_
  refine g_get (k0 := 3) (by first | assumption | exact g_up_self _ _ _ | (refine g_upf ?_ ?_ <;> assumption) | (refine g_upt ?_ ?_ (by decide) <;> assumption)) in_J4 q214 rfl (by decide) rfl dJ3_append_3_2 ?_
  refine g_iconst (nI 1) dJ3_append_3_5 (by decide) ?_
  first | refine g_iaddN dJ3_append_3_6 ?_ | refine g_iadd dJ3_append_3_6 ?_
  refine g_callVP (ctJ3_ensureCapacityInternal _ hx (by omega) (by omega)) uJ3_ensureCapacityInternal q251 q252 q2537 hx.rv (by decide) ⟨Nat.le_of_ble_eq_true rfl, Nat.le_of_ble_eq_true rfl⟩ rfl (Nat.le_of_ble_eq_true rfl) dJ3_append_3_7 k_x (k_v (fun h_7 p_7 => ?_))
  obtain ⟨arr2, N2, F2, hx2, hN2, f_7⟩ := p_7
  obtain ⟨c1, c2, c3, c4, c5, c6, c7⟩ := id hx2
  first | refine g_aload0 dJ3_append_3_10 ?_ | refine g_aloadQ0 dJ3_append_3_10 ?_ | refine g_aloadN0 dJ3_append_3_10 ?_
  refine g_callU (ctJ3_isLatin1 (by assumption)) uJ3_isLatin1 q286 q288 q289 rfl (SX.rv (by assumption)) (by decide) ⟨Nat.le_of_ble_eq_true rfl, Nat.le_of_ble_eq_true rfl⟩ rfl (Nat.le_of_ble_eq_true rfl) dJ3_append_3_11 k_x (k_n (fun r_11 h_11 p_11 => ?_))
  obtain ⟨rfl, z_11⟩ := p_11
  rw [z_11]
  first | refine g_ifN_eq (tgt := 45) dJ3_append_3_14 (by decide) (by omega) (fun c_14 => ?_) (fun c_14 => ?_) | refine g_if_eq (tgt := 45) dJ3_append_3_14 (by decide) (fun c_14 => ?_) (fun c_14 => ?_)
  · omega
  · refine g_iload1 dJ3_append_3_17 ?_
    refine g_callS (ctJ15_canEncode _ (by omega)) kJ15_canEncode q1577 (by decide) ⟨Nat.le_of_ble_eq_true rfl, Nat.le_of_ble_eq_true rfl⟩ rfl (Nat.le_of_ble_eq_true rfl) dJ3_append_3_18 k_x (k_n (fun r_18 h_18 p_18 => ?_))
    obtain ⟨rfl, z_18⟩ := p_18
    rw [z_18]
    first | refine g_ifN_eq (tgt := 45) dJ3_append_3_21 (by decide) (by omega) (fun c_21 => ?_) (fun c_21 => ?_) | refine g_if_eq (tgt := 45) dJ3_append_3_21 (by decide) (fun c_21 => ?_) (fun c_21 => ?_)
    · omega
    · first | refine g_aload0 dJ3_append_3_24 ?_ | refine g_aloadQ0 dJ3_append_3_24 ?_ | refine g_aloadN0 dJ3_append_3_24 ?_
      refine g_get (k0 := 0) (by first | assumption | exact g_up_self _ _ _ | (refine g_upf ?_ ?_ <;> assumption) | (refine g_upt ?_ ?_ (by decide) <;> assumption)) in_J4 q210 rfl (by decide) rfl dJ3_append_3_25 ?_
      first | refine g_aload0 dJ3_append_3_28 ?_ | refine g_aloadQ0 dJ3_append_3_28 ?_ | refine g_aloadN0 dJ3_append_3_28 ?_
      refine g_dup dJ3_append_3_29 rfl ?_
      refine g_get (k0 := 3) (by first | assumption | exact g_up_self _ _ _ | (refine g_upf ?_ ?_ <;> assumption) | (refine g_upt ?_ ?_ (by decide) <;> assumption)) in_J4 q214 rfl (by decide) rfl dJ3_append_3_30 ?_
      refine g_dup_x1 dJ3_append_3_33 rfl rfl ?_
      refine g_iconst (nI 1) dJ3_append_3_34 (by decide) ?_
      first | refine g_iaddN dJ3_append_3_35 ?_ | refine g_iadd dJ3_append_3_35 ?_
      refine g_put (k0 := 3) (by first | assumption | exact g_up_self _ _ _ | (refine g_upf ?_ ?_ <;> assumption) | (refine g_upt ?_ ?_ (by decide) <;> assumption)) in_J4 q214 tyJ4_ok nmJ4 rfl (by decide) rfl (by rfl) (by rfl) (Nat.le_of_ble_eq_true rfl) dJ3_append_3_36 ?_
      have d2 := g_upt (x' := gO 6 [.ref arr2, .int (nI 0), .int (nI ml), .int (nI (L.length + 1))]) c2 c1 (by omega)
      refine g_iload1 dJ3_append_3_39 ?_
      refine g_i2bN hc dJ3_append_3_40 ?_
      refine g_bastN d2 (by omega) (by omega) hc dJ3_append_3_41 ?_
      have d3 := g_upt (x' := gABn E N2 (nup F2 L.length c)) (g_up_self _ _ _ : (g_up h_7 q (t, gO 6 [.ref arr2, .int (nI 0), .int (nI ml), .int (nI (L.length + 1))])) q = _) d2 (by omega)
      refine g_goto (tgt := 75) dJ3_append_3_42 (by decide) ?_
      first | refine g_aload0 dJ3_append_3_75 ?_ | refine g_aloadQ0 dJ3_append_3_75 ?_ | refine g_aloadN0 dJ3_append_3_75 ?_
      exact g_aret dJ3_append_3_76 rfl (Or.inl ⟨_, rfl⟩) ⟨_, rfl, rfl, hx2.app d3 (g_up_self _ _ _) hN2 (fun j hj => nup_ne _ _ (by omega)) (fun k x z => (by have hk : k < [c].length := (List.getElem?_eq_some_iff.mp z).1; rw [List.length_singleton] at hk; obtain rfl : k = 0 := (by omega); have e : c = x := Option.some.inj z; rw [← e]; exact nup_self _ _ _)) (nup_lt c6 hc), (f_7.put2 c1 (Or.inl rfl) rfl).put2 d2 (Or.inr rfl) rfl⟩
abbrev mJ4_append_3 : GM := (yJ4_append_3, 2, (some (.object "java/lang/StringBuilder")), [], { frames := 5, cells := 1, slots := 142, locals := 125 }, 255)
theorem kJ4_append_3 : gCv cJ4_append_3 mJ4_append_3 1 := ⟨q1571, q1572, q73, q1573, ⟨by decide +kernel, by decide +kernel, by decide +kernel⟩, rfl⟩
theorem uJ4_append_3 : gCu cJ4_append_3 mJ4_append_3 1 := ⟨q1571, q73, q1573, ⟨by decide +kernel, by decide +kernel, by decide +kernel⟩, rfl⟩
set_option maxHeartbeats 400000 in
theorem ctJ4_append_3 {E : GE} {h : AH} {t q : Nat} {L : List Nat} (c : Nat) (hx : SB E t h q L) (hc : c < 128) (hl : L.length + 1 ≤ 142) : Ct E cJ4_append_3 mJ4_append_3 [.ref q, .int (nI c)] (h) (pR fun r h' => r = q ∧ SB E t h' q (L ++ [c]) ∧ Fr (fun u => u = t ∨ u = t + 1) h h') (noX) := by
  refine g_enter (own := "java/lang/StringBuilder") [some (.ref q), some (.int (nI c))] (by decide +kernel) rfl rfl (Nat.le_of_ble_eq_true rfl) rfl rfl (fun X => ?_)
  obtain ⟨arr, N, ml, F, hx⟩ := hx
  obtain ⟨a1, a2, a3, a4, a5, a6, a7⟩ := id hx
  first | refine g_aload0 dJ4_append_3_0 ?_ | refine g_aloadQ0 dJ4_append_3_0 ?_ | refine g_aloadN0 dJ4_append_3_0 ?_
  refine g_iload1 dJ4_append_3_1 ?_
  refine g_callSU (ctJ3_append_3 _ hx (by omega) (by omega)) uJ3_append_3 q1574 q2544 q223 (by decide) a1 rfl (by decide) ⟨Nat.le_of_ble_eq_true rfl, Nat.le_of_ble_eq_true rfl⟩ rfl (Nat.le_of_ble_eq_true rfl) dJ4_append_3_2 k_x (k_r (fun r_2 h_2 p_2 => ?_))
  obtain ⟨rfl, x_2, f_2⟩ := p_2
  refine g_pop dJ4_append_3_5 (by first | rfl | exact cat_rf _) ?_
  first | refine g_aload0 dJ4_append_3_6 ?_ | refine g_aloadQ0 dJ4_append_3_6 ?_ | refine g_aloadN0 dJ4_append_3_6 ?_
  exact g_aret dJ4_append_3_7 rfl (Or.inl ⟨_, rfl⟩) ⟨_, rfl, rfl, x_2, f_2⟩
abbrev mJ3_inflateIfNeededFor_2 : GM := (yJ3_inflateIfNeededFor_2, 2, none, [], { frames := 1, cells := 0, slots := 0, locals := 20 }, 255)
theorem uJ3_inflateIfNeededFor_2 : gCu cJ3_inflateIfNeededFor_2 mJ3_inflateIfNeededFor_2 1 := ⟨q1729, q72, q1730, ⟨by decide +kernel, by decide +kernel, by decide +kernel⟩, rfl⟩
set_option maxHeartbeats 400000 in
theorem ctJ3_inflateIfNeededFor_2 {E : GE} {h : AH} {t q : Nat} {L : List Nat} {arr N ml : Nat} {F : Nat → Nat} {u b : Nat} {K : List Nat} {arK NK mK : Nat} {FK : Nat → Nat} (hx : SX E t h q L arr N ml F) (hy : SX E u h b K arK NK mK FK) : Ct E cJ3_inflateIfNeededFor_2 mJ3_inflateIfNeededFor_2 [.ref q, .ref b] (h) (pV fun h' => h' = h) (noX) := by
  refine g_enter (own := "java/lang/AbstractStringBuilder") [some (.ref q), some (.ref b)] (by decide +kernel) rfl rfl (Nat.le_of_ble_eq_true rfl) rfl rfl (fun X => ?_)
  obtain ⟨a1, a2, a3, a4, a5, a6, a7⟩ := id hx
  refine V.hE (fun hE => ?_)
  refine g_gets (ref := "java/lang/String") hE.cS q201 dJ3_inflateIfNeededFor_2_0 ?_
  first | refine g_ifN_eq (tgt := 21) dJ3_inflateIfNeededFor_2_3 (by decide) (by omega) (fun c_3 => ?_) (fun c_3 => ?_) | refine g_if_eq (tgt := 21) dJ3_inflateIfNeededFor_2_3 (by decide) (fun c_3 => ?_) (fun c_3 => ?_)
  · omega
  · first | refine g_aload0 dJ3_inflateIfNeededFor_2_6 ?_ | refine g_aloadQ0 dJ3_inflateIfNeededFor_2_6 ?_ | refine g_aloadN0 dJ3_inflateIfNeededFor_2_6 ?_
    refine g_get (k0 := 1) (by first | assumption | exact g_up_self _ _ _ | (refine g_upf ?_ ?_ <;> assumption) | (refine g_upt ?_ ?_ (by decide) <;> assumption)) in_J4 q211 rfl (by decide) rfl dJ3_inflateIfNeededFor_2_7 ?_
    first | refine g_aload1 dJ3_inflateIfNeededFor_2_10 ?_ | refine g_aloadQ1 dJ3_inflateIfNeededFor_2_10 ?_ | refine g_aloadN1 dJ3_inflateIfNeededFor_2_10 ?_
    refine g_callU (ctJ3_getCoder hy) uJ3_getCoder q1731 q1733 q1734 rfl hy.rv (by decide) ⟨Nat.le_of_ble_eq_true rfl, Nat.le_of_ble_eq_true rfl⟩ rfl (Nat.le_of_ble_eq_true rfl) dJ3_inflateIfNeededFor_2_11 k_x (k_n (fun r_11 h_11 p_11 => ?_))
    obtain ⟨rfl, z_11⟩ := p_11
    rw [z_11]
    first | refine g_icmpN_eq (tgt := 21) dJ3_inflateIfNeededFor_2_14 (by decide) (by omega) (by omega) (fun c_14 => ?_) (fun c_14 => ?_) | refine g_icmpU_eq (tgt := 21) dJ3_inflateIfNeededFor_2_14 (by decide) (by omega) (by omega) (fun c_14 => ?_) (fun c_14 => ?_) | refine g_icmp_eq (tgt := 21) dJ3_inflateIfNeededFor_2_14 (by decide) (fun c_14 => ?_) (fun c_14 => ?_)
    · exact g_vret dJ3_inflateIfNeededFor_2_21 rfl ⟨rfl, rfl⟩
    · omega
abbrev mJ3_getBytes : GM := (yJ3_getBytes, 4, none, [], { frames := 2, cells := 0, slots := 0, locals := 60 }, 255)
theorem uJ3_getBytes : gCu cJ3_getBytes mJ3_getBytes 3 := ⟨q1737, q72, q1740, ⟨by decide +kernel, by decide +kernel, by decide +kernel⟩, rfl⟩
set_option maxHeartbeats 400000 in
theorem ctJ3_getBytes {E : GE} {h : AH} {t q : Nat} {L : List Nat} {arr N ml : Nat} {F : Nat → Nat} {a ta N2 i : Nat} {G : Nat → Nat} (hx : SX E t h q L arr N ml F) (ha : h a = some (ta, gABn E N2 G)) (hN : i + L.length ≤ N2) (hN2 : N2 ≤ 142) : Ct E cJ3_getBytes mJ3_getBytes [.ref q, .ref a, .int (nI i), .int (nI 0)] (h) (pV fun h' => h' = g_up h a (ta, gABn E N2 (cpN F G 0 i L.length))) (noX) := by
  refine g_enter (own := "java/lang/AbstractStringBuilder") [some (.ref q), some (.ref a), some (.int (nI i)), some (.int (nI 0))] (by decide +kernel) rfl rfl (Nat.le_of_ble_eq_true rfl) rfl rfl (fun X => ?_)
  obtain ⟨a1, a2, a3, a4, a5, a6, a7⟩ := id hx
  first | refine g_aload0 dJ3_getBytes_0 ?_ | refine g_aloadQ0 dJ3_getBytes_0 ?_ | refine g_aloadN0 dJ3_getBytes_0 ?_
  refine g_get (k0 := 1) (by first | assumption | exact g_up_self _ _ _ | (refine g_upf ?_ ?_ <;> assumption) | (refine g_upt ?_ ?_ (by decide) <;> assumption)) in_J4 q211 rfl (by decide) rfl dJ3_getBytes_1 ?_
  refine g_iload3 dJ3_getBytes_4 ?_
  first | refine g_icmpN_ne (tgt := 29) dJ3_getBytes_5 (by decide) (by omega) (by omega) (fun c_5 => ?_) (fun c_5 => ?_) | refine g_icmpU_ne (tgt := 29) dJ3_getBytes_5 (by decide) (by omega) (by omega) (fun c_5 => ?_) (fun c_5 => ?_) | refine g_icmp_ne (tgt := 29) dJ3_getBytes_5 (by decide) (fun c_5 => ?_) (fun c_5 => ?_)
  · omega
  · first | refine g_aload0 dJ3_getBytes_8 ?_ | refine g_aloadQ0 dJ3_getBytes_8 ?_ | refine g_aloadN0 dJ3_getBytes_8 ?_
    refine g_get (k0 := 0) (by first | assumption | exact g_up_self _ _ _ | (refine g_upf ?_ ?_ <;> assumption) | (refine g_upt ?_ ?_ (by decide) <;> assumption)) in_J4 q210 rfl (by decide) rfl dJ3_getBytes_9 ?_
    refine g_iconst (nI 0) dJ3_getBytes_12 (by decide) ?_
    first | refine g_aload1 dJ3_getBytes_13 ?_ | refine g_aloadQ1 dJ3_getBytes_13 ?_ | refine g_aloadN1 dJ3_getBytes_13 ?_
    refine g_iload2 dJ3_getBytes_14 ?_
    refine g_iload3 dJ3_getBytes_15 ?_
    refine g_ishlN dJ3_getBytes_16 (by omega) (by omega) ?_
    first | refine g_aload0 dJ3_getBytes_17 ?_ | refine g_aloadQ0 dJ3_getBytes_17 ?_ | refine g_aloadN0 dJ3_getBytes_17 ?_
    refine g_get (k0 := 3) (by first | assumption | exact g_up_self _ _ _ | (refine g_upf ?_ ?_ <;> assumption) | (refine g_upt ?_ ?_ (by decide) <;> assumption)) in_J4 q214 rfl (by decide) rfl dJ3_getBytes_18 ?_
    refine g_iload3 dJ3_getBytes_21 ?_
    refine g_ishlN dJ3_getBytes_22 (by omega) (by omega) ?_
    rw [show L.length * 2 ^ 0 = L.length by omega, show i * 2 ^ 0 = i by omega]
    refine g_copyI (j := 3) (ty := .byte) (F := F) (G := G) (sp := 0) (dp := i) (m := L.length) ⟨q1741, q285, q284, q83⟩ a2 ha rfl rfl (fun k hk => fit_b _ (a6 _)) (by omega) (by omega) ⟨by omega, by omega⟩ (Nat.le_of_ble_eq_true rfl) (Nat.le_of_ble_eq_true rfl) dJ3_getBytes_23 ?_
    refine g_goto (tgt := 43) dJ3_getBytes_26 (by decide) ?_
    exact g_vret dJ3_getBytes_43 rfl ⟨rfl, rfl⟩
abbrev mJ3_append_5 : GM := (yJ3_append_5, 3, (some (.object "java/lang/AbstractStringBuilder")), [], { frames := 4, cells := 1, slots := 142, locals := 104 }, 255)
theorem uJ3_append_5 : gCu cJ3_append_5 mJ3_append_5 1 := ⟨q1722, q72, q1725, ⟨by decide +kernel, by decide +kernel, by decide +kernel⟩, rfl⟩
set_option maxHeartbeats 400000 in
theorem ctJ3_append_5 {E : GE} {h : AH} {t q : Nat} {L : List Nat} {arr N ml : Nat} {F : Nat → Nat} {u b : Nat} {K : List Nat} {arK NK mK : Nat} {FK : Nat → Nat} (hx : SX E t h q L arr N ml F) (hy : SX E u h b K arK NK mK FK) (hu : u ≠ t ∧ u ≠ t + 1 ∧ u + 1 ≠ t) (hl : L.length + K.length ≤ 142) (hk : K.length ≤ 18) : Ct E cJ3_append_5 mJ3_append_5 [.ref q, .ref b] (h) (pR fun r h' => r = q ∧ SB E t h' q (L ++ K) ∧ Fr (fun u => u = t ∨ u = t + 1) h h') (noX) := by
  refine g_enter (own := "java/lang/AbstractStringBuilder") [some (.ref q), some (.ref b), none] (by decide +kernel) rfl rfl (Nat.le_of_ble_eq_true rfl) rfl rfl (fun X => ?_)
  obtain ⟨a1, a2, a3, a4, a5, a6, a7⟩ := id hx
  obtain ⟨y1, y2, y3, y4, y5, y6, y7⟩ := id hy
  first | refine g_aload1 dJ3_append_5_0 ?_ | refine g_aloadQ1 dJ3_append_5_0 ?_ | refine g_aloadN1 dJ3_append_5_0 ?_
  refine g_ifnonnullR (tgt := 9) dJ3_append_5_1 (by decide) ?_
  first | refine g_aload1 dJ3_append_5_9 ?_ | refine g_aloadQ1 dJ3_append_5_9 ?_ | refine g_aloadN1 dJ3_append_5_9 ?_
  refine g_callO (ctJ4_length hy) uJ4_length q1726 q405 q404 q406 q410 ⟨by decide, by decide, rfl⟩ hy.rv (by decide) ⟨Nat.le_of_ble_eq_true rfl, Nat.le_of_ble_eq_true rfl⟩ rfl (Nat.le_of_ble_eq_true rfl) dJ3_append_5_10 k_x (k_n (fun r_10 h_10 p_10 => ?_))
  obtain ⟨rfl, z_10⟩ := p_10
  rw [z_10]
  refine g_istore2 dJ3_append_5_13 (by decide) ?_
  first | refine g_aload0 dJ3_append_5_14 ?_ | refine g_aloadQ0 dJ3_append_5_14 ?_ | refine g_aloadN0 dJ3_append_5_14 ?_
  first | refine g_aload0 dJ3_append_5_15 ?_ | refine g_aloadQ0 dJ3_append_5_15 ?_ | refine g_aloadN0 dJ3_append_5_15 ?_
  refine g_get (k0 := 3) (by first | assumption | exact g_up_self _ _ _ | (refine g_upf ?_ ?_ <;> assumption) | (refine g_upt ?_ ?_ (by decide) <;> assumption)) in_J4 q214 rfl (by decide) rfl dJ3_append_5_16 ?_
  refine g_iload2 dJ3_append_5_19 ?_
  first | refine g_iaddN dJ3_append_5_20 ?_ | refine g_iadd dJ3_append_5_20 ?_
  refine g_callVP (ctJ3_ensureCapacityInternal _ hx (by omega) (by omega)) uJ3_ensureCapacityInternal q251 q252 q2537 hx.rv (by decide) ⟨Nat.le_of_ble_eq_true rfl, Nat.le_of_ble_eq_true rfl⟩ rfl (Nat.le_of_ble_eq_true rfl) dJ3_append_5_21 k_x (k_v (fun h_21 p_21 => ?_))
  obtain ⟨arr2, N2, F2, hx2, hN2, f_21⟩ := p_21
  obtain ⟨c1, c2, c3, c4, c5, c6, c7⟩ := id hx2
  have hy2 := hy.fr f_21 (by omega) (by omega)
  have y8 := hy2.1
  first | refine g_aload0 dJ3_append_5_24 ?_ | refine g_aloadQ0 dJ3_append_5_24 ?_ | refine g_aloadN0 dJ3_append_5_24 ?_
  first | refine g_aload1 dJ3_append_5_25 ?_ | refine g_aloadQ1 dJ3_append_5_25 ?_ | refine g_aloadN1 dJ3_append_5_25 ?_
  refine g_callVP (ctJ3_inflateIfNeededFor_2 hx2 hy2) uJ3_inflateIfNeededFor_2 q1727 q1728 q2549 hx2.rv (by decide) ⟨Nat.le_of_ble_eq_true rfl, Nat.le_of_ble_eq_true rfl⟩ rfl (Nat.le_of_ble_eq_true rfl) dJ3_append_5_26 k_x (k_v (fun h_26 p_26 => ?_))
  rw [p_26]
  first | refine g_aload1 dJ3_append_5_29 ?_ | refine g_aloadQ1 dJ3_append_5_29 ?_ | refine g_aloadN1 dJ3_append_5_29 ?_
  first | refine g_aload0 dJ3_append_5_30 ?_ | refine g_aloadQ0 dJ3_append_5_30 ?_ | refine g_aloadN0 dJ3_append_5_30 ?_
  refine g_get (k0 := 0) (by first | assumption | exact g_up_self _ _ _ | (refine g_upf ?_ ?_ <;> assumption) | (refine g_upt ?_ ?_ (by decide) <;> assumption)) in_J4 q210 rfl (by decide) rfl dJ3_append_5_31 ?_
  first | refine g_aload0 dJ3_append_5_34 ?_ | refine g_aloadQ0 dJ3_append_5_34 ?_ | refine g_aloadN0 dJ3_append_5_34 ?_
  refine g_get (k0 := 3) (by first | assumption | exact g_up_self _ _ _ | (refine g_upf ?_ ?_ <;> assumption) | (refine g_upt ?_ ?_ (by decide) <;> assumption)) in_J4 q214 rfl (by decide) rfl dJ3_append_5_35 ?_
  first | refine g_aload0 dJ3_append_5_38 ?_ | refine g_aloadQ0 dJ3_append_5_38 ?_ | refine g_aloadN0 dJ3_append_5_38 ?_
  refine g_get (k0 := 1) (by first | assumption | exact g_up_self _ _ _ | (refine g_upf ?_ ?_ <;> assumption) | (refine g_upt ?_ ?_ (by decide) <;> assumption)) in_J4 q211 rfl (by decide) rfl dJ3_append_5_39 ?_
  refine g_callU (ctJ3_getBytes hy2 c2 (by omega) (by omega)) uJ3_getBytes q1736 q1738 q1739 rfl hy2.rv (by decide) ⟨Nat.le_of_ble_eq_true rfl, Nat.le_of_ble_eq_true rfl⟩ rfl (Nat.le_of_ble_eq_true rfl) dJ3_append_5_42 k_x (k_v (fun h_42 p_42 => ?_))
  rw [p_42]
  have d1 := g_upt (x' := gABn E N2 (cpN FK F2 0 L.length K.length)) c1 c2 (by omega)
  first | refine g_aload0 dJ3_append_5_45 ?_ | refine g_aloadQ0 dJ3_append_5_45 ?_ | refine g_aloadN0 dJ3_append_5_45 ?_
  refine g_dup dJ3_append_5_46 rfl ?_
  refine g_get (k0 := 3) (by first | assumption | exact g_up_self _ _ _ | (refine g_upf ?_ ?_ <;> assumption) | (refine g_upt ?_ ?_ (by decide) <;> assumption)) in_J4 q214 rfl (by decide) rfl dJ3_append_5_47 ?_
  refine g_iload2 dJ3_append_5_50 ?_
  first | refine g_iaddN dJ3_append_5_51 ?_ | refine g_iadd dJ3_append_5_51 ?_
  refine g_put (k0 := 3) (by first | assumption | exact g_up_self _ _ _ | (refine g_upf ?_ ?_ <;> assumption) | (refine g_upt ?_ ?_ (by decide) <;> assumption)) in_J4 q214 tyJ4_ok nmJ4 rfl (by decide) rfl (by rfl) (by rfl) (Nat.le_of_ble_eq_true rfl) dJ3_append_5_52 ?_
  first | refine g_aload0 dJ3_append_5_55 ?_ | refine g_aloadQ0 dJ3_append_5_55 ?_ | refine g_aloadN0 dJ3_append_5_55 ?_
  refine g_dup dJ3_append_5_56 rfl ?_
  have y9 := g_upt (x' := gO 6 [.ref arr2, .int (nI 0), .int (nI ml), .int (nI (L.length + K.length))]) (g_upt (x' := gABn E N2 (cpN FK F2 0 L.length K.length)) y8 c2 (by omega)) d1 (by omega)
  refine g_get (k0 := 2) (by first | assumption | exact g_up_self _ _ _ | (refine g_upf ?_ ?_ <;> assumption) | (refine g_upt ?_ ?_ (by decide) <;> assumption)) in_J4 q212 rfl (by decide) rfl dJ3_append_5_57 ?_
  first | refine g_aload1 dJ3_append_5_60 ?_ | refine g_aloadQ1 dJ3_append_5_60 ?_ | refine g_aloadN1 dJ3_append_5_60 ?_
  refine g_get (k0 := 2) (by first | assumption | exact g_up_self _ _ _ | (refine g_upf ?_ ?_ <;> assumption) | (refine g_upt ?_ ?_ (by decide) <;> assumption)) in_J4 q212 rfl (by decide) rfl dJ3_append_5_61 ?_
  first | refine g_iorN dJ3_append_5_64 ?_ | refine g_ior dJ3_append_5_64 ?_
  refine g_put (k0 := 2) (g_up_self _ _ _) in_J4 q212 tyJ4_ok nmJ4 rfl (by decide) rfl (nar_zb (or2 _ c5 _ y5)) (fitZ _ (or2 _ c5 _ y5)) (Nat.le_of_ble_eq_true rfl) dJ3_append_5_65 ?_
  rw [g_upup]
  first | refine g_aload0 dJ3_append_5_68 ?_ | refine g_aloadQ0 dJ3_append_5_68 ?_ | refine g_aloadN0 dJ3_append_5_68 ?_
  exact g_aret dJ3_append_5_69 rfl (Or.inl ⟨_, rfl⟩) ⟨_, rfl, rfl, SX.appM hx2 (or2 _ c5 _ y5) (g_up_self _ _ _) (g_upt (g_up_self _ _ _) d1 (by omega)) hN2 (fun j hj => cpN_lo hj) (fun k c z => (cpN_hi (List.getElem?_eq_some_iff.mp z).1).trans (y7 k c z)) (cpN_lt y6 c6), (f_21.put2 c2 (Or.inr rfl) rfl).put2 d1 (Or.inl rfl) rfl⟩
abbrev mJ3_append_4 : GM := (yJ3_append_4, 2, (some (.object "java/lang/AbstractStringBuilder")), [], { frames := 5, cells := 1, slots := 142, locals := 126 }, 255)
theorem uJ3_append_4 : gCu cJ3_append_4 mJ3_append_4 1 := ⟨q1713, q72, q1714, ⟨by decide +kernel, by decide +kernel, by decide +kernel⟩, rfl⟩
set_option maxRecDepth 100000 in
theorem nc_StringBuilder_String : gLf (Cond.not (Cond.castable "java/lang/StringBuilder" "java/lang/String")) := show _ ∈ flatC _ by decide +kernel
set_option maxHeartbeats 400000 in
theorem ctJ3_append_4 {E : GE} {h : AH} {t q : Nat} {L : List Nat} {arr N ml : Nat} {F : Nat → Nat} {u b : Nat} {K : List Nat} {arK NK mK : Nat} {FK : Nat → Nat} (hx : SX E t h q L arr N ml F) (hy : SX E u h b K arK NK mK FK) (hu : u ≠ t ∧ u ≠ t + 1 ∧ u + 1 ≠ t) (hl : L.length + K.length ≤ 142) (hk : K.length ≤ 18) : Ct E cJ3_append_4 mJ3_append_4 [.ref q, .ref b] (h) (pR fun r h' => r = q ∧ SB E t h' q (L ++ K) ∧ Fr (fun u => u = t ∨ u = t + 1) h h') (noX) := by
  refine g_enter (own := "java/lang/AbstractStringBuilder") [some (.ref q), some (.ref b)] (by decide +kernel) rfl rfl (Nat.le_of_ble_eq_true rfl) rfl rfl (fun X => ?_)
  obtain ⟨a1, a2, a3, a4, a5, a6, a7⟩ := id hx
  have y1 := hy.1
  first | refine g_aload1 dJ3_append_4_0 ?_ | refine g_aloadQ1 dJ3_append_4_0 ?_ | refine g_aloadN1 dJ3_append_4_0 ?_
  refine g_ifnonnullR (tgt := 9) dJ3_append_4_1 (by decide) ?_
  first | refine g_aload1 dJ3_append_4_9 ?_ | refine g_aloadQ1 dJ3_append_4_9 ?_ | refine g_aloadN1 dJ3_append_4_9 ?_
  refine g_instNo q1715 (gRv.g y1 rfl rfl) nc_StringBuilder_String dJ3_append_4_10 ?_
  refine g_ifN_eq (tgt := 25) dJ3_append_4_13 (by decide) (by decide) (fun _ => ?_) (fun c => False.elim (by revert c; decide))
  first | refine g_aload1 dJ3_append_4_25 ?_ | refine g_aloadQ1 dJ3_append_4_25 ?_ | refine g_aloadN1 dJ3_append_4_25 ?_
  refine g_instY q1720 (gRv.g y1 rfl rfl) q2558 dJ3_append_4_26 ?_
  refine g_ifN_eq (tgt := 41) dJ3_append_4_29 (by decide) (by decide) (fun c => False.elim (by revert c; decide)) (fun _ => ?_)
  first | refine g_aload0 dJ3_append_4_32 ?_ | refine g_aloadQ0 dJ3_append_4_32 ?_ | refine g_aloadN0 dJ3_append_4_32 ?_
  first | refine g_aload1 dJ3_append_4_33 ?_ | refine g_aloadQ1 dJ3_append_4_33 ?_ | refine g_aloadN1 dJ3_append_4_33 ?_
  refine g_ck q1720 hy.rv q2558 dJ3_append_4_34 ?_
  refine g_callU (ctJ3_append_5 hx hy hu hl hk) uJ3_append_5 q1721 q1723 q1724 rfl hx.rv (by decide) ⟨Nat.le_of_ble_eq_true rfl, Nat.le_of_ble_eq_true rfl⟩ rfl (Nat.le_of_ble_eq_true rfl) dJ3_append_4_37 k_x (k_r (fun r_37 h_37 p_37 => ?_))
  obtain ⟨rfl, x_37, f_37⟩ := p_37
  exact g_aret dJ3_append_4_40 rfl (Or.inl ⟨_, rfl⟩) ⟨_, rfl, rfl, x_37, f_37⟩
abbrev mJ4_append_4 : GM := (yJ4_append_4, 2, (some (.object "java/lang/StringBuilder")), [], { frames := 6, cells := 1, slots := 142, locals := 147 }, 255)
theorem kJ4_append_4 : gCv cJ4_append_4 mJ4_append_4 1 := ⟨q1709, q1710, q73, q1711, ⟨by decide +kernel, by decide +kernel, by decide +kernel⟩, rfl⟩
theorem uJ4_append_4 : gCu cJ4_append_4 mJ4_append_4 1 := ⟨q1709, q73, q1711, ⟨by decide +kernel, by decide +kernel, by decide +kernel⟩, rfl⟩
set_option maxHeartbeats 400000 in
theorem ctJ4_append_4 {E : GE} {h : AH} {t q u b : Nat} {L K : List Nat} (hx : SB E t h q L) (hy : SB E u h b K) (hu : u ≠ t ∧ u ≠ t + 1 ∧ u + 1 ≠ t) (hl : L.length + K.length ≤ 142) (hk : K.length ≤ 18) : Ct E cJ4_append_4 mJ4_append_4 [.ref q, .ref b] (h) (pR fun r h' => r = q ∧ SB E t h' q (L ++ K) ∧ Fr (fun u => u = t ∨ u = t + 1) h h') (noX) := by
  refine g_enter (own := "java/lang/StringBuilder") [some (.ref q), some (.ref b)] (by decide +kernel) rfl rfl (Nat.le_of_ble_eq_true rfl) rfl rfl (fun X => ?_)
  obtain ⟨arr, N, ml, F, hx⟩ := hx
  obtain ⟨arK, NK, mK, FK, hy⟩ := hy
  obtain ⟨a1, a2, a3, a4, a5, a6, a7⟩ := id hx
  first | refine g_aload0 dJ4_append_4_0 ?_ | refine g_aloadQ0 dJ4_append_4_0 ?_ | refine g_aloadN0 dJ4_append_4_0 ?_
  first | refine g_aload1 dJ4_append_4_1 ?_ | refine g_aloadQ1 dJ4_append_4_1 ?_ | refine g_aloadN1 dJ4_append_4_1 ?_
  refine g_callSU (ctJ3_append_4 hx hy hu hl hk) uJ3_append_4 q1712 q2547 q223 (by decide) a1 rfl (by decide) ⟨Nat.le_of_ble_eq_true rfl, Nat.le_of_ble_eq_true rfl⟩ rfl (Nat.le_of_ble_eq_true rfl) dJ4_append_4_2 k_x (k_r (fun r_2 h_2 p_2 => ?_))
  obtain ⟨rfl, x_2, f_2⟩ := p_2
  refine g_pop dJ4_append_4_5 (by first | rfl | exact cat_rf _) ?_
  first | refine g_aload0 dJ4_append_4_6 ?_ | refine g_aloadQ0 dJ4_append_4_6 ?_ | refine g_aloadN0 dJ4_append_4_6 ?_
  exact g_aret dJ4_append_4_7 rfl (Or.inl ⟨_, rfl⟩) ⟨_, rfl, rfl, x_2, f_2⟩
theorem gE.sio {E : GE} (hE : gE E) : va_Zq "jdk/internal/util/Preconditions" "SIOOBE_FORMATTER" "Ljava/util/function/BiFunction;" (gA E) E.S0 E.S0.heap := hE.zQ (show _ ∈ flatC _ by decide +kernel) q304 (List.mem_filter.mp q84).1
abbrev mJ5_checkIndex : GM := (yJ5_checkIndex, 2, none, [], { frames := 1, cells := 0, slots := 0, locals := 22 }, 255)
theorem kJ5_checkIndex : gCs cJ5_checkIndex mJ5_checkIndex 2 := ⟨q1587, q74, q1588, ⟨by decide +kernel, by decide +kernel, by decide +kernel⟩, rfl⟩
set_option maxHeartbeats 400000 in
theorem ctJ5_checkIndex {E : GE} {h : AH} (i n : Nat) (hi : i < n) (hn : n < 2147483648) : Ct E cJ5_checkIndex mJ5_checkIndex [.int (nI i), .int (nI n)] (h) (pV fun h' => h' = h) (noX) := by
  refine g_enter (own := "java/lang/String") [some (.int (nI i)), some (.int (nI n))] (by decide +kernel) rfl rfl (Nat.le_of_ble_eq_true rfl) rfl rfl (fun X => ?_)
  refine V.hE (fun hE => ?_)
  refine g_iload0 dJ5_checkIndex_0 ?_
  refine g_iload1 dJ5_checkIndex_1 ?_
  refine g_getsq hE.sio q303 dJ5_checkIndex_2 (fun o => ?_)
  refine g_callS (ctJ14_checkIndex i n o hi hn) kJ14_checkIndex q1589 (by decide) ⟨Nat.le_of_ble_eq_true rfl, Nat.le_of_ble_eq_true rfl⟩ rfl (Nat.le_of_ble_eq_true rfl) dJ5_checkIndex_5 k_x (k_n (fun r_5 h_5 p_5 => ?_))
  obtain ⟨rfl, z_5⟩ := p_5
  rw [z_5]
  refine g_pop dJ5_checkIndex_8 (by first | rfl | exact cat_rf _) ?_
  exact g_vret dJ5_checkIndex_9 rfl ⟨rfl, rfl⟩
abbrev mJ3_charAt : GM := (yJ3_charAt, 5, (some .char), [], { frames := 2, cells := 0, slots := 0, locals := 43 }, 255)
theorem uJ3_charAt : gCu cJ3_charAt mJ3_charAt 1 := ⟨q1599, q72, q1600, ⟨by decide +kernel, by decide +kernel, by decide +kernel⟩, rfl⟩
set_option maxHeartbeats 400000 in
theorem ctJ3_charAt {E : GE} {h : AH} {t q : Nat} {L : List Nat} {arr N ml : Nat} {F : Nat → Nat} {i c : Nat} (hx : SX E t h q L arr N ml F) (hi : L[i]? = some c) : Ct E cJ3_charAt mJ3_charAt [.ref q, .int (nI i)] (h) (pN fun r h' => r = (c) ∧ h' = h) (noX) := by
  refine g_enter (own := "java/lang/AbstractStringBuilder") [some (.ref q), some (.int (nI i)), none, none, none] (by decide +kernel) rfl rfl (Nat.le_of_ble_eq_true rfl) rfl rfl (fun X => ?_)
  obtain ⟨a1, a2, a3, a4, a5, a6, a7⟩ := id hx
  have hil : i < L.length := (List.getElem?_eq_some_iff.mp hi).1
  have hc := a7 i c hi
  have hc2 := a6 i
  first | refine g_aload0 dJ3_charAt_0 ?_ | refine g_aloadQ0 dJ3_charAt_0 ?_ | refine g_aloadN0 dJ3_charAt_0 ?_
  refine g_get (k0 := 1) (by first | assumption | exact g_up_self _ _ _ | (refine g_upf ?_ ?_ <;> assumption) | (refine g_upt ?_ ?_ (by decide) <;> assumption)) in_J4 q211 rfl (by decide) rfl dJ3_charAt_1 ?_
  refine g_istore2 dJ3_charAt_4 (by decide) ?_
  first | refine g_aload0 dJ3_charAt_5 ?_ | refine g_aloadQ0 dJ3_charAt_5 ?_ | refine g_aloadN0 dJ3_charAt_5 ?_
  refine g_get (k0 := 0) (by first | assumption | exact g_up_self _ _ _ | (refine g_upf ?_ ?_ <;> assumption) | (refine g_upt ?_ ?_ (by decide) <;> assumption)) in_J4 q210 rfl (by decide) rfl dJ3_charAt_6 ?_
  first | refine g_astore3 dJ3_charAt_9 (by decide) ?_ | refine g_astoreQ3 dJ3_charAt_9 (by decide) ?_ | refine g_astoreN3 dJ3_charAt_9 (by decide) ?_
  first | refine g_aload0 dJ3_charAt_10 ?_ | refine g_aloadQ0 dJ3_charAt_10 ?_ | refine g_aloadN0 dJ3_charAt_10 ?_
  refine g_get (k0 := 3) (by first | assumption | exact g_up_self _ _ _ | (refine g_upf ?_ ?_ <;> assumption) | (refine g_upt ?_ ?_ (by decide) <;> assumption)) in_J4 q214 rfl (by decide) rfl dJ3_charAt_11 ?_
  first | refine g_aload3 dJ3_charAt_14 ?_ | refine g_aloadQ3 dJ3_charAt_14 ?_ | refine g_aloadN3 dJ3_charAt_14 ?_
  refine g_alen (by first | assumption | exact g_up_self _ _ _ | (refine g_upf ?_ ?_ <;> assumption) | (refine g_upt ?_ ?_ (by decide) <;> assumption)) (by first | exact Or.inl ⟨_, rfl⟩ | exact Or.inr (Or.inr (Or.inl ⟨_, rfl⟩)) | exact Or.inr (Or.inr (Or.inr (Or.inl ⟨_, rfl⟩))) | exact Or.inr (Or.inr (Or.inr (Or.inr (Or.inr ⟨_, _, by decide, by decide, rfl⟩))))) rfl dJ3_charAt_15 ?_
  rw [show Int32.ofNat N = nI N from rfl]
  refine g_iload2 dJ3_charAt_16 ?_
  refine g_ishrN dJ3_charAt_17 (by omega) (by omega) ?_
  refine g_callS (ctJ13_min _ _ (by omega) (by omega)) kJ13_min q1601 (by decide) ⟨Nat.le_of_ble_eq_true rfl, Nat.le_of_ble_eq_true rfl⟩ rfl (Nat.le_of_ble_eq_true rfl) dJ3_charAt_18 k_x (k_n (fun r_18 h_18 p_18 => ?_))
  obtain ⟨rfl, rfl⟩ := p_18
  refine g_istore4 dJ3_charAt_21 (by decide) ?_
  refine g_iload1 dJ3_charAt_23 ?_
  refine g_iload4 dJ3_charAt_24 ?_
  refine g_callS (ctJ5_checkIndex _ _ (by omega) (by omega)) kJ5_checkIndex q1602 (by decide) ⟨Nat.le_of_ble_eq_true rfl, Nat.le_of_ble_eq_true rfl⟩ rfl (Nat.le_of_ble_eq_true rfl) dJ3_charAt_26 k_x (k_v (fun h_26 p_26 => ?_))
  rw [p_26]
  refine g_iload2 dJ3_charAt_29 ?_
  first | refine g_ifN_ne (tgt := 42) dJ3_charAt_30 (by decide) (by omega) (fun c_30 => ?_) (fun c_30 => ?_) | refine g_if_ne (tgt := 42) dJ3_charAt_30 (by decide) (fun c_30 => ?_) (fun c_30 => ?_)
  · omega
  · first | refine g_aload3 dJ3_charAt_33 ?_ | refine g_aloadQ3 dJ3_charAt_33 ?_ | refine g_aloadN3 dJ3_charAt_33 ?_
    refine g_iload1 dJ3_charAt_34 ?_
    refine g_baldN a2 (by omega) (by omega) dJ3_charAt_35 ?_
    rw [hc]
    refine g_sipush (nI 255) dJ3_charAt_36 (by decide) ?_
    refine g_iand255 dJ3_charAt_39 (by omega) ?_
    refine g_i2cN dJ3_charAt_40 (by omega) ?_
    rw [show c % 256 = c by omega]
    exact g_zret dJ3_charAt_41 rfl (narC _ (by omega)) ⟨_, rfl, rfl, rfl⟩
abbrev mJ4_charAt : GM := (yJ4_charAt, 2, (some .char), [], { frames := 3, cells := 0, slots := 0, locals := 67 }, 255)
theorem kJ4_charAt : gCv cJ4_charAt mJ4_charAt 1 := ⟨q1595, q1596, q73, q1597, ⟨by decide +kernel, by decide +kernel, by decide +kernel⟩, rfl⟩
theorem uJ4_charAt : gCu cJ4_charAt mJ4_charAt 1 := ⟨q1595, q73, q1597, ⟨by decide +kernel, by decide +kernel, by decide +kernel⟩, rfl⟩
set_option maxHeartbeats 400000 in
theorem ctJ4_charAt {E : GE} {h : AH} {t q : Nat} {L : List Nat} {i c : Nat} (hx : SB E t h q L) (hi : L[i]? = some c) : Ct E cJ4_charAt mJ4_charAt [.ref q, .int (nI i)] (h) (pN fun r h' => r = (c) ∧ h' = h) (noX) := by
  refine g_enter (own := "java/lang/StringBuilder") [some (.ref q), some (.int (nI i))] (by decide +kernel) rfl rfl (Nat.le_of_ble_eq_true rfl) rfl rfl (fun X => ?_)
  have hc := hx.lt i c hi
  obtain ⟨arr, N, ml, F, hx⟩ := hx
  obtain ⟨a1, a2, a3, a4, a5, a6, a7⟩ := id hx
  first | refine g_aload0 dJ4_charAt_0 ?_ | refine g_aloadQ0 dJ4_charAt_0 ?_ | refine g_aloadN0 dJ4_charAt_0 ?_
  refine g_iload1 dJ4_charAt_1 ?_
  refine g_callSU (ctJ3_charAt hx hi) uJ3_charAt q1598 q2546 q223 (by decide) a1 rfl (by decide) ⟨Nat.le_of_ble_eq_true rfl, Nat.le_of_ble_eq_true rfl⟩ rfl (Nat.le_of_ble_eq_true rfl) dJ4_charAt_2 k_x (k_n (fun r_2 h_2 p_2 => ?_))
  obtain ⟨rfl, z_2⟩ := p_2
  rw [z_2]
  exact g_zret dJ4_charAt_5 rfl (narC _ hc) ⟨_, rfl, rfl, rfl⟩
abbrev mJ3_setLength : GM := (yJ3_setLength, 2, none, [], { frames := 4, cells := 1, slots := 142, locals := 104 }, 255)
theorem uJ3_setLength : gCu cJ3_setLength mJ3_setLength 1 := ⟨q230, q72, q231, ⟨by decide +kernel, by decide +kernel, by decide +kernel⟩, rfl⟩
set_option maxHeartbeats 400000 in
theorem ctJ3_setLength {E : GE} {h : AH} {t q : Nat} {L : List Nat} {arr N ml : Nat} {F : Nat → Nat} (hx : SX E t h q L arr N ml F) : Ct E cJ3_setLength mJ3_setLength [.ref q, .int (nI 0)] (h) (pV fun h' => SB E t h' q [] ∧ Fr (fun u => u = t ∨ u = t + 1) h h') (noX) := by
  refine g_enter (own := "java/lang/AbstractStringBuilder") [some (.ref q), some (.int (nI 0))] (by decide +kernel) rfl rfl (Nat.le_of_ble_eq_true rfl) rfl rfl (fun X => ?_)
  obtain ⟨a1, a2, a3, a4, a5, a6, a7⟩ := id hx
  refine g_iload1 dJ3_setLength_0 ?_
  first | refine g_ifN_ge (tgt := 13) dJ3_setLength_1 (by decide) (by omega) (fun c_1 => ?_) (fun c_1 => ?_) | refine g_if_ge (tgt := 13) dJ3_setLength_1 (by decide) (fun c_1 => ?_) (fun c_1 => ?_)
  · first | refine g_aload0 dJ3_setLength_13 ?_ | refine g_aloadQ0 dJ3_setLength_13 ?_ | refine g_aloadN0 dJ3_setLength_13 ?_
    refine g_iload1 dJ3_setLength_14 ?_
    refine g_callVP (ctJ3_ensureCapacityInternal _ hx (by omega) (by omega)) uJ3_ensureCapacityInternal q251 q252 q2537 hx.rv (by decide) ⟨Nat.le_of_ble_eq_true rfl, Nat.le_of_ble_eq_true rfl⟩ rfl (Nat.le_of_ble_eq_true rfl) dJ3_setLength_15 k_x (k_v (fun h_15 p_15 => ?_))
    obtain ⟨arr2, N2, F2, hx2, hN2, f_15⟩ := p_15
    obtain ⟨c1, c2, c3, c4, c5, c6, c7⟩ := id hx2
    first | refine g_aload0 dJ3_setLength_18 ?_ | refine g_aloadQ0 dJ3_setLength_18 ?_ | refine g_aloadN0 dJ3_setLength_18 ?_
    refine g_get (k0 := 3) (by first | assumption | exact g_up_self _ _ _ | (refine g_upf ?_ ?_ <;> assumption) | (refine g_upt ?_ ?_ (by decide) <;> assumption)) in_J4 q214 rfl (by decide) rfl dJ3_setLength_19 ?_
    refine g_iload1 dJ3_setLength_22 ?_
    first | refine g_icmpN_ge (tgt := 63) dJ3_setLength_23 (by decide) (by omega) (by omega) (fun c_23 => ?_) (fun c_23 => ?_) | refine g_icmp_ge (tgt := 63) dJ3_setLength_23 (by decide) (fun c_23 => ?_) (fun c_23 => ?_)
    · first | refine g_aload0 dJ3_setLength_63 ?_ | refine g_aloadQ0 dJ3_setLength_63 ?_ | refine g_aloadN0 dJ3_setLength_63 ?_
      refine g_get (k0 := 3) (by first | assumption | exact g_up_self _ _ _ | (refine g_upf ?_ ?_ <;> assumption) | (refine g_upt ?_ ?_ (by decide) <;> assumption)) in_J4 q214 rfl (by decide) rfl dJ3_setLength_64 ?_
      refine g_iload1 dJ3_setLength_67 ?_
      first | refine g_icmpN_le (tgt := 76) dJ3_setLength_68 (by decide) (by omega) (by omega) (fun c_68 => ?_) (fun c_68 => ?_) | refine g_icmp_le (tgt := 76) dJ3_setLength_68 (by decide) (fun c_68 => ?_) (fun c_68 => ?_)
      · first | refine g_aload0 dJ3_setLength_76 ?_ | refine g_aloadQ0 dJ3_setLength_76 ?_ | refine g_aloadN0 dJ3_setLength_76 ?_
        refine g_iload1 dJ3_setLength_77 ?_
        refine g_put (k0 := 3) (by first | assumption | exact g_up_self _ _ _ | (refine g_upf ?_ ?_ <;> assumption) | (refine g_upt ?_ ?_ (by decide) <;> assumption)) in_J4 q214 tyJ4_ok nmJ4 rfl (by decide) rfl (by rfl) (by rfl) (Nat.le_of_ble_eq_true rfl) dJ3_setLength_78 ?_
        try rw [g_upup]
        exact g_vret dJ3_setLength_81 rfl ⟨rfl, ⟨arr2, N2, _, F2, g_up_self _ _ _, g_upt c2 c1 (by omega), c3, Nat.zero_le _, by first | exact c5 | decide, c6, fun i c z => by simp at z⟩, f_15.put2 c1 (Or.inl rfl) rfl⟩
      · first | refine g_aload0 dJ3_setLength_71 ?_ | refine g_aloadQ0 dJ3_setLength_71 ?_ | refine g_aloadN0 dJ3_setLength_71 ?_
        refine g_iconst (nI 1) dJ3_setLength_72 (by decide) ?_
        refine g_put (k0 := 2) (by first | assumption | exact g_up_self _ _ _ | (refine g_upf ?_ ?_ <;> assumption) | (refine g_upt ?_ ?_ (by decide) <;> assumption)) in_J4 q212 tyJ4_ok nmJ4 rfl (by decide) rfl (by rfl) (by rfl) (Nat.le_of_ble_eq_true rfl) dJ3_setLength_73 ?_
        try rw [g_upup]
        first | refine g_aload0 dJ3_setLength_76 ?_ | refine g_aloadQ0 dJ3_setLength_76 ?_ | refine g_aloadN0 dJ3_setLength_76 ?_
        refine g_iload1 dJ3_setLength_77 ?_
        refine g_put (k0 := 3) (by first | assumption | exact g_up_self _ _ _ | (refine g_upf ?_ ?_ <;> assumption) | (refine g_upt ?_ ?_ (by decide) <;> assumption)) in_J4 q214 tyJ4_ok nmJ4 rfl (by decide) rfl (by rfl) (by rfl) (Nat.le_of_ble_eq_true rfl) dJ3_setLength_78 ?_
        try rw [g_upup]
        exact g_vret dJ3_setLength_81 rfl ⟨rfl, ⟨arr2, N2, _, F2, g_up_self _ _ _, g_upt c2 c1 (by omega), c3, Nat.zero_le _, by first | exact c5 | decide, c6, fun i c z => by simp at z⟩, f_15.put2 c1 (Or.inl rfl) rfl⟩
    · omega
  · omega
abbrev mJ4_setLength : GM := (yJ4_setLength, 2, none, [], { frames := 5, cells := 1, slots := 142, locals := 125 }, 255)
theorem kJ4_setLength : gCv cJ4_setLength mJ4_setLength 1 := ⟨q226, q227, q73, q228, ⟨by decide +kernel, by decide +kernel, by decide +kernel⟩, rfl⟩
theorem uJ4_setLength : gCu cJ4_setLength mJ4_setLength 1 := ⟨q226, q73, q228, ⟨by decide +kernel, by decide +kernel, by decide +kernel⟩, rfl⟩
set_option maxHeartbeats 400000 in
theorem ctJ4_setLength {E : GE} {h : AH} {t q : Nat} {L : List Nat} (hx : SB E t h q L) : Ct E cJ4_setLength mJ4_setLength [.ref q, .int (nI 0)] (h) (pV fun h' => SB E t h' q [] ∧ Fr (fun u => u = t ∨ u = t + 1) h h') (noX) := by
  refine g_enter (own := "java/lang/StringBuilder") [some (.ref q), some (.int (nI 0))] (by decide +kernel) rfl rfl (Nat.le_of_ble_eq_true rfl) rfl rfl (fun X => ?_)
  obtain ⟨arr, N, ml, F, hx⟩ := hx
  obtain ⟨a1, a2, a3, a4, a5, a6, a7⟩ := id hx
  first | refine g_aload0 dJ4_setLength_0 ?_ | refine g_aloadQ0 dJ4_setLength_0 ?_ | refine g_aloadN0 dJ4_setLength_0 ?_
  refine g_iload1 dJ4_setLength_1 ?_
  refine g_callSU (ctJ3_setLength hx) uJ3_setLength q229 q2534 q223 (by decide) a1 rfl (by decide) ⟨Nat.le_of_ble_eq_true rfl, Nat.le_of_ble_eq_true rfl⟩ rfl (Nat.le_of_ble_eq_true rfl) dJ4_setLength_2 k_x (k_v (fun h_2 p_2 => ?_))
  obtain ⟨x_2, f_2⟩ := p_2
  exact g_vret dJ4_setLength_5 rfl ⟨rfl, x_2, f_2⟩
abbrev mJ3_init : GM := (yJ3_init, 2, none, [], { frames := 2, cells := 1, slots := 16, locals := 40 }, 255)
theorem kJ3_init : gCi cJ3_init mJ3_init 1 := ⟨q198, q72, q199, ⟨by decide +kernel, by decide +kernel, by decide +kernel⟩, rfl, rfl, rfl⟩
set_option maxHeartbeats 400000 in
theorem ctJ3_init {E : GE} {h : AH} {q t : Nat} (ha : h q = some (t, gO 6 [.null, .int 0, .int 0, .int 0])) : Ct E cJ3_init mJ3_init [.ref q, .int (nI 16)] (h) (pV fun h' => SB E t h' q [] ∧ Fa q h h') (noX) := by
  refine g_enter (own := "java/lang/AbstractStringBuilder") [some (.ref q), some (.int (nI 16))] (by decide +kernel) rfl rfl (Nat.le_of_ble_eq_true rfl) rfl rfl (fun X => ?_)
  refine V.hE (fun hE => ?_)
  first | refine g_aload0 dJ3_init_0 ?_ | refine g_aloadQ0 dJ3_init_0 ?_ | refine g_aloadN0 dJ3_init_0 ?_
  refine g_objInit q200 q129 q130 dJ3_init_1 (Nat.le_of_ble_eq_true rfl) (Nat.le_of_ble_eq_true rfl) ?_
  refine g_gets (ref := "java/lang/String") hE.cS q201 dJ3_init_4 ?_
  first | refine g_ifN_eq (tgt := 25) dJ3_init_7 (by decide) (by omega) (fun c_7 => ?_) (fun c_7 => ?_) | refine g_if_eq (tgt := 25) dJ3_init_7 (by decide) (fun c_7 => ?_) (fun c_7 => ?_)
  · omega
  · first | refine g_aload0 dJ3_init_10 ?_ | refine g_aloadQ0 dJ3_init_10 ?_ | refine g_aloadN0 dJ3_init_10 ?_
    refine g_iload1 dJ3_init_11 ?_
    refine g_newb (t + 1) q224 (nI_pos (by omega)) (nI_clamp (by omega)) (by show _ * 1 ≤ _; omega) (Nat.le_of_ble_eq_true rfl) (Nat.le_of_ble_eq_true rfl) dJ3_init_12 (fun q_12 f_12 => ?_)
    have b1 := g_upf (z := (t + 1, gAB E 16 (fun _ => 0))) ha f_12
    refine g_put (k0 := 0) (by first | assumption | exact g_up_self _ _ _ | (refine g_upf ?_ ?_ <;> assumption) | (refine g_upt ?_ ?_ (by decide) <;> assumption)) in_J4 q210 tyJ4_ok nmJ4 rfl (by decide) rfl (by rfl) (by rfl) (Nat.le_of_ble_eq_true rfl) dJ3_init_14 ?_
    try rw [g_upup]
    first | refine g_aload0 dJ3_init_17 ?_ | refine g_aloadQ0 dJ3_init_17 ?_ | refine g_aloadN0 dJ3_init_17 ?_
    refine g_iconst (nI 0) dJ3_init_18 (by decide) ?_
    refine g_put (k0 := 1) (by first | assumption | exact g_up_self _ _ _ | (refine g_upf ?_ ?_ <;> assumption) | (refine g_upt ?_ ?_ (by decide) <;> assumption)) in_J4 q211 tyJ4_ok nmJ4 rfl (by decide) rfl (by rfl) (by rfl) (Nat.le_of_ble_eq_true rfl) dJ3_init_19 ?_
    try rw [g_upup]
    refine g_goto (tgt := 38) dJ3_init_22 (by decide) ?_
    exact g_vret dJ3_init_38 rfl ⟨rfl, ⟨q_12, 16, 0, fun _ => 0, g_up_self _ _ _, g_up_of (g_up_self _ _ _) (fun z => g_fne f_12 ha z.symm), Or.inl rfl, by decide, by decide, fun _ => Nat.zero_lt_succ _, fun i c z => by simp at z⟩, (Fa.new Fa.rf f_12).put⟩
abbrev mJ4_init : GM := (yJ4_init, 1, none, [], { frames := 3, cells := 1, slots := 16, locals := 61 }, 255)
theorem kJ4_init : gCi cJ4_init mJ4_init 0 := ⟨q195, q73, q196, ⟨by decide +kernel, by decide +kernel, by decide +kernel⟩, rfl, rfl, rfl⟩
set_option maxHeartbeats 400000 in
theorem ctJ4_init {E : GE} {h : AH} {q t : Nat} (ha : h q = some (t, gO 6 [.null, .int 0, .int 0, .int 0])) : Ct E cJ4_init mJ4_init [.ref q] (h) (pV fun h' => SB E t h' q [] ∧ Fa q h h') (noX) := by
  refine g_enter (own := "java/lang/StringBuilder") [some (.ref q)] (by decide +kernel) rfl rfl (Nat.le_of_ble_eq_true rfl) rfl rfl (fun X => ?_)
  first | refine g_aload0 dJ4_init_0 ?_ | refine g_aloadQ0 dJ4_init_0 ?_ | refine g_aloadN0 dJ4_init_0 ?_
  refine g_bipush (nI 16) dJ4_init_1 (by decide) ?_
  refine g_callI (ctJ3_init ha) kJ3_init q197 (by decide) ⟨Nat.le_of_ble_eq_true rfl, Nat.le_of_ble_eq_true rfl⟩ rfl (Nat.le_of_ble_eq_true rfl) dJ4_init_3 k_x (k_v (fun h_3 p_3 => ?_))
  obtain ⟨x_3, f_3⟩ := p_3
  exact g_vret dJ4_init_6 rfl ⟨rfl, x_3, f_3⟩
abbrev mJ5_init_2 : GM := (yJ5_init_2, 5, none, [], { frames := 3, cells := 1, slots := 142, locals := 106 }, 255)
theorem kJ5_init_2 : gCi cJ5_init_2 mJ5_init_2 2 := ⟨q395, q74, q396, ⟨by decide +kernel, by decide +kernel, by decide +kernel⟩, rfl, rfl, rfl⟩
set_option maxHeartbeats 400000 in
theorem ctJ5_init_2 {E : GE} {h : AH} {t q : Nat} {L : List Nat} {arr N ml : Nat} {F : Nat → Nat} {s u : Nat} (hx : SX E t h q L arr N ml F) (hs : h s = some (u, gO 7 [.null, .int 0, .int 0, .int 0])) (hu : u ≠ t ∧ u ≠ t + 1) : Ct E cJ5_init_2 mJ5_init_2 [.ref s, .ref q, .null] (h) (pV fun h' => STN E u h' s L ∧ Fa s h h') (noX) := by
  refine g_enter (own := "java/lang/String") [some (.ref s), some (.ref q), some (.null), none, none] (by decide +kernel) rfl rfl (Nat.le_of_ble_eq_true rfl) rfl rfl (fun X => ?_)
  obtain ⟨a1, a2, a3, a4, a5, a6, a7⟩ := id hx
  first | refine g_aload0 dJ5_init_2_0 ?_ | refine g_aloadQ0 dJ5_init_2_0 ?_ | refine g_aloadN0 dJ5_init_2_0 ?_
  refine g_objInit q397 q129 q130 dJ5_init_2_1 (Nat.le_of_ble_eq_true rfl) (Nat.le_of_ble_eq_true rfl) ?_
  first | refine g_aload1 dJ5_init_2_4 ?_ | refine g_aloadQ1 dJ5_init_2_4 ?_ | refine g_aloadN1 dJ5_init_2_4 ?_
  refine g_callU (ctJ3_getValue hx) uJ3_getValue q398 q400 q401 rfl hx.rv (by decide) ⟨Nat.le_of_ble_eq_true rfl, Nat.le_of_ble_eq_true rfl⟩ rfl (Nat.le_of_ble_eq_true rfl) dJ5_init_2_5 k_x (k_r (fun r_5 h_5 p_5 => ?_))
  obtain ⟨rfl, z_5⟩ := p_5
  rw [z_5]
  first | refine g_astore3 dJ5_init_2_8 (by decide) ?_ | refine g_astoreQ3 dJ5_init_2_8 (by decide) ?_ | refine g_astoreN3 dJ5_init_2_8 (by decide) ?_
  first | refine g_aload1 dJ5_init_2_9 ?_ | refine g_aloadQ1 dJ5_init_2_9 ?_ | refine g_aloadN1 dJ5_init_2_9 ?_
  refine g_callO (ctJ4_length hx) uJ4_length q403 q405 q404 q406 q410 ⟨by decide, by decide, rfl⟩ hx.rv (by decide) ⟨Nat.le_of_ble_eq_true rfl, Nat.le_of_ble_eq_true rfl⟩ rfl (Nat.le_of_ble_eq_true rfl) dJ5_init_2_10 k_x (k_n (fun r_10 h_10 p_10 => ?_))
  obtain ⟨rfl, z_10⟩ := p_10
  rw [z_10]
  refine g_istore4 dJ5_init_2_13 (by decide) ?_
  first | refine g_aload1 dJ5_init_2_15 ?_ | refine g_aloadQ1 dJ5_init_2_15 ?_ | refine g_aloadN1 dJ5_init_2_15 ?_
  refine g_callU (ctJ3_isLatin1 hx) uJ3_isLatin1 q411 q288 q289 rfl hx.rv (by decide) ⟨Nat.le_of_ble_eq_true rfl, Nat.le_of_ble_eq_true rfl⟩ rfl (Nat.le_of_ble_eq_true rfl) dJ5_init_2_16 k_x (k_n (fun r_16 h_16 p_16 => ?_))
  obtain ⟨rfl, z_16⟩ := p_16
  rw [z_16]
  first | refine g_ifN_eq (tgt := 41) dJ5_init_2_19 (by decide) (by omega) (fun c_19 => ?_) (fun c_19 => ?_) | refine g_if_eq (tgt := 41) dJ5_init_2_19 (by decide) (fun c_19 => ?_) (fun c_19 => ?_)
  · omega
  · first | refine g_aload0 dJ5_init_2_22 ?_ | refine g_aloadQ0 dJ5_init_2_22 ?_ | refine g_aloadN0 dJ5_init_2_22 ?_
    refine g_iconst (nI 0) dJ5_init_2_23 (by decide) ?_
    have a1b := g_upt (x' := gO 7 [.null, .int (nI 0), .int 0, .int 0]) a1 hs (by omega)
    refine g_putF (k0 := 1) (by first | assumption | exact g_up_self _ _ _ | (refine g_upf ?_ ?_ <;> assumption) | (refine g_upt ?_ ?_ (by decide) <;> assumption)) in_J5 q517 tyJ5_ok nmJ5 rfl (by decide) rfl rfl rfl (by rfl) (by rfl) (Nat.le_of_ble_eq_true rfl) dJ5_init_2_24 ?_
    try rw [g_upup]
    have a2b := g_upt (x' := gO 7 [.null, .int (nI 0), .int 0, .int 0]) a2 hs (by omega)
    first | refine g_aload0 dJ5_init_2_27 ?_ | refine g_aloadQ0 dJ5_init_2_27 ?_ | refine g_aloadN0 dJ5_init_2_27 ?_
    first | refine g_aload3 dJ5_init_2_28 ?_ | refine g_aloadQ3 dJ5_init_2_28 ?_ | refine g_aloadN3 dJ5_init_2_28 ?_
    refine g_iconst (nI 0) dJ5_init_2_29 (by decide) ?_
    refine g_iload4 dJ5_init_2_30 ?_
    refine g_callS (ctJ2_copyOfRange (u + 1) L.length a2b a6 (by omega) (by omega) a4) kJ2_copyOfRange q412 (by decide) ⟨Nat.le_of_ble_eq_true rfl, Nat.le_of_ble_eq_true rfl⟩ rfl (Nat.le_of_ble_eq_true rfl) dJ5_init_2_32 k_x (k_r (fun r_32 h_32 p_32 => ?_))
    obtain ⟨e_32, G_32, z_32, w_32, v_32⟩ := p_32
    rw [z_32]
    have s2 := g_upf (z := (u + 1, gABn E L.length G_32)) (g_up_self h s (u, gO 7 [.null, .int (nI 0), .int 0, .int 0])) e_32
    have sne : s ≠ r_32 := fun e => by rw [e] at s2; rw [← e] at e_32; rw [g_up_self] at e_32; cases e_32
    refine g_putF (k0 := 0) (by first | assumption | exact g_up_self _ _ _ | (refine g_upf ?_ ?_ <;> assumption) | (refine g_upt ?_ ?_ (by decide) <;> assumption)) in_J5 q516 tyJ5_ok nmJ5 rfl (by decide) rfl rfl rfl (by rfl) (by rfl) (Nat.le_of_ble_eq_true rfl) dJ5_init_2_35 ?_
    try rw [g_upup]
    refine g_goto (tgt := 97) dJ5_init_2_38 (by decide) ?_
    exact g_vret dJ5_init_2_97 rfl ⟨rfl, ⟨r_32, G_32, ⟨g_up_self _ _ _, g_up_of (g_up_self _ _ _) (fun z => sne z.symm)⟩, by omega, v_32, fun i c z => (by have hi := (List.getElem?_eq_some_iff.mp z).1; exact (w_32 i (by omega) hi).trans (a7 i c z))⟩, ((Fa.put Fa.rf).new e_32).put⟩
abbrev mJ5_init : GM := (yJ5_init, 2, none, [], { frames := 4, cells := 1, slots := 142, locals := 130 }, 255)
theorem kJ5_init : gCi cJ5_init mJ5_init 1 := ⟨q392, q74, q393, ⟨by decide +kernel, by decide +kernel, by decide +kernel⟩, rfl, rfl, rfl⟩
set_option maxHeartbeats 400000 in
theorem ctJ5_init {E : GE} {h : AH} {t q : Nat} {L : List Nat} {arr N ml : Nat} {F : Nat → Nat} {s u : Nat} (hx : SX E t h q L arr N ml F) (hs : h s = some (u, gO 7 [.null, .int 0, .int 0, .int 0])) (hu : u ≠ t ∧ u ≠ t + 1) : Ct E cJ5_init mJ5_init [.ref s, .ref q] (h) (pV fun h' => STN E u h' s L ∧ Fa s h h') (noX) := by
  refine g_enter (own := "java/lang/String") [some (.ref s), some (.ref q)] (by decide +kernel) rfl rfl (Nat.le_of_ble_eq_true rfl) rfl rfl (fun X => ?_)
  first | refine g_aload0 dJ5_init_0 ?_ | refine g_aloadQ0 dJ5_init_0 ?_ | refine g_aloadN0 dJ5_init_0 ?_
  first | refine g_aload1 dJ5_init_1 ?_ | refine g_aloadQ1 dJ5_init_1 ?_ | refine g_aloadN1 dJ5_init_1 ?_
  refine g_null dJ5_init_2 ?_
  refine g_callI (ctJ5_init_2 hx hs hu) kJ5_init_2 q394 (by decide) ⟨Nat.le_of_ble_eq_true rfl, Nat.le_of_ble_eq_true rfl⟩ rfl (Nat.le_of_ble_eq_true rfl) dJ5_init_3 k_x (k_v (fun h_3 p_3 => ?_))
  obtain ⟨x_3, f_3⟩ := p_3
  exact g_vret dJ5_init_6 rfl ⟨rfl, x_3, f_3⟩
abbrev mJ4_toString : GM := (yJ4_toString, 1, (some (.object "java/lang/String")), [], { frames := 5, cells := 2, slots := 146, locals := 151 }, 255)
theorem kJ4_toString : gCv cJ4_toString mJ4_toString 0 := ⟨q386, q387, q73, q388, ⟨by decide +kernel, by decide +kernel, by decide +kernel⟩, rfl⟩
theorem uJ4_toString : gCu cJ4_toString mJ4_toString 0 := ⟨q386, q73, q388, ⟨by decide +kernel, by decide +kernel, by decide +kernel⟩, rfl⟩
set_option maxHeartbeats 400000 in
theorem ctJ4_toString {E : GE} {h : AH} {t q : Nat} {L : List Nat} (u : Nat) (hx : SB E t h q L) (hu : u ≠ t ∧ u ≠ t + 1) : Ct E cJ4_toString mJ4_toString [.ref q] (h) (pR fun r h' => h r = none ∧ STN E u h' r L ∧ Fr F0r h h') (noX) := by
  refine g_enter (own := "java/lang/StringBuilder") [some (.ref q)] (by decide +kernel) rfl rfl (Nat.le_of_ble_eq_true rfl) rfl rfl (fun X => ?_)
  obtain ⟨arr, N, ml, F, hx⟩ := hx
  refine g_new 7 (u) [.null, .int 0, .int 0, .int 0] in_J5 tyJ5_ok q389 q390 q74 rfl nwJ5 (Nat.le_of_ble_eq_true rfl) (Nat.le_of_ble_eq_true rfl) dJ4_toString_0 (fun q_0 f_0 => ?_)
  have hx2 := hx.fr (Fr.new (P := F0r) (z := (u, gO 7 [.null, .int 0, .int 0, .int 0])) f_0) id id
  refine g_dup dJ4_toString_3 rfl ?_
  first | refine g_aload0 dJ4_toString_4 ?_ | refine g_aloadQ0 dJ4_toString_4 ?_ | refine g_aloadN0 dJ4_toString_4 ?_
  refine g_callI (ctJ5_init hx2 (g_up_self _ _ _) hu) kJ5_init q391 (by decide) ⟨Nat.le_of_ble_eq_true rfl, Nat.le_of_ble_eq_true rfl⟩ rfl (Nat.le_of_ble_eq_true rfl) dJ4_toString_5 k_x (k_v (fun h_5 p_5 => ?_))
  obtain ⟨x_5, f_5⟩ := p_5
  exact g_aret dJ4_toString_8 rfl (Or.inl ⟨_, rfl⟩) ⟨_, rfl, f_0, x_5, fun a t2 e2 z1 _ => f_5 _ _ (g_upf z1 f_0) (g_fne f_0 z1)⟩
abbrev mJ5_isLatin1 : GM := (yJ5_isLatin1, 1, (some .boolean), [], { frames := 0, cells := 0, slots := 0, locals := 0 }, 255)
theorem kJ5_isLatin1 : gCv cJ5_isLatin1 mJ5_isLatin1 0 := ⟨q1652, q1653, q74, q1654, ⟨by decide +kernel, by decide +kernel, by decide +kernel⟩, rfl⟩
theorem uJ5_isLatin1 : gCu cJ5_isLatin1 mJ5_isLatin1 0 := ⟨q1652, q74, q1654, ⟨by decide +kernel, by decide +kernel, by decide +kernel⟩, rfl⟩
set_option maxHeartbeats 400000 in
theorem ctJ5_isLatin1 {E : GE} {h : AH} {t s : Nat} {L : List Nat} {arr : Nat} {F : Nat → Nat} (hs : STn E t h s L arr F) : Ct E cJ5_isLatin1 mJ5_isLatin1 [.ref s] (h) (pN fun r h' => r = (1) ∧ h' = h) (noX) := by
  refine g_enter (own := "java/lang/String") [some (.ref s)] (by decide +kernel) rfl rfl (Nat.le_of_ble_eq_true rfl) rfl rfl (fun X => ?_)
  obtain ⟨b1, b2⟩ := id hs
  refine V.hE (fun hE => ?_)
  refine g_gets (ref := "java/lang/String") hE.cS q325 dJ5_isLatin1_0 ?_
  first | refine g_ifN_eq (tgt := 17) dJ5_isLatin1_3 (by decide) (by omega) (fun c_3 => ?_) (fun c_3 => ?_) | refine g_if_eq (tgt := 17) dJ5_isLatin1_3 (by decide) (fun c_3 => ?_) (fun c_3 => ?_)
  · omega
  · first | refine g_aload0 dJ5_isLatin1_6 ?_ | refine g_aloadQ0 dJ5_isLatin1_6 ?_ | refine g_aloadN0 dJ5_isLatin1_6 ?_
    refine g_get (k0 := 1) (by first | assumption | exact g_up_self _ _ _ | (refine g_upf ?_ ?_ <;> assumption) | (refine g_upt ?_ ?_ (by decide) <;> assumption)) in_J5 q517 rfl (by decide) rfl dJ5_isLatin1_7 ?_
    first | refine g_ifN_ne (tgt := 17) dJ5_isLatin1_10 (by decide) (by omega) (fun c_10 => ?_) (fun c_10 => ?_) | refine g_if_ne (tgt := 17) dJ5_isLatin1_10 (by decide) (fun c_10 => ?_) (fun c_10 => ?_)
    · omega
    · refine g_iconst (nI 1) dJ5_isLatin1_13 (by decide) ?_
      refine g_goto (tgt := 18) dJ5_isLatin1_14 (by decide) ?_
      exact g_zret dJ5_isLatin1_18 rfl (nar_zb (by omega)) ⟨_, rfl, rfl, rfl⟩
abbrev mJ15_charAt : GM := (yJ15_charAt, 2, (some .char), [], { frames := 2, cells := 0, slots := 0, locals := 43 }, 255)
theorem kJ15_charAt : gCs cJ15_charAt mJ15_charAt 2 := ⟨q1656, q85, q1657, ⟨by decide +kernel, by decide +kernel, by decide +kernel⟩, rfl⟩
set_option maxHeartbeats 400000 in
theorem ctJ15_charAt {E : GE} {h : AH} {a t N i : Nat} {F : Nat → Nat} (ha : h a = some (t, gABn E N F)) (hF : F i < 128) (hi : i < N) (hN : N ≤ 142) : Ct E cJ15_charAt mJ15_charAt [.ref a, .int (nI i)] (h) (pN fun r h' => r = (F i) ∧ h' = h) (noX) := by
  refine g_enter (own := "java/lang/StringLatin1") [some (.ref a), some (.int (nI i))] (by decide +kernel) rfl rfl (Nat.le_of_ble_eq_true rfl) rfl rfl (fun X => ?_)
  refine g_iload1 dJ15_charAt_0 ?_
  first | refine g_aload0 dJ15_charAt_1 ?_ | refine g_aloadQ0 dJ15_charAt_1 ?_ | refine g_aloadN0 dJ15_charAt_1 ?_
  refine g_alen (by first | assumption | exact g_up_self _ _ _ | (refine g_upf ?_ ?_ <;> assumption) | (refine g_upt ?_ ?_ (by decide) <;> assumption)) (by first | exact Or.inl ⟨_, rfl⟩ | exact Or.inr (Or.inr (Or.inl ⟨_, rfl⟩)) | exact Or.inr (Or.inr (Or.inr (Or.inl ⟨_, rfl⟩))) | exact Or.inr (Or.inr (Or.inr (Or.inr (Or.inr ⟨_, _, by decide, by decide, rfl⟩))))) rfl dJ15_charAt_2 ?_
  rw [show Int32.ofNat N = nI N from rfl]
  refine g_callS (ctJ5_checkIndex _ _ (by omega) (by omega)) kJ5_checkIndex q1658 (by decide) ⟨Nat.le_of_ble_eq_true rfl, Nat.le_of_ble_eq_true rfl⟩ rfl (Nat.le_of_ble_eq_true rfl) dJ15_charAt_3 k_x (k_v (fun h_3 p_3 => ?_))
  rw [p_3]
  first | refine g_aload0 dJ15_charAt_6 ?_ | refine g_aloadQ0 dJ15_charAt_6 ?_ | refine g_aloadN0 dJ15_charAt_6 ?_
  refine g_iload1 dJ15_charAt_7 ?_
  refine g_baldN ha (by omega) (by omega) dJ15_charAt_8 ?_
  refine g_sipush (nI 255) dJ15_charAt_9 (by decide) ?_
  refine g_iand255 dJ15_charAt_12 (by omega) ?_
  refine g_i2cN dJ15_charAt_13 (by omega) ?_
  rw [show F i % 256 = F i by omega]
  exact g_zret dJ15_charAt_14 rfl (narC _ hF) ⟨_, rfl, rfl, rfl⟩
abbrev mJ5_charAt : GM := (yJ5_charAt, 2, (some .char), [], { frames := 3, cells := 0, slots := 0, locals := 64 }, 255)
theorem kJ5_charAt : gCv cJ5_charAt mJ5_charAt 1 := ⟨q1648, q1649, q74, q1650, ⟨by decide +kernel, by decide +kernel, by decide +kernel⟩, rfl⟩
theorem uJ5_charAt : gCu cJ5_charAt mJ5_charAt 1 := ⟨q1648, q74, q1650, ⟨by decide +kernel, by decide +kernel, by decide +kernel⟩, rfl⟩
set_option maxHeartbeats 400000 in
theorem ctJ5_charAt {E : GE} {h : AH} {t s i c : Nat} {L : List Nat} {arr : Nat} {F : Nat → Nat} (hs : STn E t h s L arr F) (hF : ∀ j, F j < 128) (hL : L.length ≤ 142) (hi : L[i]? = some c) (hc : F i = c) : Ct E cJ5_charAt mJ5_charAt [.ref s, .int (nI i)] (h) (pN fun r h' => r = (c) ∧ h' = h) (noX) := by
  refine g_enter (own := "java/lang/String") [some (.ref s), some (.int (nI i))] (by decide +kernel) rfl rfl (Nat.le_of_ble_eq_true rfl) rfl rfl (fun X => ?_)
  obtain ⟨b1, b2⟩ := id hs
  have hil : i < L.length := (List.getElem?_eq_some_iff.mp hi).1
  first | refine g_aload0 dJ5_charAt_0 ?_ | refine g_aloadQ0 dJ5_charAt_0 ?_ | refine g_aloadN0 dJ5_charAt_0 ?_
  refine g_callVR (ctJ5_isLatin1 hs) kJ5_isLatin1 q1651 (gRv.g hs.1 rfl rfl) (by decide) ⟨Nat.le_of_ble_eq_true rfl, Nat.le_of_ble_eq_true rfl⟩ rfl (Nat.le_of_ble_eq_true rfl) dJ5_charAt_1 k_x (k_n (fun r_1 h_1 p_1 => ?_))
  obtain ⟨rfl, z_1⟩ := p_1
  rw [z_1]
  first | refine g_ifN_eq (tgt := 16) dJ5_charAt_4 (by decide) (by omega) (fun c_4 => ?_) (fun c_4 => ?_) | refine g_if_eq (tgt := 16) dJ5_charAt_4 (by decide) (fun c_4 => ?_) (fun c_4 => ?_)
  · omega
  · first | refine g_aload0 dJ5_charAt_7 ?_ | refine g_aloadQ0 dJ5_charAt_7 ?_ | refine g_aloadN0 dJ5_charAt_7 ?_
    refine g_get (k0 := 0) (by first | assumption | exact g_up_self _ _ _ | (refine g_upf ?_ ?_ <;> assumption) | (refine g_upt ?_ ?_ (by decide) <;> assumption)) in_J5 q516 rfl (by decide) rfl dJ5_charAt_8 ?_
    refine g_iload1 dJ5_charAt_11 ?_
    refine g_callS (ctJ15_charAt b2 (hF _) (by omega) (by omega)) kJ15_charAt q1655 (by decide) ⟨Nat.le_of_ble_eq_true rfl, Nat.le_of_ble_eq_true rfl⟩ rfl (Nat.le_of_ble_eq_true rfl) dJ5_charAt_12 k_x (k_n (fun r_12 h_12 p_12 => ?_))
    obtain ⟨rfl, z_12⟩ := p_12
    rw [z_12]
    rw [hc]
    exact g_zret dJ5_charAt_15 rfl (narC _ (by rw [← hc]; exact hF i)) ⟨_, rfl, rfl, rfl⟩
