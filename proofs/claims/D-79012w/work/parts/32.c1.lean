/-! THE COMPONENT: its arithmetic, what it requires -/
set_option maxRecDepth 100000
theorem pw2_odd {m v sq l T : Nat} (h : v * sq ^ l % m = T) (ho : l % 2 = 1) : (v * sq % m) * ((sq * sq % m) ^ (l / 2)) % m = T := pw_odd h ho
theorem pw2_even {m v sq l T : Nat} (h : v * sq ^ l % m = T) (ho : ¬ l % 2 = 1) : v * ((sq * sq % m) ^ (l / 2)) % m = T := pw_even h ho
theorem fm_ok : ∀ a, a < 25 → ∀ b, b < 25 → (0 ≤ (nI a - nI b) ^^^ nI 1019 ∧ jrem (nI a - nI b) (nI 1019) = nI ((a + 1019 - b) % 1019)) ∨ (¬ 0 ≤ (nI a - nI b) ^^^ nI 1019 ∧ ¬ jrem (nI a - nI b) (nI 1019) = 0 ∧ jrem (nI a - nI b) (nI 1019) + nI 1019 = nI ((a + 1019 - b) % 1019)) := by decide +kernel
theorem lrem_N {a m : Nat} (ha : a < 2 ^ 63) (h0 : 0 < m) (hm : m < 2 ^ 63) : jremL (lN a) (lN m) = lN (a % m) := pk_lRem ha h0 hm
theorem lN_nz {m : Nat} (h0 : 0 < m) (hm : m < 2 ^ 31) : ¬ lN m = 0 := fun z => by
  have e : lN m = lN 0 := z
  rw [lN_eq hm (by decide)] at e
  omega
abbrev mX1_in : GM := (yX1_in, 3, (some .boolean), [], { frames := 0, cells := 0, slots := 0, locals := 0 }, 255)
theorem kX1_in : gCs cX1_in mX1_in 3 := ⟨q936, q67, q937, ⟨by decide +kernel, by decide +kernel, by decide +kernel⟩, rfl⟩
set_option maxHeartbeats 400000 in
theorem ctX1_inS {E : GE} {h : AH} (v lo hi : Nat) (hv : v < 4294967296) (hlo : lo < 4294967296) (hhi : hi < 4294967296) : Ct E cX1_in mX1_in [.int (nI v), .int (nI lo), .int (nI hi)] (h) (pN fun r h' => r < 2 ∧ (r = 1 ↔ sg lo ≤ sg v ∧ sg v ≤ sg hi) ∧ h' = h) (noX) := by
  refine g_enter (own := "SecretVault") [some (.int (nI v)), some (.int (nI lo)), some (.int (nI hi))] (by decide +kernel) rfl rfl (Nat.le_of_ble_eq_true rfl) rfl rfl (fun X => ?_)
  refine g_iload0 dX1_in_0 ?_
  refine g_iload1 dX1_in_1 ?_
  first | refine g_icmpN_lt (tgt := 14) dX1_in_2 (by decide) (by omega) (by omega) (fun c_2 => ?_) (fun c_2 => ?_) | refine g_icmp_lt (tgt := 14) dX1_in_2 (by decide) (fun c_2 => ?_) (fun c_2 => ?_)
  · refine g_iconst (nI 0) dX1_in_14 (by decide) ?_
    exact g_zret dX1_in_15 rfl (nar_zb (by omega)) ⟨_, rfl, by omega, in_iff hv hlo hhi (by first | exact Or.inl ⟨rfl, c_2, c_7⟩ | exact Or.inr ⟨rfl, Or.inr c_7⟩ | exact Or.inr ⟨rfl, Or.inl c_2⟩), rfl⟩
  · refine g_iload0 dX1_in_5 ?_
    refine g_iload2 dX1_in_6 ?_
    first | refine g_icmpN_gt (tgt := 14) dX1_in_7 (by decide) (by omega) (by omega) (fun c_7 => ?_) (fun c_7 => ?_) | refine g_icmp_gt (tgt := 14) dX1_in_7 (by decide) (fun c_7 => ?_) (fun c_7 => ?_)
    · refine g_iconst (nI 0) dX1_in_14 (by decide) ?_
      exact g_zret dX1_in_15 rfl (nar_zb (by omega)) ⟨_, rfl, by omega, in_iff hv hlo hhi (by first | exact Or.inl ⟨rfl, c_2, c_7⟩ | exact Or.inr ⟨rfl, Or.inr c_7⟩ | exact Or.inr ⟨rfl, Or.inl c_2⟩), rfl⟩
    · refine g_iconst (nI 1) dX1_in_10 (by decide) ?_
      refine g_goto (tgt := 15) dX1_in_11 (by decide) ?_
      exact g_zret dX1_in_15 rfl (nar_zb (by omega)) ⟨_, rfl, by omega, in_iff hv hlo hhi (by first | exact Or.inl ⟨rfl, c_2, c_7⟩ | exact Or.inr ⟨rfl, Or.inr c_7⟩ | exact Or.inr ⟨rfl, Or.inl c_2⟩), rfl⟩
theorem ctX1_in {E : GE} {h : AH} (v lo hi : Nat) (hv : v < 4294967296) (hlo : lo < 2147483648) (hhi : hi < 2147483648) : Ct E cX1_in mX1_in [.int (nI v), .int (nI lo), .int (nI hi)] h (pN fun r h' => r < 2 ∧ (r = 1 ↔ lo ≤ v ∧ v ≤ hi) ∧ h' = h) noX := by
  have e : (sg lo ≤ sg v ∧ sg v ≤ sg hi) ↔ (lo ≤ v ∧ v ≤ hi) := by
    unfold sg
    rw [if_pos hlo, if_pos hhi]
    split <;> omega
  have c := ctX1_inS (E := E) (h := h) v lo hi hv (by omega) (by omega)
  simp only [e] at c
  exact c
set_option maxRecDepth 100000 in
theorem at_SecretVault_IllegalArgumentException : gAt "SecretVault" 3 "java/lang/IllegalArgumentException" ["java/lang/RuntimeException", "java/lang/Exception"] := ⟨lw_T _ [76, 443, 452, 466, 469, 471, 444, 445, 129, 130, 446, 451, 467, 492, 433, 493, 435, 494, 437, 447, 449, 439, 943, 944, 945, 781, 424, 781, 782, 783, 784, 426, 784, 785, 786, 444, 428, 942, 422, 423, 430, 431, 432, 434, 436, 438, 490, 441, 440] (by decide +kernel), by decide +kernel⟩
set_option maxRecDepth 100000 in
theorem at_SecretVault_IllegalArgumentException_g : ∀ w ∈ Cond.classLink "SecretVault" 1 "java/lang/IllegalArgumentException" :: Cond.initialized "java/lang/IllegalArgumentException" :: vx_at0 "SecretVault" 3 "java/lang/IllegalArgumentException" ["java/lang/RuntimeException", "java/lang/Exception"], vx_ot w = true := List.all_eq_true.mp (by decide +kernel)
set_option maxRecDepth 100000 in
theorem at_SecretVault_IllegalStateException : gAt "SecretVault" 9 "java/lang/IllegalStateException" ["java/lang/RuntimeException", "java/lang/Exception"] := ⟨lw_T _ [76, 443, 452, 466, 469, 471, 444, 445, 129, 130, 446, 451, 467, 492, 433, 493, 435, 494, 437, 447, 449, 439, 1085, 1086, 1087, 781, 424, 781, 782, 783, 784, 426, 784, 785, 786, 444, 428, 1084, 835, 836, 837, 461, 838, 839, 840, 841, 490, 441, 842] (by decide +kernel), by decide +kernel⟩
set_option maxRecDepth 100000 in
theorem at_SecretVault_IllegalStateException_g : ∀ w ∈ Cond.classLink "SecretVault" 7 "java/lang/IllegalStateException" :: Cond.initialized "java/lang/IllegalStateException" :: vx_at0 "SecretVault" 9 "java/lang/IllegalStateException" ["java/lang/RuntimeException", "java/lang/Exception"], vx_ot w = true := List.all_eq_true.mp (by decide +kernel)
set_option maxRecDepth 100000 in
theorem at_SecretVault_IndexOutOfBoundsException : gAt "SecretVault" 12 "java/lang/IndexOutOfBoundsException" ["java/lang/RuntimeException", "java/lang/Exception"] := ⟨lw_T _ [76, 443, 452, 466, 469, 471, 444, 445, 129, 130, 446, 451, 467, 492, 433, 493, 435, 494, 437, 447, 449, 439, 930, 931, 932, 781, 424, 781, 782, 783, 784, 426, 784, 785, 786, 444, 428, 929, 921, 922, 923, 462, 924, 925, 926, 927, 490, 441, 928] (by decide +kernel), by decide +kernel⟩
set_option maxRecDepth 100000 in
theorem at_SecretVault_IndexOutOfBoundsException_g : ∀ w ∈ Cond.classLink "SecretVault" 10 "java/lang/IndexOutOfBoundsException" :: Cond.initialized "java/lang/IndexOutOfBoundsException" :: vx_at0 "SecretVault" 12 "java/lang/IndexOutOfBoundsException" ["java/lang/RuntimeException", "java/lang/Exception"], vx_ot w = true := List.all_eq_true.mp (by decide +kernel)
set_option maxRecDepth 100000 in
theorem at_SecretVault_NoSuchElementException : gAt "SecretVault" 15 "java/util/NoSuchElementException" ["java/lang/RuntimeException", "java/lang/Exception"] := ⟨lw_T _ [76, 443, 452, 466, 469, 471, 444, 445, 129, 130, 446, 451, 467, 492, 433, 493, 435, 494, 437, 447, 449, 439, 778, 779, 780, 781, 424, 781, 782, 783, 784, 426, 784, 785, 786, 444, 428, 1143, 769, 770, 771, 465, 772, 773, 774, 775, 490, 441, 776] (by decide +kernel), by decide +kernel⟩
set_option maxRecDepth 100000 in
theorem at_SecretVault_NoSuchElementException_g : ∀ w ∈ Cond.classLink "SecretVault" 13 "java/util/NoSuchElementException" :: Cond.initialized "java/util/NoSuchElementException" :: vx_at0 "SecretVault" 15 "java/util/NoSuchElementException" ["java/lang/RuntimeException", "java/lang/Exception"], vx_ot w = true := List.all_eq_true.mp (by decide +kernel)
abbrev mX1_require : GM := (yX1_require, 1, none, [], { frames := 6, cells := 1, slots := 6, locals := 90 }, 255)
theorem kX1_require : gCs cX1_require mX1_require 1 := ⟨q939, q67, q940, ⟨by decide +kernel, by decide +kernel, by decide +kernel⟩, rfl⟩
set_option maxHeartbeats 400000 in
theorem ctX1_require {E : GE} {h : AH} (b : Nat) (hb : b < 2) : Ct E cX1_require mX1_require [.int (nI b)] (h) (pV fun h' => b = 1 ∧ h' = h) (fun C _ h' => C = "java/lang/IllegalArgumentException" ∧ b = 0 ∧ h' = h) := by
  refine g_enter (own := "SecretVault") [some (.int (nI b))] (by decide +kernel) rfl rfl (Nat.le_of_ble_eq_true rfl) rfl rfl (fun X => ?_)
  refine g_iload0 dX1_require_0 ?_
  first | refine g_ifN_ne (tgt := 12) dX1_require_1 (by decide) (by omega) (fun c_1 => ?_) (fun c_1 => ?_) | refine g_if_ne (tgt := 12) dX1_require_1 (by decide) (fun c_1 => ?_) (fun c_1 => ?_)
  · exact g_vret dX1_require_12 rfl ⟨rfl, by omega, rfl⟩
  · exact g_throw0 (names := ["java/lang/RuntimeException", "java/lang/Exception"]) (by decide +kernel) (by decide +kernel) q941 q88 at_SecretVault_IllegalArgumentException at_SecretVault_IllegalArgumentException_g dX1_require_4 dX1_require_7 dX1_require_8 dX1_require_11 (fun _ z => nomatch z) (by decide) (Nat.le_of_ble_eq_true rfl) (Nat.le_of_ble_eq_true rfl) (Nat.le_of_ble_eq_true rfl) (fun q => ⟨rfl, by omega, rfl⟩)
abbrev mX1_requireState : GM := (yX1_requireState, 1, none, [], { frames := 6, cells := 1, slots := 6, locals := 90 }, 255)
theorem kX1_requireState : gCs cX1_requireState mX1_requireState 1 := ⟨q1081, q67, q1082, ⟨by decide +kernel, by decide +kernel, by decide +kernel⟩, rfl⟩
set_option maxHeartbeats 400000 in
theorem ctX1_requireState {E : GE} {h : AH} (b : Nat) (hb : b < 2) : Ct E cX1_requireState mX1_requireState [.int (nI b)] (h) (pV fun h' => b = 1 ∧ h' = h) (fun C _ h' => C = "java/lang/IllegalStateException" ∧ b = 0 ∧ h' = h) := by
  refine g_enter (own := "SecretVault") [some (.int (nI b))] (by decide +kernel) rfl rfl (Nat.le_of_ble_eq_true rfl) rfl rfl (fun X => ?_)
  refine g_iload0 dX1_requireState_0 ?_
  first | refine g_ifN_ne (tgt := 12) dX1_requireState_1 (by decide) (by omega) (fun c_1 => ?_) (fun c_1 => ?_) | refine g_if_ne (tgt := 12) dX1_requireState_1 (by decide) (fun c_1 => ?_) (fun c_1 => ?_)
  · exact g_vret dX1_requireState_12 rfl ⟨rfl, by omega, rfl⟩
  · exact g_throw0 (names := ["java/lang/RuntimeException", "java/lang/Exception"]) (by decide +kernel) (by decide +kernel) q1083 q95 at_SecretVault_IllegalStateException at_SecretVault_IllegalStateException_g dX1_requireState_4 dX1_requireState_7 dX1_requireState_8 dX1_requireState_11 (fun _ z => nomatch z) (by decide) (Nat.le_of_ble_eq_true rfl) (Nat.le_of_ble_eq_true rfl) (Nat.le_of_ble_eq_true rfl) (fun q => ⟨rfl, by omega, rfl⟩)
abbrev mX1_requireElement : GM := (yX1_requireElement, 1, none, [], { frames := 6, cells := 1, slots := 6, locals := 90 }, 255)
theorem kX1_requireElement : gCs cX1_requireElement mX1_requireElement 1 := ⟨q1140, q67, q1141, ⟨by decide +kernel, by decide +kernel, by decide +kernel⟩, rfl⟩
set_option maxHeartbeats 400000 in
theorem ctX1_requireElement {E : GE} {h : AH} (b : Nat) (hb : b < 2) : Ct E cX1_requireElement mX1_requireElement [.int (nI b)] (h) (pV fun h' => b = 1 ∧ h' = h) (fun C _ h' => C = "java/util/NoSuchElementException" ∧ b = 0 ∧ h' = h) := by
  refine g_enter (own := "SecretVault") [some (.int (nI b))] (by decide +kernel) rfl rfl (Nat.le_of_ble_eq_true rfl) rfl rfl (fun X => ?_)
  refine g_iload0 dX1_requireElement_0 ?_
  first | refine g_ifN_ne (tgt := 12) dX1_requireElement_1 (by decide) (by omega) (fun c_1 => ?_) (fun c_1 => ?_) | refine g_if_ne (tgt := 12) dX1_requireElement_1 (by decide) (fun c_1 => ?_) (fun c_1 => ?_)
  · exact g_vret dX1_requireElement_12 rfl ⟨rfl, by omega, rfl⟩
  · exact g_throw0 (names := ["java/lang/RuntimeException", "java/lang/Exception"]) (by decide +kernel) (by decide +kernel) q1142 q98 at_SecretVault_NoSuchElementException at_SecretVault_NoSuchElementException_g dX1_requireElement_4 dX1_requireElement_7 dX1_requireElement_8 dX1_requireElement_11 (fun _ z => nomatch z) (by decide) (Nat.le_of_ble_eq_true rfl) (Nat.le_of_ble_eq_true rfl) (Nat.le_of_ble_eq_true rfl) (fun q => ⟨rfl, by omega, rfl⟩)
abbrev mX1_requireIndex : GM := (yX1_requireIndex, 2, none, [], { frames := 6, cells := 1, slots := 6, locals := 90 }, 255)
theorem kX1_requireIndex : gCs cX1_requireIndex mX1_requireIndex 2 := ⟨q918, q67, q919, ⟨by decide +kernel, by decide +kernel, by decide +kernel⟩, rfl⟩
set_option maxHeartbeats 400000 in
theorem ctX1_requireIndex {E : GE} {h : AH} (i n : Nat) (hi : i < 4294967296) (hn : n < 2147483648) : Ct E cX1_requireIndex mX1_requireIndex [.int (nI i), .int (nI n)] (h) (pV fun h' => i < n ∧ h' = h) (fun C _ h' => C = "java/lang/IndexOutOfBoundsException" ∧ ¬ i < n ∧ h' = h) := by
  refine g_enter (own := "SecretVault") [some (.int (nI i)), some (.int (nI n))] (by decide +kernel) rfl rfl (Nat.le_of_ble_eq_true rfl) rfl rfl (fun X => ?_)
  refine g_iload0 dX1_requireIndex_0 ?_
  first | refine g_ifN_lt (tgt := 9) dX1_requireIndex_1 (by decide) (by omega) (fun c_1 => ?_) (fun c_1 => ?_) | refine g_if_lt (tgt := 9) dX1_requireIndex_1 (by decide) (fun c_1 => ?_) (fun c_1 => ?_)
  · exact g_throw0 (names := ["java/lang/RuntimeException", "java/lang/Exception"]) (by decide +kernel) (by decide +kernel) q920 q79 at_SecretVault_IndexOutOfBoundsException at_SecretVault_IndexOutOfBoundsException_g dX1_requireIndex_9 dX1_requireIndex_12 dX1_requireIndex_13 dX1_requireIndex_16 (fun _ z => nomatch z) (by decide) (Nat.le_of_ble_eq_true rfl) (Nat.le_of_ble_eq_true rfl) (Nat.le_of_ble_eq_true rfl) (fun q => ⟨rfl, by omega, rfl⟩)
  · refine g_iload0 dX1_requireIndex_4 ?_
    refine g_iload1 dX1_requireIndex_5 ?_
    first | refine g_icmpN_lt (tgt := 17) dX1_requireIndex_6 (by decide) (by omega) (by omega) (fun c_6 => ?_) (fun c_6 => ?_) | refine g_icmp_lt (tgt := 17) dX1_requireIndex_6 (by decide) (fun c_6 => ?_) (fun c_6 => ?_)
    · exact g_vret dX1_requireIndex_17 rfl ⟨rfl, by omega, rfl⟩
    · exact g_throw0 (names := ["java/lang/RuntimeException", "java/lang/Exception"]) (by decide +kernel) (by decide +kernel) q920 q79 at_SecretVault_IndexOutOfBoundsException at_SecretVault_IndexOutOfBoundsException_g dX1_requireIndex_9 dX1_requireIndex_12 dX1_requireIndex_13 dX1_requireIndex_16 (fun _ z => nomatch z) (by decide) (Nat.le_of_ble_eq_true rfl) (Nat.le_of_ble_eq_true rfl) (Nat.le_of_ble_eq_true rfl) (fun q => ⟨rfl, by omega, rfl⟩)
abbrev mX1_times : GM := (yX1_times, 3, (some .int), [], { frames := 0, cells := 0, slots := 0, locals := 0 }, 255)
theorem kX1_times : gCs cX1_times mX1_times 3 := ⟨q1052, q67, q1053, ⟨by decide +kernel, by decide +kernel, by decide +kernel⟩, rfl⟩
set_option maxHeartbeats 400000 in
theorem ctX1_times {E : GE} {h : AH} (a b m : Nat) (ha : a < 2147483648) (hb : b < 2147483648) (hm : 0 < m ∧ m < 2147483648) : Ct E cX1_times mX1_times [.int (nI a), .int (nI b), .int (nI m)] (h) (pN fun r h' => r = (a * b % m) ∧ h' = h) (noX) := by
  refine g_enter (own := "SecretVault") [some (.int (nI a)), some (.int (nI b)), some (.int (nI m))] (by decide +kernel) rfl rfl (Nat.le_of_ble_eq_true rfl) rfl rfl (fun X => ?_)
  have hab : a * b ≤ 2147483647 * 2147483647 := Nat.mul_le_mul (by omega) (by omega)
  have hr : a * b % m < m := Nat.mod_lt _ hm.1
  refine g_iload0 dX1_times_0 ?_
  refine g_i2l dX1_times_1 ?_
  rw [nI_l (show a < 2 ^ 31 from ha)]
  refine g_iload1 dX1_times_2 ?_
  refine g_i2l dX1_times_3 ?_
  rw [nI_l (show b < 2 ^ 31 from hb)]
  refine g_lmul dX1_times_4 ?_
  rw [lN_mul]
  refine g_iload2 dX1_times_5 ?_
  refine g_i2l dX1_times_6 ?_
  rw [nI_l (show m < 2 ^ 31 from hm.2)]
  refine g_lrem dX1_times_7 (lN_nz hm.1 hm.2) ?_
  rw [lrem_N (by omega) hm.1 (by omega)]
  refine g_l2i dX1_times_8 ?_
  rw [lN_i]
  exact g_iret dX1_times_9 rfl ⟨_, rfl, rfl, rfl⟩
abbrev mX1_power : GM := (yX1_power, 6, (some .int), [], { frames := 1, cells := 0, slots := 0, locals := 22 }, 255)
theorem kX1_power : gCs cX1_power mX1_power 3 := ⟨q1049, q67, q1050, ⟨by decide +kernel, by decide +kernel, by decide +kernel⟩, rfl⟩
set_option maxHeartbeats 400000 in
theorem ctX1_power {E : GE} {h : AH} (base n m : Nat) (hb : base < 2147483648) (hn : n < 2147483648) (hm : 1 < m ∧ m < 46341) : Ct E cX1_power mX1_power [.int (nI base), .int (nI n), .int (nI m)] (h) (pN fun r h' => r = (base ^ n % m) ∧ h' = h) (noX) := by
  refine g_enter (own := "SecretVault") [some (.int (nI base)), some (.int (nI n)), some (.int (nI m)), none, none, none] (by decide +kernel) rfl rfl (Nat.le_of_ble_eq_true rfl) rfl rfl (fun X => ?_)
  have L : ∀ l v sq : Nat, v < m → sq < m → l < 2147483648 → v * sq ^ l % m = base ^ n % m → V E cX1_power "SecretVault" mX1_power (pN fun r h' => r = (base ^ n % m) ∧ h' = h) noX X (h) 0 0 10 [some (.int (nI base)), some (.int (nI n)), some (.int (nI m)), some (.int (nI v)), some (.int (nI sq)), some (.int (nI l))] [] := by
    intro l
    induction l using Nat.strongRecOn with
    | ind l ih =>
      intro v sq hv hq hl he
      refine g_iload5 dX1_power_10 ?_
      first | refine g_ifN_le (tgt := 54) dX1_power_12 (by decide) (by omega) (fun c_12 => ?_) (fun c_12 => ?_) | refine g_if_le (tgt := 54) dX1_power_12 (by decide) (fun c_12 => ?_) (fun c_12 => ?_)
      · refine g_iload3 dX1_power_54 ?_
        exact g_iret dX1_power_55 rfl ⟨_, rfl, by rcases c_12 with c | c <;> first | omega | (subst c; rw [← he]; simp [Nat.mod_eq_of_lt hv]), rfl⟩
      · refine g_iload5 dX1_power_15 ?_
        refine g_iconst (nI 2) dX1_power_17 (by decide) ?_
        refine g_iremN dX1_power_18 (by omega) (by omega) (by omega) ?_
        refine g_iconst (nI 1) dX1_power_19 (by decide) ?_
        first | refine g_icmpN_ne (tgt := 33) dX1_power_20 (by decide) (by omega) (by omega) (fun c_20 => ?_) (fun c_20 => ?_) | refine g_icmpU_ne (tgt := 33) dX1_power_20 (by decide) (by omega) (by omega) (fun c_20 => ?_) (fun c_20 => ?_) | refine g_icmp_ne (tgt := 33) dX1_power_20 (by decide) (fun c_20 => ?_) (fun c_20 => ?_)
        · refine g_iload3 dX1_power_33 ?_
          refine g_istore3 dX1_power_34 (by decide) ?_
          refine g_iload4 dX1_power_35 ?_
          refine g_iload4 dX1_power_37 ?_
          refine g_iload2 dX1_power_39 ?_
          refine g_callS (ctX1_times _ _ _ (by omega) (by omega) (by omega)) kX1_times q1051 (by decide) ⟨Nat.le_of_ble_eq_true rfl, Nat.le_of_ble_eq_true rfl⟩ rfl (Nat.le_of_ble_eq_true rfl) dX1_power_40 k_x (k_n (fun r_40 h_40 p_40 => ?_))
          obtain ⟨rfl, rfl⟩ := p_40
          refine g_istore4 dX1_power_43 (by decide) ?_
          refine g_iload5 dX1_power_45 ?_
          refine g_iconst (nI 2) dX1_power_47 (by decide) ?_
          refine g_idivN dX1_power_48 (by omega) (by omega) (by omega) ?_
          refine g_istore5 dX1_power_49 (by decide) ?_
          refine g_goto (tgt := 10) dX1_power_51 (by decide) ?_
          first | exact ih _ (by omega) _ _ (Nat.mod_lt _ (by omega)) (Nat.mod_lt _ (by omega)) (by omega) (pw2_odd he (by omega)) | exact ih _ (by omega) _ _ (by omega) (Nat.mod_lt _ (by omega)) (by omega) (pw2_even he (by omega))
        · refine g_iload3 dX1_power_23 ?_
          refine g_iload4 dX1_power_24 ?_
          refine g_iload2 dX1_power_26 ?_
          refine g_callS (ctX1_times _ _ _ (by omega) (by omega) (by omega)) kX1_times q1051 (by decide) ⟨Nat.le_of_ble_eq_true rfl, Nat.le_of_ble_eq_true rfl⟩ rfl (Nat.le_of_ble_eq_true rfl) dX1_power_27 k_x (k_n (fun r_27 h_27 p_27 => ?_))
          obtain ⟨rfl, rfl⟩ := p_27
          refine g_goto (tgt := 34) dX1_power_30 (by decide) ?_
          refine g_istore3 dX1_power_34 (by decide) ?_
          refine g_iload4 dX1_power_35 ?_
          refine g_iload4 dX1_power_37 ?_
          refine g_iload2 dX1_power_39 ?_
          refine g_callS (ctX1_times _ _ _ (by omega) (by omega) (by omega)) kX1_times q1051 (by decide) ⟨Nat.le_of_ble_eq_true rfl, Nat.le_of_ble_eq_true rfl⟩ rfl (Nat.le_of_ble_eq_true rfl) dX1_power_40 k_x (k_n (fun r_40 h_40 p_40 => ?_))
          obtain ⟨rfl, rfl⟩ := p_40
          refine g_istore4 dX1_power_43 (by decide) ?_
          refine g_iload5 dX1_power_45 ?_
          refine g_iconst (nI 2) dX1_power_47 (by decide) ?_
          refine g_idivN dX1_power_48 (by omega) (by omega) (by omega) ?_
          refine g_istore5 dX1_power_49 (by decide) ?_
          refine g_goto (tgt := 10) dX1_power_51 (by decide) ?_
          first | exact ih _ (by omega) _ _ (Nat.mod_lt _ (by omega)) (Nat.mod_lt _ (by omega)) (by omega) (pw2_odd he (by omega)) | exact ih _ (by omega) _ _ (by omega) (Nat.mod_lt _ (by omega)) (by omega) (pw2_even he (by omega))
  refine g_iconst (nI 1) dX1_power_0 (by decide) ?_
  refine g_istore3 dX1_power_1 (by decide) ?_
  refine g_iload0 dX1_power_2 ?_
  refine g_iload2 dX1_power_3 ?_
  refine g_iremN dX1_power_4 (by omega) (by omega) (by omega) ?_
  refine g_istore4 dX1_power_5 (by decide) ?_
  refine g_iload1 dX1_power_7 ?_
  refine g_istore5 dX1_power_8 (by decide) ?_
  exact L _ _ _ (by omega) (Nat.mod_lt _ (by omega)) (by omega) (pw_init base n m (by omega))
abbrev mX1_inverse : GM := (yX1_inverse, 1, (some .int), [], { frames := 2, cells := 0, slots := 0, locals := 47 }, 255)
theorem kX1_inverse : gCs cX1_inverse mX1_inverse 1 := ⟨q1453, q67, q1454, ⟨by decide +kernel, by decide +kernel, by decide +kernel⟩, rfl⟩
set_option maxHeartbeats 400000 in
theorem ctX1_inverse {E : GE} {h : AH} (v : Nat) (hv : v < 2147483648) : Ct E cX1_inverse mX1_inverse [.int (nI v)] (h) (pN fun r h' => r = (v ^ 1017 % 1019) ∧ h' = h) (noX) := by
  refine g_enter (own := "SecretVault") [some (.int (nI v))] (by decide +kernel) rfl rfl (Nat.le_of_ble_eq_true rfl) rfl rfl (fun X => ?_)
  refine g_iload0 dX1_inverse_0 ?_
  refine g_sipush (nI 1017) dX1_inverse_1 (by decide) ?_
  refine g_sipush (nI 1019) dX1_inverse_4 (by decide) ?_
  refine g_callS (ctX1_power _ _ _ (by omega) (by omega) (by omega)) kX1_power q1455 (by decide) ⟨Nat.le_of_ble_eq_true rfl, Nat.le_of_ble_eq_true rfl⟩ rfl (Nat.le_of_ble_eq_true rfl) dX1_inverse_7 k_x (k_n (fun r_7 h_7 p_7 => ?_))
  obtain ⟨rfl, rfl⟩ := p_7
  exact g_iret dX1_inverse_10 rfl ⟨_, rfl, rfl, rfl⟩
abbrev mJ13_floorMod : GM := (yJ13_floorMod, 3, (some .int), [], { frames := 0, cells := 0, slots := 0, locals := 0 }, 255)
theorem kJ13_floorMod : gCs cJ13_floorMod mJ13_floorMod 2 := ⟨q1450, q82, q1451, ⟨by decide +kernel, by decide +kernel, by decide +kernel⟩, rfl⟩
set_option maxHeartbeats 400000 in
theorem ctJ13_floorMod {E : GE} {h : AH} (a b : Nat) (ha : a < 25) (hb : b < 25) : Ct E cJ13_floorMod mJ13_floorMod [.int (nI a - nI b), .int (nI 1019)] h (pN fun r h' => r = (a + 1019 - b) % 1019 ∧ h' = h) noX := by
  have hk := fm_ok a ha b hb
  generalize hR : (a + 1019 - b) % 1019 = R at hk ⊢
  generalize hx : nI a - nI b = x at hk ⊢
  refine g_enterF (own := "java/lang/Math") [some (.int x), some (.int (nI 1019)), none] (by decide +kernel) rfl rfl (Nat.le_of_ble_eq_true rfl) rfl rfl (fun X => ?_)
  refine g_iload0 dJ13_floorMod_0 ?_
  refine g_iload1 dJ13_floorMod_1 ?_
  refine g_irem dJ13_floorMod_2 (by decide) ?_
  refine g_istore2 dJ13_floorMod_3 (by decide) ?_
  refine g_iload0 dJ13_floorMod_4 ?_
  refine g_iload1 dJ13_floorMod_5 ?_
  refine g_ixor dJ13_floorMod_6 ?_
  refine g_if_ge (tgt := 18) dJ13_floorMod_7 (by decide) (fun c7 => ?_) (fun c7 => ?_)
  · rcases hk with ⟨_, k2⟩ | ⟨k1, _⟩
    · rw [k2]
      refine g_iload2 dJ13_floorMod_18 ?_
      exact g_iret dJ13_floorMod_19 rfl ⟨_, rfl, rfl, rfl⟩
    · exact absurd c7 k1
  · rcases hk with ⟨k1, _⟩ | ⟨_, k2, k3⟩
    · exact absurd k1 c7
    · refine g_iload2 dJ13_floorMod_10 ?_
      refine g_if_eq (tgt := 18) dJ13_floorMod_11 (by decide) (fun c9 => absurd c9 k2) (fun _ => ?_)
      refine g_iload2 dJ13_floorMod_14 ?_
      refine g_iload1 dJ13_floorMod_15 ?_
      refine g_iadd dJ13_floorMod_16 ?_
      rw [k3]
      exact g_iret dJ13_floorMod_17 rfl ⟨_, rfl, rfl, rfl⟩
abbrev mX1_minus : GM := (yX1_minus, 2, (some .int), [], { frames := 1, cells := 0, slots := 0, locals := 22 }, 255)
theorem kX1_minus : gCs cX1_minus mX1_minus 2 := ⟨q1447, q67, q1448, ⟨by decide +kernel, by decide +kernel, by decide +kernel⟩, rfl⟩
set_option maxHeartbeats 400000 in
theorem ctX1_minus {E : GE} {h : AH} (a b : Nat) (ha : a < 25) (hb : b < 25) : Ct E cX1_minus mX1_minus [.int (nI a), .int (nI b)] (h) (pN fun r h' => r = ((a + 1019 - b) % 1019) ∧ h' = h) (noX) := by
  refine g_enter (own := "SecretVault") [some (.int (nI a)), some (.int (nI b))] (by decide +kernel) rfl rfl (Nat.le_of_ble_eq_true rfl) rfl rfl (fun X => ?_)
  refine g_iload0 dX1_minus_0 ?_
  refine g_iload1 dX1_minus_1 ?_
  refine g_isub dX1_minus_2 ?_
  refine g_sipush (nI 1019) dX1_minus_3 (by decide) ?_
  refine g_callS (ctJ13_floorMod a b ha hb) kJ13_floorMod q1449 (by decide) ⟨Nat.le_of_ble_eq_true rfl, Nat.le_of_ble_eq_true rfl⟩ rfl (Nat.le_of_ble_eq_true rfl) dX1_minus_6 k_x (k_n (fun r_6 h_6 p_6 => ?_))
  obtain ⟨rfl, rfl⟩ := p_6
  exact g_iret dX1_minus_9 rfl ⟨_, rfl, rfl, rfl⟩
abbrev mX1_valueAt : GM := (yX1_valueAt, 4, (some .int), [], { frames := 1, cells := 0, slots := 0, locals := 22 }, 255)
theorem kX1_valueAt : gCs cX1_valueAt mX1_valueAt 2 := ⟨q1102, q67, q1103, ⟨by decide +kernel, by decide +kernel, by decide +kernel⟩, rfl⟩
set_option maxHeartbeats 400000 in
theorem ctX1_valueAt {E : GE} {h : AH} {a t : Nat} (K x : Nat) (F : Nat → Nat) (ha : h a = some (t, gAIn E K F)) (hK : 1 ≤ K ∧ K ≤ 8) (hx : x ≤ 24) (hF : ∀ j, j < K → F j < 1019) : Ct E cX1_valueAt mX1_valueAt [.ref a, .int (nI x)] (h) (pN fun r h' => r = (poD F x K 0) ∧ h' = h) (noX) := by
  refine g_enter (own := "SecretVault") [some (.ref a), some (.int (nI x)), none, none] (by decide +kernel) rfl rfl (Nat.le_of_ble_eq_true rfl) rfl rfl (fun X => ?_)
  have L0 : ∀ v, v = poD F x K 0 → V E cX1_valueAt "SecretVault" mX1_valueAt (pN fun r h' => r = (poD F x K 0) ∧ h' = h) noX X (h) 0 0 7 [some (.ref a), some (.int (nI x)), some (.int (nI v)), some (.int (-1))] [] := by
    intro v he
    subst he
    refine g_iload3 dX1_valueAt_7 ?_
    first | refine g_ifN_lt (tgt := 34) dX1_valueAt_8 (by decide) (by omega) (fun c_8 => ?_) (fun c_8 => ?_) | refine g_if_lt (tgt := 34) dX1_valueAt_8 (by decide) (fun c_8 => ?_) (fun c_8 => ?_)
    · refine g_iload2 dX1_valueAt_34 ?_
      exact g_iret dX1_valueAt_35 rfl ⟨_, rfl, rfl, rfl⟩
    · exact absurd (by decide) c_8
  have L : ∀ j v, j < K → v < 1019 → poD F x (j + 1) v = poD F x K 0 → V E cX1_valueAt "SecretVault" mX1_valueAt (pN fun r h' => r = (poD F x K 0) ∧ h' = h) noX X (h) 0 0 7 [some (.ref a), some (.int (nI x)), some (.int (nI v)), some (.int (nI j))] [] := by
    intro j
    induction j with
    | zero =>
      intro v hj hv he
      have hc := hF 0 (by omega)
      have he1 : poD F x (0 + 1) v = poD F x 0 ((v * x % 1019 + F 0) % 1019) := by rw [Nat.mod_add_mod]; rfl
      have hlt : (v * x % 1019 + F 0) % 1019 < 1019 := Nat.mod_lt _ (by decide)
      have hl2 : v * x % 1019 < 1019 := Nat.mod_lt _ (by decide)
      refine g_iload3 dX1_valueAt_7 ?_
      first | refine g_ifN_lt (tgt := 34) dX1_valueAt_8 (by decide) (by omega) (fun c_8 => ?_) (fun c_8 => ?_) | refine g_if_lt (tgt := 34) dX1_valueAt_8 (by decide) (fun c_8 => ?_) (fun c_8 => ?_)
      · omega
      · refine g_iload2 dX1_valueAt_11 ?_
        refine g_iload1 dX1_valueAt_12 ?_
        refine g_sipush (nI 1019) dX1_valueAt_13 (by decide) ?_
        refine g_callS (ctX1_times _ _ _ (by omega) (by omega) (by omega)) kX1_times q1051 (by decide) ⟨Nat.le_of_ble_eq_true rfl, Nat.le_of_ble_eq_true rfl⟩ rfl (Nat.le_of_ble_eq_true rfl) dX1_valueAt_16 k_x (k_n (fun r_16 h_16 p_16 => ?_))
        obtain ⟨rfl, rfl⟩ := p_16
        first | refine g_aload0 dX1_valueAt_19 ?_ | refine g_aloadQ0 dX1_valueAt_19 ?_ | refine g_aloadN0 dX1_valueAt_19 ?_
        refine g_iload3 dX1_valueAt_20 ?_
        refine g_ialdN (by assumption) (by omega) (by omega) dX1_valueAt_21 ?_
        first | refine g_iaddN dX1_valueAt_22 ?_ | refine g_iadd dX1_valueAt_22 ?_
        refine g_sipush (nI 1019) dX1_valueAt_23 (by decide) ?_
        refine g_iremN dX1_valueAt_26 (by omega) (by omega) (by omega) ?_
        refine g_istore2 dX1_valueAt_27 (by decide) ?_
        refine g_iinc3 (-1) dX1_valueAt_28 (by decide) (by decide) ?_
        refine g_goto (tgt := 7) dX1_valueAt_31 (by decide) ?_
        rw [he1] at he
        exact L0 _ he
    | succ j ih =>
      intro v hj hv he
      have hc := hF (j + 1) (by omega)
      have he1 : poD F x (j + 1 + 1) v = poD F x (j + 1) ((v * x % 1019 + F (j + 1)) % 1019) := by rw [poD, Nat.mod_add_mod]
      have hlt : (v * x % 1019 + F (j + 1)) % 1019 < 1019 := Nat.mod_lt _ (by decide)
      have hl2 : v * x % 1019 < 1019 := Nat.mod_lt _ (by decide)
      refine g_iload3 dX1_valueAt_7 ?_
      first | refine g_ifN_lt (tgt := 34) dX1_valueAt_8 (by decide) (by omega) (fun c_8 => ?_) (fun c_8 => ?_) | refine g_if_lt (tgt := 34) dX1_valueAt_8 (by decide) (fun c_8 => ?_) (fun c_8 => ?_)
      · omega
      · refine g_iload2 dX1_valueAt_11 ?_
        refine g_iload1 dX1_valueAt_12 ?_
        refine g_sipush (nI 1019) dX1_valueAt_13 (by decide) ?_
        refine g_callS (ctX1_times _ _ _ (by omega) (by omega) (by omega)) kX1_times q1051 (by decide) ⟨Nat.le_of_ble_eq_true rfl, Nat.le_of_ble_eq_true rfl⟩ rfl (Nat.le_of_ble_eq_true rfl) dX1_valueAt_16 k_x (k_n (fun r_16 h_16 p_16 => ?_))
        obtain ⟨rfl, rfl⟩ := p_16
        first | refine g_aload0 dX1_valueAt_19 ?_ | refine g_aloadQ0 dX1_valueAt_19 ?_ | refine g_aloadN0 dX1_valueAt_19 ?_
        refine g_iload3 dX1_valueAt_20 ?_
        refine g_ialdN (by assumption) (by omega) (by omega) dX1_valueAt_21 ?_
        first | refine g_iaddN dX1_valueAt_22 ?_ | refine g_iadd dX1_valueAt_22 ?_
        refine g_sipush (nI 1019) dX1_valueAt_23 (by decide) ?_
        refine g_iremN dX1_valueAt_26 (by omega) (by omega) (by omega) ?_
        refine g_istore2 dX1_valueAt_27 (by decide) ?_
        rw [he1] at he
        first | refine g_iincM3 1 dX1_valueAt_28 (by decide) (by omega) (by decide) ?_ | refine g_iinc3 _ dX1_valueAt_28 rfl (by decide) ?_
        refine g_goto (tgt := 7) dX1_valueAt_31 (by decide) ?_
        exact ih _ (by omega) (by omega) he
  obtain ⟨K, rfl⟩ : ∃ k1, K = k1 + 1 := ⟨K - 1, by omega⟩
  refine g_iconst (nI 0) dX1_valueAt_0 (by decide) ?_
  refine g_istore2 dX1_valueAt_1 (by decide) ?_
  first | refine g_aload0 dX1_valueAt_2 ?_ | refine g_aloadQ0 dX1_valueAt_2 ?_ | refine g_aloadN0 dX1_valueAt_2 ?_
  refine g_alen ha (Or.inl ⟨_, rfl⟩) rfl dX1_valueAt_3 ?_
  refine g_iconst (nI 1) dX1_valueAt_4 (by decide) ?_
  first | refine g_isubN dX1_valueAt_5 (by omega) ?_ | refine g_isub dX1_valueAt_5 ?_
  refine g_istore3 dX1_valueAt_6 (by decide) ?_
  exact L K 0 (by omega) (by omega) rfl
abbrev mX1_firstPlace : GM := (yX1_firstPlace, 1, (some .int), [], { frames := 0, cells := 0, slots := 0, locals := 0 }, 255)
theorem kX1_firstPlace : gCs cX1_firstPlace mX1_firstPlace 1 := ⟨q1030, q67, q1031, ⟨by decide +kernel, by decide +kernel, by decide +kernel⟩, rfl⟩
set_option maxHeartbeats 400000 in
theorem ctX1_firstPlace {E : GE} {h : AH} (m : Nat)  : Ct E cX1_firstPlace mX1_firstPlace [.int (nI m)] (h) (pN fun r h' => r = (3 * m + 1) ∧ h' = h) (noX) := by
  refine g_enter (own := "SecretVault") [some (.int (nI m))] (by decide +kernel) rfl rfl (Nat.le_of_ble_eq_true rfl) rfl rfl (fun X => ?_)
  refine g_iconst (nI 3) dX1_firstPlace_0 (by decide) ?_
  refine g_iload0 dX1_firstPlace_1 ?_
  first | refine g_imulN dX1_firstPlace_2 ?_ | refine g_imul dX1_firstPlace_2 ?_
  refine g_iconst (nI 1) dX1_firstPlace_3 (by decide) ?_
  first | refine g_iaddN dX1_firstPlace_4 ?_ | refine g_iadd dX1_firstPlace_4 ?_
  exact g_iret dX1_firstPlace_5 rfl ⟨_, rfl, rfl, rfl⟩
abbrev mX1_ownerOf : GM := (yX1_ownerOf, 1, (some .int), [], { frames := 0, cells := 0, slots := 0, locals := 0 }, 255)
theorem kX1_ownerOf : gCs cX1_ownerOf mX1_ownerOf 1 := ⟨q988, q67, q989, ⟨by decide +kernel, by decide +kernel, by decide +kernel⟩, rfl⟩
set_option maxHeartbeats 400000 in
theorem ctX1_ownerOf {E : GE} {h : AH} (x : Nat) (hx : 1 ≤ x ∧ x < 2147483648) : Ct E cX1_ownerOf mX1_ownerOf [.int (nI x)] (h) (pN fun r h' => r = ((x - 1) / 3) ∧ h' = h) (noX) := by
  refine g_enter (own := "SecretVault") [some (.int (nI x))] (by decide +kernel) rfl rfl (Nat.le_of_ble_eq_true rfl) rfl rfl (fun X => ?_)
  refine g_iload0 dX1_ownerOf_0 ?_
  refine g_iconst (nI 1) dX1_ownerOf_1 (by decide) ?_
  first | refine g_isubN dX1_ownerOf_2 (by omega) ?_ | refine g_isub dX1_ownerOf_2 ?_
  refine g_iconst (nI 3) dX1_ownerOf_3 (by decide) ?_
  refine g_idivN dX1_ownerOf_4 (by omega) (by omega) (by omega) ?_
  exact g_iret dX1_ownerOf_5 rfl ⟨_, rfl, rfl, rfl⟩
abbrev mX1_requireMember : GM := (yX1_requireMember, 1, none, [], { frames := 7, cells := 1, slots := 6, locals := 111 }, 255)
theorem kX1_requireMember : gCs cX1_requireMember mX1_requireMember 1 := ⟨q915, q67, q916, ⟨by decide +kernel, by decide +kernel, by decide +kernel⟩, rfl⟩
set_option maxHeartbeats 400000 in
theorem ctX1_requireMember {E : GE} {h : AH} (m : Nat) (hm : m < 4294967296) : Ct E cX1_requireMember mX1_requireMember [.int (nI m)] (h) (pV fun h' => m ≤ 7 ∧ h' = h) (fun C _ h' => C = "java/lang/IndexOutOfBoundsException" ∧ ¬ m ≤ 7 ∧ h' = h) := by
  refine g_enter (own := "SecretVault") [some (.int (nI m))] (by decide +kernel) rfl rfl (Nat.le_of_ble_eq_true rfl) rfl rfl (fun X => ?_)
  refine g_iload0 dX1_requireMember_0 ?_
  refine g_bipush (nI 8) dX1_requireMember_1 (by decide) ?_
  refine g_callS (ctX1_requireIndex _ _ (by omega) (by omega)) kX1_requireIndex q917 (by decide) ⟨Nat.le_of_ble_eq_true rfl, Nat.le_of_ble_eq_true rfl⟩ rfl (Nat.le_of_ble_eq_true rfl) dX1_requireMember_3 (fun C_ q_ h2_ px => by obtain ⟨rfl, c_3, rfl⟩ := px; exact gx_out0 rfl (⟨rfl, by omega, rfl⟩) (Nat.le_of_ble_eq_true rfl) (Nat.le_of_ble_eq_true rfl)) (k_v (fun h_3 p_3 => ?_))
  obtain ⟨c_3, rfl⟩ := p_3
  exact g_vret dX1_requireMember_6 rfl ⟨rfl, by omega, rfl⟩
abbrev mX1_requireMembers : GM := (yX1_requireMembers, 1, none, [], { frames := 7, cells := 1, slots := 6, locals := 110 }, 255)
theorem kX1_requireMembers : gCs cX1_requireMembers mX1_requireMembers 1 := ⟨q1165, q67, q1166, ⟨by decide +kernel, by decide +kernel, by decide +kernel⟩, rfl⟩
set_option maxHeartbeats 400000 in
theorem ctX1_requireMembers {E : GE} {h : AH} (m : Nat) (hm : m < 4294967296) : Ct E cX1_requireMembers mX1_requireMembers [.int (nI m)] (h) (pV fun h' => m ≤ 255 ∧ h' = h) (fun C _ h' => C = "java/lang/IllegalArgumentException" ∧ ¬ m ≤ 255 ∧ h' = h) := by
  refine g_enter (own := "SecretVault") [some (.int (nI m))] (by decide +kernel) rfl rfl (Nat.le_of_ble_eq_true rfl) rfl rfl (fun X => ?_)
  refine g_iload0 dX1_requireMembers_0 ?_
  refine g_iconst (nI 0) dX1_requireMembers_1 (by decide) ?_
  refine g_sipush (nI 255) dX1_requireMembers_2 (by decide) ?_
  refine g_callS (ctX1_in _ _ _ (by omega) (by omega) (by omega)) kX1_in q935 (by decide) ⟨Nat.le_of_ble_eq_true rfl, Nat.le_of_ble_eq_true rfl⟩ rfl (Nat.le_of_ble_eq_true rfl) dX1_requireMembers_5 k_x (k_n (fun r_5 h_5 p_5 => ?_))
  obtain ⟨hr_5, hi_5, rfl⟩ := p_5
  refine g_callS (ctX1_require _ (by omega)) kX1_require q938 (by decide) ⟨Nat.le_of_ble_eq_true rfl, Nat.le_of_ble_eq_true rfl⟩ rfl (Nat.le_of_ble_eq_true rfl) dX1_requireMembers_8 (fun C_ q_ h2_ px => by obtain ⟨rfl, c_8, rfl⟩ := px; exact gx_out0 rfl (⟨rfl, by omega, rfl⟩) (Nat.le_of_ble_eq_true rfl) (Nat.le_of_ble_eq_true rfl)) (k_v (fun h_8 p_8 => ?_))
  obtain ⟨c_8, rfl⟩ := p_8
  exact g_vret dX1_requireMembers_11 rfl ⟨rfl, by omega, rfl⟩
