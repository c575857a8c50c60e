/-! THE TWIN: its paper and its tape -/
set_option maxRecDepth 100000
def tPp (M : TW) (L : List Nat) : TW := fun b => if b = 12 then (fun i => L.getD i (M 12 i)) else if b = 0 then nup (M 0) 13 L.length else M b
theorem tPp_0 (M : TW) : tset M 0 13 0 = tPp M [] := by
  funext b i
  unfold tset tPp
  by_cases h5 : b = 12
  · subst h5
    rfl
  · rw [if_neg h5]
    rfl
theorem tPp_s (M : TW) (L : List Nat) (x : Nat) : tset (tset (tPp M L) 12 L.length x) 0 13 (L.length + 1) = tPp M (L ++ [x]) := by
  funext b i
  by_cases h5 : b = 12
  · subst h5
    show nup (tPp M L 12) L.length x i = (L ++ [x]).getD i (M 12 i)
    unfold nup
    show (if i = L.length then x else L.getD i (M 12 i)) = _
    rw [List.getD_eq_getElem?_getD, List.getD_eq_getElem?_getD]
    by_cases h : i = L.length
    · subst h
      simp
    · rw [if_neg h]
      by_cases h2 : i < L.length
      · rw [List.getElem?_append_left h2]
      · rw [List.getElem?_eq_none (by omega), List.getElem?_eq_none (by simp; omega)]
  · by_cases h0 : b = 0
    · subst h0
      show nup (nup (M 0) 13 L.length) 13 (L.length + 1) i = nup (M 0) 13 (L ++ [x]).length i
      unfold nup
      simp only [List.length_append, List.length_singleton]
      split <;> rfl
    · unfold tset tPp
      simp only [if_neg h5, if_neg h0]
theorem tPp_same (M : TW) (L : List Nat) : tSame M (tPp M L) := ⟨rfl, rfl, rfl, rfl, rfl, rfl, rfl, rfl, rfl⟩
theorem tPp_at (M : TW) (L : List Nat) (i : Nat) (h : i < L.length) : tPp M L 12 i = L.getD i 0 := by
  show L.getD i (M 12 i) = L.getD i 0
  rw [List.getD_eq_getElem?_getD, List.getD_eq_getElem?_getD, List.getElem?_eq_getElem h]
  rfl
/-- the digits of a number -/
def dgL (v : Nat) : List Nat := (List.range (sb_dg v)).map (sb_dec v)
theorem dgL_len (v : Nat) : (dgL v).length = sb_dg v := by unfold dgL; rw [List.length_map, List.length_range]
theorem dg_6 {v : Nat} (h : v < 1000000) : 1 ≤ sb_dg v ∧ sb_dg v ≤ 6 := by
  unfold sb_dg
  repeat' split
  all_goals omega
theorem dg_lo {v j : Nat} (h : v < 1000000) (hj : j < sb_dg v - 1) : 10 ≤ v / 10 ^ j := by
  have h6 := dg_6 h
  unfold sb_dg at hj h6
  rcases (show j = 0 ∨ j = 1 ∨ j = 2 ∨ j = 3 ∨ j = 4 by omega) with rfl | rfl | rfl | rfl | rfl <;> (repeat' split at hj) <;> omega
theorem dg_hi {v : Nat} (h : v < 1000000) : v / 10 ^ (sb_dg v - 1) < 10 := by
  unfold sb_dg
  repeat' split
  all_goals omega
theorem p10_le {j : Nat} (h : j ≤ 5) : 1 ≤ 10 ^ j ∧ 10 ^ j ≤ 100000 := by
  rcases (show j = 0 ∨ j = 1 ∨ j = 2 ∨ j = 3 ∨ j = 4 ∨ j = 5 by omega) with rfl | rfl | rfl | rfl | rfl | rfl <;> decide
def byF (n i : Nat) : Nat := if i ≤ n then 10 ^ (n - i) else 0
theorem byF_s {n i : Nat} (h : i ≤ n) : byF n i / 10 = byF n (i + 1) := by
  unfold byF
  rw [if_pos h]
  by_cases h2 : i + 1 ≤ n
  · rw [if_pos h2, show n - i = (n - (i + 1)) + 1 by omega, Nat.pow_succ, Nat.mul_div_cancel _ (by decide)]
  · rw [if_neg h2, show n - i = 0 by omega]

abbrev mX3_writes : GM := (yX3_writes, 2, none, [], { frames := 0, cells := 0, slots := 0, locals := 0 }, 255)
theorem kX3_writes : gCv cX3_writes mX3_writes 1 := ⟨q2403, qs56, q90, q2404, ⟨by decide +kernel, by decide +kernel, by decide +kernel⟩, rfl⟩
set_option maxHeartbeats 400000 in
theorem ctX3_writes {E : GE} {h : AH} {A : Nat → Nat} (hA : twA A) (M : TW) (L : List Nat) (c : Nat) (hL : L.length < 100) (hc : c < 65536) : Ct E cX3_writes mX3_writes [.ref (A 0), .int (nI c)] (twO E A (tPp M L) h) (pV fun h' => h' = twO E A (tPp M (L ++ [c])) h) noX := by
  refine g_enter (own := "SecretVaultModel") [some (.ref (A 0)), some (.int (nI c))] (by decide +kernel) rfl rfl (Nat.le_of_ble_eq_true rfl) rfl rfl (fun X => ?_)
  have e13 : tPp M L 0 13 = L.length := rfl
  first | refine g_aload0 dX3_writes_0 ?_ | refine g_aloadQ0 dX3_writes_0 ?_ | refine g_aloadN0 dX3_writes_0 ?_
  refine t_get12 hA q2109 dX3_writes_1 ?_
  first | refine g_aload0 dX3_writes_4 ?_ | refine g_aloadQ0 dX3_writes_4 ?_ | refine g_aloadN0 dX3_writes_4 ?_
  refine t_get13 hA q2110 dX3_writes_5 ?_
  refine g_iload1 dX3_writes_8 ?_
  refine g_i2cN dX3_writes_9 (by omega) ?_
  refine t_ast12 hA (by omega) (by omega) dX3_writes_10 ?_
  first | refine g_aload0 dX3_writes_11 ?_ | refine g_aloadQ0 dX3_writes_11 ?_ | refine g_aloadN0 dX3_writes_11 ?_
  refine g_dup dX3_writes_12 rfl ?_
  refine t_get13 hA q2110 dX3_writes_13 ?_
  refine g_iconst (nI 1) dX3_writes_16 (by decide) ?_
  first | refine g_iaddN dX3_writes_17 ?_ | refine g_iadd dX3_writes_17 ?_
  refine t_put13 hA q2110 dX3_writes_18 ?_
  exact g_vret dX3_writes_21 rfl ⟨rfl, congrArg (fun m => twO E A m h) (tPp_s M L c)⟩
abbrev mX3_writesNumber : GM := (yX3_writesNumber, 3, none, [], { frames := 1, cells := 0, slots := 0, locals := 21 }, 255)
theorem kX3_writesNumber : gCv cX3_writesNumber mX3_writesNumber 1 := ⟨q2399, qs55, q90, q2400, ⟨by decide +kernel, by decide +kernel, by decide +kernel⟩, rfl⟩
set_option maxHeartbeats 400000 in
theorem ctX3_writesNumber {E : GE} {h : AH} {A : Nat → Nat} (hA : twA A) (M : TW) (L : List Nat) (v : Nat) (hL : L.length + 6 ≤ 100) (hv : v < 1000000) : Ct E cX3_writesNumber mX3_writesNumber [.ref (A 0), .int (nI v)] (twO E A (tPp M L) h) (pV fun h' => h' = twO E A (tPp M (L ++ dgL v)) h) noX := by
  refine g_enter (own := "SecretVaultModel") [some (.ref (A 0)), some (.int (nI v)), none] (by decide +kernel) rfl rfl (Nat.le_of_ble_eq_true rfl) rfl rfl (fun X => ?_)
  have h6 := dg_6 hv
  have hhi := dg_hi hv
  have L2 : ∀ i, 0 ≤ i → i ≤ (sb_dg v - 1) + 1 → V E cX3_writesNumber "SecretVaultModel" mX3_writesNumber (pV fun h' => h' = twO E A (tPp M (L ++ dgL v)) h) noX X (twO E A (tPp M (L ++ (List.range i).map (sb_dec v))) h) 0 0 18 [some (.ref (A 0)), some (.int (nI (v))), some (.int (nI (byF (sb_dg v - 1) i)))] [] := by
    refine g_for _ 0 ((sb_dg v - 1) + 1) ?_ ?_
    · have e0 : byF (sb_dg v - 1) ((sb_dg v - 1) + 1) = 0 := if_neg (by omega)
      refine g_iload2 dX3_writesNumber_18 ?_
      first | refine g_ifN_le (tgt := 43) dX3_writesNumber_19 (by decide) (by omega) (fun c_19 => ?_) (fun c_19 => ?_) | refine g_if_le (tgt := 43) dX3_writesNumber_19 (by decide) (fun c_19 => ?_) (fun c_19 => ?_)
      · exact g_vret dX3_writesNumber_43 rfl ⟨rfl, by rw [show (sb_dg v - 1) + 1 = sb_dg v by omega]; rfl⟩
      · omega
    · intro i h0 hi ih
      have eb : byF (sb_dg v - 1) i = 10 ^ ((sb_dg v - 1) - i) := if_pos (by omega)
      have hp := p10_le (j := (sb_dg v - 1) - i) (by omega)
      have hs := byF_s (n := (sb_dg v - 1)) (i := i) (by omega)
      have hlen : (L ++ (List.range i).map (sb_dec v)).length = L.length + i := by simp
      have hdv : v / byF (sb_dg v - 1) i ≤ v := Nat.div_le_self _ _
      have hd : 48 + v / byF (sb_dg v - 1) i % 10 = sb_dec v i := by unfold sb_dec; rw [eb]
      rw [List.range_succ, List.map_append, ← List.append_assoc] at ih
      refine g_iload2 dX3_writesNumber_18 ?_
      first | refine g_ifN_le (tgt := 43) dX3_writesNumber_19 (by decide) (by omega) (fun c_19 => ?_) (fun c_19 => ?_) | refine g_if_le (tgt := 43) dX3_writesNumber_19 (by decide) (fun c_19 => ?_) (fun c_19 => ?_)
      · omega
      · first | refine g_aload0 dX3_writesNumber_22 ?_ | refine g_aloadQ0 dX3_writesNumber_22 ?_ | refine g_aloadN0 dX3_writesNumber_22 ?_
        refine g_bipush (nI 48) dX3_writesNumber_23 (by decide) ?_
        refine g_iload1 dX3_writesNumber_25 ?_
        refine g_iload2 dX3_writesNumber_26 ?_
        refine g_idivN dX3_writesNumber_27 (by omega) (by omega) (by omega) ?_
        refine g_bipush (nI 10) dX3_writesNumber_28 (by decide) ?_
        refine g_iremN dX3_writesNumber_30 (by omega) (by omega) (by omega) ?_
        first | refine g_iaddN dX3_writesNumber_31 ?_ | refine g_iadd dX3_writesNumber_31 ?_
        rw [hd]
        have hd2 : sb_dec v i < 65536 := by rw [← hd]; omega
        refine g_V1v0 (ctX3_writes hA _ _ _ (by omega) hd2) kX3_writes q2401 tw_0 rfl rfl (by decide) ⟨rfl, rfl⟩ ⟨Nat.zero_le _, Nat.zero_le _⟩ (Nat.le_of_ble_eq_true rfl) dX3_writesNumber_32 (fun h_32 p_32 => ?_)
        subst p_32
        refine g_iload2 dX3_writesNumber_35 ?_
        refine g_bipush (nI 10) dX3_writesNumber_36 (by decide) ?_
        refine g_idivN dX3_writesNumber_38 (by omega) (by omega) (by omega) ?_
        refine g_istore2 dX3_writesNumber_39 (by decide) ?_
        refine g_goto (tgt := 18) dX3_writesNumber_40 (by decide) ?_
        rw [hs]
        exact ih
  have L1 : ∀ j, 0 ≤ j → j ≤ (sb_dg v - 1) → V E cX3_writesNumber "SecretVaultModel" mX3_writesNumber (pV fun h' => h' = twO E A (tPp M (L ++ dgL v)) h) noX X (twO E A (tPp M L) h) 0 0 2 [some (.ref (A 0)), some (.int (nI (v))), some (.int (nI (10 ^ j)))] [] := by
    refine g_for _ 0 (sb_dg v - 1) ?_ ?_
    · have hp := p10_le (j := (sb_dg v - 1)) (by omega)
      refine g_iload1 dX3_writesNumber_2 ?_
      refine g_iload2 dX3_writesNumber_3 ?_
      refine g_idivN dX3_writesNumber_4 (by omega) (by omega) (by omega) ?_
      refine g_bipush (nI 10) dX3_writesNumber_5 (by decide) ?_
      first | refine g_icmpN_lt (tgt := 18) dX3_writesNumber_7 (by decide) (by omega) (by omega) (fun c_7 => ?_) (fun c_7 => ?_) | refine g_icmp_lt (tgt := 18) dX3_writesNumber_7 (by decide) (fun c_7 => ?_) (fun c_7 => ?_)
      · have h9 := L2 0 (by omega) (by omega)
        rw [show byF (sb_dg v - 1) 0 = 10 ^ (sb_dg v - 1) from if_pos (by omega)] at h9
        rw [show L ++ (List.range 0).map (sb_dec v) = L from List.append_nil L] at h9
        exact h9
      · omega
    · intro j h0 hj ih
      have hp := p10_le (j := j) (by omega)
      have hlo := dg_lo hv hj
      have hdv : v / 10 ^ j ≤ v := Nat.div_le_self _ _
      refine g_iload1 dX3_writesNumber_2 ?_
      refine g_iload2 dX3_writesNumber_3 ?_
      refine g_idivN dX3_writesNumber_4 (by omega) (by omega) (by omega) ?_
      refine g_bipush (nI 10) dX3_writesNumber_5 (by decide) ?_
      first | refine g_icmpN_lt (tgt := 18) dX3_writesNumber_7 (by decide) (by omega) (by omega) (fun c_7 => ?_) (fun c_7 => ?_) | refine g_icmp_lt (tgt := 18) dX3_writesNumber_7 (by decide) (fun c_7 => ?_) (fun c_7 => ?_)
      · omega
      · refine g_iload2 dX3_writesNumber_10 ?_
        refine g_bipush (nI 10) dX3_writesNumber_11 (by decide) ?_
        first | refine g_imulN dX3_writesNumber_13 ?_ | refine g_imul dX3_writesNumber_13 ?_
        refine g_istore2 dX3_writesNumber_14 (by decide) ?_
        refine g_goto (tgt := 2) dX3_writesNumber_15 (by decide) ?_
        rw [Nat.pow_succ] at ih
        exact ih
  refine g_iconst (nI 1) dX3_writesNumber_0 (by decide) ?_
  refine g_istore2 dX3_writesNumber_1 (by decide) ?_
  exact L1 0 (by omega) (by omega)
abbrev mX3_lastDigit : GM := (yX3_lastDigit, 3, (some .int), [], { frames := 0, cells := 0, slots := 0, locals := 0 }, 255)
theorem kX3_lastDigit : gCs cX3_lastDigit mX3_lastDigit 3 := ⟨q2406, q90, q2407, ⟨by decide +kernel, by decide +kernel, by decide +kernel⟩, rfl⟩
set_option maxHeartbeats 400000 in
theorem ctX3_lastDigit {E : GE} {h : AH} (p v e : Nat) (hp : p ≤ 24) (hv : v < 1019) (he : e < 1000000) : Ct E cX3_lastDigit mX3_lastDigit [.int (nI p), .int (nI v), .int (nI e)] (h) (pN fun r h' => r = ((7 * p + 3 * v + e) % 10) ∧ h' = h) noX := by
  refine g_enter (own := "SecretVaultModel") [some (.int (nI p)), some (.int (nI v)), some (.int (nI e))] (by decide +kernel) rfl rfl (Nat.le_of_ble_eq_true rfl) rfl rfl (fun X => ?_)
  refine g_bipush (nI 7) dX3_lastDigit_0 (by decide) ?_
  refine g_iload0 dX3_lastDigit_2 ?_
  first | refine g_imulN dX3_lastDigit_3 ?_ | refine g_imul dX3_lastDigit_3 ?_
  refine g_iconst (nI 3) dX3_lastDigit_4 (by decide) ?_
  refine g_iload1 dX3_lastDigit_5 ?_
  first | refine g_imulN dX3_lastDigit_6 ?_ | refine g_imul dX3_lastDigit_6 ?_
  first | refine g_iaddN dX3_lastDigit_7 ?_ | refine g_iadd dX3_lastDigit_7 ?_
  refine g_iload2 dX3_lastDigit_8 ?_
  first | refine g_iaddN dX3_lastDigit_9 ?_ | refine g_iadd dX3_lastDigit_9 ?_
  refine g_bipush (nI 10) dX3_lastDigit_10 (by decide) ?_
  refine g_iremN dX3_lastDigit_12 (by omega) (by omega) (by omega) ?_
  exact g_iret dX3_lastDigit_13 rfl ⟨_, rfl, rfl, rfl⟩
abbrev mX3_paperAt : GM := (yX3_paperAt, 2, (some .int), [], { frames := 1, cells := 0, slots := 0, locals := 21 }, 255)
theorem kX3_paperAt : gCv cX3_paperAt mX3_paperAt 1 := ⟨q2410, qs57, q90, q2411, ⟨by decide +kernel, by decide +kernel, by decide +kernel⟩, rfl⟩
set_option maxHeartbeats 400000 in
theorem ctX3_paperAt {E : GE} {h : AH} {A : Nat → Nat} (hA : twA A) (M : TW) (L : List Nat) (i : Nat) (hL : L.length ≤ 100) (hi : i < 2147483648 ∨ i = 4294967295) : Ct E cX3_paperAt mX3_paperAt [.ref (A 0), .int (nI i)] (twO E A (tPp M L) h) (pN fun r h' => ∃ c, h' = twO E A (tset (tPp M L) 0 0 c) h ∧ (c = 0 ∧ i = 4294967295 ∧ r = L.length ∨ c = 0 ∧ i < L.length ∧ r = L.getD i 0 ∨ c = 2 ∧ ¬ i = 4294967295 ∧ ¬ i < L.length)) noX := by
  refine g_enter (own := "SecretVaultModel") [some (.ref (A 0)), some (.int (nI i))] (by decide +kernel) rfl rfl (Nat.le_of_ble_eq_true rfl) rfl rfl (fun X => ?_)
  have e13 : tPp M L 0 13 = L.length := rfl
  refine g_iload1 dX3_paperAt_0 ?_
  refine g_iconst (nI 4294967295) dX3_paperAt_1 (by decide) ?_
  first | refine g_icmpN_ne (tgt := 16) dX3_paperAt_2 (by decide) (by omega) (by omega) (fun c_2 => ?_) (fun c_2 => ?_) | refine g_icmpU_ne (tgt := 16) dX3_paperAt_2 (by decide) (by omega) (by omega) (fun c_2 => ?_) (fun c_2 => ?_) | refine g_icmp_ne (tgt := 16) dX3_paperAt_2 (by decide) (fun c_2 => ?_) (fun c_2 => ?_)
  · refine g_iload1 dX3_paperAt_16 ?_
    first | refine g_aload0 dX3_paperAt_17 ?_ | refine g_aloadQ0 dX3_paperAt_17 ?_ | refine g_aloadN0 dX3_paperAt_17 ?_
    refine t_get13 hA q2110 dX3_paperAt_18 ?_
    first | refine g_icmpN_ge (tgt := 37) dX3_paperAt_21 (by decide) (by omega) (by omega) (fun c_21 => ?_) (fun c_21 => ?_) | refine g_icmp_ge (tgt := 37) dX3_paperAt_21 (by decide) (fun c_21 => ?_) (fun c_21 => ?_)
    · first | refine g_aload0 dX3_paperAt_37 ?_ | refine g_aloadQ0 dX3_paperAt_37 ?_ | refine g_aloadN0 dX3_paperAt_37 ?_
      refine g_iconst (nI 2) dX3_paperAt_38 (by decide) ?_
      refine g_V1n0 (ctX3_fails hA _ _) kX3_fails q2196 tw_0 rfl rfl (by decide) ⟨rfl, rfl⟩ ⟨Nat.zero_le _, Nat.zero_le _⟩ (Nat.le_of_ble_eq_true rfl) dX3_paperAt_39 (fun r_39 h_39 p_39 => ?_)
      obtain ⟨rfl, rfl⟩ := p_39
      exact g_iret dX3_paperAt_42 rfl ⟨_, rfl, _, rfl, by first | exact Or.inl ⟨rfl, by omega, rfl⟩ | exact Or.inr (Or.inl ⟨rfl, by omega, tPp_at M L i (by omega)⟩) | exact Or.inr (Or.inr ⟨rfl, by omega, by omega⟩)⟩
    · first | refine g_aload0 dX3_paperAt_24 ?_ | refine g_aloadQ0 dX3_paperAt_24 ?_ | refine g_aloadN0 dX3_paperAt_24 ?_
      first | refine g_aload0 dX3_paperAt_25 ?_ | refine g_aloadQ0 dX3_paperAt_25 ?_ | refine g_aloadN0 dX3_paperAt_25 ?_
      refine t_get12 hA q2109 dX3_paperAt_26 ?_
      refine g_iload1 dX3_paperAt_29 ?_
      refine t_ald12 hA (by omega) dX3_paperAt_30 ?_
      refine g_V1n0 (ctX3_done hA _ _) kX3_done q2173 tw_0 rfl rfl (by decide) ⟨rfl, rfl⟩ ⟨Nat.zero_le _, Nat.zero_le _⟩ (Nat.le_of_ble_eq_true rfl) dX3_paperAt_31 (fun r_31 h_31 p_31 => ?_)
      obtain ⟨rfl, rfl⟩ := p_31
      refine g_goto (tgt := 42) dX3_paperAt_34 (by decide) ?_
      exact g_iret dX3_paperAt_42 rfl ⟨_, rfl, _, rfl, by first | exact Or.inl ⟨rfl, by omega, rfl⟩ | exact Or.inr (Or.inl ⟨rfl, by omega, tPp_at M L i (by omega)⟩) | exact Or.inr (Or.inr ⟨rfl, by omega, by omega⟩)⟩
  · first | refine g_aload0 dX3_paperAt_5 ?_ | refine g_aloadQ0 dX3_paperAt_5 ?_ | refine g_aloadN0 dX3_paperAt_5 ?_
    first | refine g_aload0 dX3_paperAt_6 ?_ | refine g_aloadQ0 dX3_paperAt_6 ?_ | refine g_aloadN0 dX3_paperAt_6 ?_
    refine t_get13 hA q2110 dX3_paperAt_7 ?_
    refine g_V1n0 (ctX3_done hA _ _) kX3_done q2173 tw_0 rfl rfl (by decide) ⟨rfl, rfl⟩ ⟨Nat.zero_le _, Nat.zero_le _⟩ (Nat.le_of_ble_eq_true rfl) dX3_paperAt_10 (fun r_10 h_10 p_10 => ?_)
    obtain ⟨rfl, rfl⟩ := p_10
    refine g_goto (tgt := 42) dX3_paperAt_13 (by decide) ?_
    exact g_iret dX3_paperAt_42 rfl ⟨_, rfl, _, rfl, by first | exact Or.inl ⟨rfl, by omega, rfl⟩ | exact Or.inr (Or.inl ⟨rfl, by omega, tPp_at M L i (by omega)⟩) | exact Or.inr (Or.inr ⟨rfl, by omega, by omega⟩)⟩
/-- a share's text -/
def shT (p v e : Nat) : List Nat := dgL p ++ [58] ++ dgL v ++ [64] ++ dgL e ++ [35] ++ [48 + (7 * p + 3 * v + e) % 10]
theorem shT_len {p v e : Nat} (hp : p < 1000000) (hv : v < 1000000) (he : e < 1000000) : (shT p v e).length ≤ 22 := by
  have h1 := dg_6 hp
  have h2 := dg_6 hv
  have h3 := dg_6 he
  unfold shT
  simp only [List.length_append, dgL_len, List.length_singleton]
  omega
abbrev mX3_shareText : GM := (yX3_shareText, 6, (some .int), [], { frames := 3, cells := 0, slots := 0, locals := 67 }, 255)
theorem kX3_shareText : gCv cX3_shareText mX3_shareText 3 := ⟨q2394, q2395, q90, q2396, ⟨by decide +kernel, by decide +kernel, by decide +kernel⟩, rfl⟩
def xc_shareText (M : TW) (s p i : Nat) : Nat := if ¬ s ≤ 3 ∨ ¬ (1 ≤ p ∧ p ≤ 24) ∨ (2147483648 ≤ i ∧ ¬ i = 4294967295) then 1 else if ¬ gSh (M 1) s p 0 = 1 then 2 else if i = 4294967295 ∨ i < (shT p (gSh (M 1) s p 1) (gSh (M 1) s p 2)).length then 0 else 2
def xv_shareText (M : TW) (s p i : Nat) : Nat := if i = 4294967295 then (shT p (gSh (M 1) s p 1) (gSh (M 1) s p 2)).length else (shT p (gSh (M 1) s p 1) (gSh (M 1) s p 2)).getD i 0
def xm_shareText (M : TW) (s p i : Nat) : TW := M
set_option maxHeartbeats 400000 in
theorem ctX3_shareText {E : GE} {h : AH} {A : Nat → Nat} (hA : twA A) (M : TW) (s p i : Nat) (hW : tWF M) (hs : s < 4294967296) (hp : p < 4294967296) (hi : i < 4294967296) : Ct E cX3_shareText mX3_shareText [.ref (A 0), .int (nI s), .int (nI p), .int (nI i)] (twO E A M h) (pN fun r h' => tEnd E A h (xc_shareText M s p i ) (xv_shareText M s p i ) (xm_shareText M s p i ) r h') noX := by
  refine g_enter (own := "SecretVaultModel") [some (.ref (A 0)), some (.int (nI s)), some (.int (nI p)), some (.int (nI i)), none, none] (by decide +kernel) rfl rfl (Nat.le_of_ble_eq_true rfl) rfl rfl (fun X => ?_)
  have hB := hW.1
  refine g_iload1 dX3_shareText_0 ?_
  refine g_S1n0 (ctX3_isSlot _ (by omega)) kX3_isSlot q2235 (by decide) ⟨rfl, rfl⟩ ⟨Nat.zero_le _, Nat.zero_le _⟩ (Nat.le_of_ble_eq_true rfl) dX3_shareText_1 (fun r_1 h_1 p_1 => ?_)
  obtain ⟨hr_1, hi_1, rfl⟩ := p_1
  first | refine g_ifN_eq (tgt := 19) dX3_shareText_4 (by decide) (by first | omega | exact hB _ _ | (split <;> omega)) (fun c_4 => ?_) (fun c_4 => ?_) | refine g_if_eq (tgt := 19) dX3_shareText_4 (by decide) (fun c_4 => ?_) (fun c_4 => ?_)
  · first | refine g_aload0 dX3_shareText_19 ?_ | refine g_aloadQ0 dX3_shareText_19 ?_ | refine g_aloadN0 dX3_shareText_19 ?_
    refine g_iconst (nI 1) dX3_shareText_20 (by decide) ?_
    refine g_V1n0 (ctX3_fails hA _ _) kX3_fails q2196 tw_0 rfl rfl (by decide) ⟨rfl, rfl⟩ ⟨Nat.zero_le _, Nat.zero_le _⟩ (Nat.le_of_ble_eq_true rfl) dX3_shareText_21 (fun r_21 h_21 p_21 => ?_)
    obtain ⟨rfl, rfl⟩ := p_21
    exact g_iret dX3_shareText_24 rfl ⟨_, rfl, (by first | exact t_fails (by unfold xc_shareText; (repeat' split) <;> omega) (by omega) (by unfold xm_shareText; exact tSame.rf) | exact ⟨_, rfl, by rw [tset_ss]; unfold xc_shareText; (repeat' split) <;> omega, fun z => by unfold xv_shareText; unfold xc_shareText at z; rcases hi_115 with q | q | q <;> (first | (rw [if_pos (by omega)]; exact q.2.2) | (rw [if_neg (by omega)]; exact q.2.2) | (exfalso; revert z; (repeat' split) <;> omega)), by unfold xm_shareText; exact (tPp_same _ _).f 0 _ (by decide)⟩)⟩
  · refine g_iload2 dX3_shareText_7 ?_
    refine g_S1n0 (ctX3_isPlace _ (by omega)) kX3_isPlace q2386 (by decide) ⟨rfl, rfl⟩ ⟨Nat.zero_le _, Nat.zero_le _⟩ (Nat.le_of_ble_eq_true rfl) dX3_shareText_8 (fun r_8 h_8 p_8 => ?_)
    obtain ⟨hr_8, hi_8, rfl⟩ := p_8
    first | refine g_ifN_eq (tgt := 19) dX3_shareText_11 (by decide) (by first | omega | exact hB _ _ | (split <;> omega)) (fun c_11 => ?_) (fun c_11 => ?_) | refine g_if_eq (tgt := 19) dX3_shareText_11 (by decide) (fun c_11 => ?_) (fun c_11 => ?_)
    · first | refine g_aload0 dX3_shareText_19 ?_ | refine g_aloadQ0 dX3_shareText_19 ?_ | refine g_aloadN0 dX3_shareText_19 ?_
      refine g_iconst (nI 1) dX3_shareText_20 (by decide) ?_
      refine g_V1n0 (ctX3_fails hA _ _) kX3_fails q2196 tw_0 rfl rfl (by decide) ⟨rfl, rfl⟩ ⟨Nat.zero_le _, Nat.zero_le _⟩ (Nat.le_of_ble_eq_true rfl) dX3_shareText_21 (fun r_21 h_21 p_21 => ?_)
      obtain ⟨rfl, rfl⟩ := p_21
      exact g_iret dX3_shareText_24 rfl ⟨_, rfl, (by first | exact t_fails (by unfold xc_shareText; (repeat' split) <;> omega) (by omega) (by unfold xm_shareText; exact tSame.rf) | exact ⟨_, rfl, by rw [tset_ss]; unfold xc_shareText; (repeat' split) <;> omega, fun z => by unfold xv_shareText; unfold xc_shareText at z; rcases hi_115 with q | q | q <;> (first | (rw [if_pos (by omega)]; exact q.2.2) | (rw [if_neg (by omega)]; exact q.2.2) | (exfalso; revert z; (repeat' split) <;> omega)), by unfold xm_shareText; exact (tPp_same _ _).f 0 _ (by decide)⟩)⟩
    · refine g_iload3 dX3_shareText_14 ?_
      refine g_iconst (nI 4294967295) dX3_shareText_15 (by decide) ?_
      refine g_icmp_ge (tgt := 25) dX3_shareText_16 (by decide) (fun c_16 => ?_) (fun c_16 => ?_)
      · have c9 : i < 2147483648 ∨ i = 4294967295 := by have z := (nI_leS (by decide) hi).mp c_16; unfold sg at z; split at z <;> omega
        first | refine g_aload0 dX3_shareText_25 ?_ | refine g_aloadQ0 dX3_shareText_25 ?_ | refine g_aloadN0 dX3_shareText_25 ?_
        refine g_iload1 dX3_shareText_26 ?_
        refine g_iload2 dX3_shareText_27 ?_
        refine g_V2n0 (ctX3_hasShare hA _ _ _ hB (by omega) (by omega)) kX3_hasShare q2212 tw_0 rfl rfl (by decide) ⟨rfl, rfl⟩ ⟨Nat.zero_le _, Nat.zero_le _⟩ (Nat.le_of_ble_eq_true rfl) dX3_shareText_28 (fun r_28 h_28 p_28 => ?_)
        obtain ⟨hr_28, hi_28, rfl⟩ := p_28
        first | refine g_ifN_ne (tgt := 40) dX3_shareText_31 (by decide) (by first | omega | exact hB _ _ | (split <;> omega)) (fun c_31 => ?_) (fun c_31 => ?_) | refine g_if_ne (tgt := 40) dX3_shareText_31 (by decide) (fun c_31 => ?_) (fun c_31 => ?_)
        · have hsh := (hW.2.2.2.2 s (by omega)).2.2.2.2.2.2 p (by omega) (by omega)
          have hln := shT_len (p := p) (v := gSh (M 1) s p 1) (e := gSh (M 1) s p 2) (by omega) (by omega) (by omega)
          have g1 := dg_6 (v := p) (by omega)
          have g2 := dg_6 (v := gSh (M 1) s p 1) (by omega)
          have g3 := dg_6 (v := gSh (M 1) s p 2) (by omega)
          first | refine g_aload0 dX3_shareText_40 ?_ | refine g_aloadQ0 dX3_shareText_40 ?_ | refine g_aloadN0 dX3_shareText_40 ?_
          refine g_iload1 dX3_shareText_41 ?_
          refine g_iload2 dX3_shareText_42 ?_
          refine g_iconst (nI 1) dX3_shareText_43 (by decide) ?_
          refine g_V3n0 (ctX3_shareOf hA _ _ _ _ (by omega) (by omega) (by omega)) kX3_shareOf q2216 tw_0 rfl rfl (by decide) ⟨rfl, rfl⟩ ⟨Nat.zero_le _, Nat.zero_le _⟩ (Nat.le_of_ble_eq_true rfl) dX3_shareText_44 (fun r_44 h_44 p_44 => ?_)
          obtain ⟨rfl, rfl⟩ := p_44
          refine g_istore4 dX3_shareText_47 (by decide) ?_
          first | refine g_aload0 dX3_shareText_49 ?_ | refine g_aloadQ0 dX3_shareText_49 ?_ | refine g_aloadN0 dX3_shareText_49 ?_
          refine g_iload1 dX3_shareText_50 ?_
          refine g_iload2 dX3_shareText_51 ?_
          refine g_iconst (nI 2) dX3_shareText_52 (by decide) ?_
          refine g_V3n0 (ctX3_shareOf hA _ _ _ _ (by omega) (by omega) (by omega)) kX3_shareOf q2216 tw_0 rfl rfl (by decide) ⟨rfl, rfl⟩ ⟨Nat.zero_le _, Nat.zero_le _⟩ (Nat.le_of_ble_eq_true rfl) dX3_shareText_53 (fun r_53 h_53 p_53 => ?_)
          obtain ⟨rfl, rfl⟩ := p_53
          refine g_istore5 dX3_shareText_56 (by decide) ?_
          first | refine g_aload0 dX3_shareText_58 ?_ | refine g_aloadQ0 dX3_shareText_58 ?_ | refine g_aloadN0 dX3_shareText_58 ?_
          refine g_iconst (nI 0) dX3_shareText_59 (by decide) ?_
          refine t_put13 hA q2110 dX3_shareText_60 ?_
          rw [tPp_0]
          first | refine g_aload0 dX3_shareText_63 ?_ | refine g_aloadQ0 dX3_shareText_63 ?_ | refine g_aloadN0 dX3_shareText_63 ?_
          refine g_iload2 dX3_shareText_64 ?_
          refine g_V1v0 (ctX3_writesNumber hA _ _ _ (by simp only [List.length_append, dgL_len, List.length_singleton, List.length_nil]; omega) (by omega)) kX3_writesNumber q2397 tw_0 rfl rfl (by decide) ⟨rfl, rfl⟩ ⟨Nat.zero_le _, Nat.zero_le _⟩ (Nat.le_of_ble_eq_true rfl) dX3_shareText_65 (fun h_65 p_65 => ?_)
          subst p_65
          rw [List.nil_append]
          first | refine g_aload0 dX3_shareText_68 ?_ | refine g_aloadQ0 dX3_shareText_68 ?_ | refine g_aloadN0 dX3_shareText_68 ?_
          refine g_bipush (nI 58) dX3_shareText_69 (by decide) ?_
          refine g_V1v0 (ctX3_writes hA _ _ _ (by simp only [List.length_append, dgL_len, List.length_singleton, List.length_nil]; omega) (by omega)) kX3_writes q2401 tw_0 rfl rfl (by decide) ⟨rfl, rfl⟩ ⟨Nat.zero_le _, Nat.zero_le _⟩ (Nat.le_of_ble_eq_true rfl) dX3_shareText_71 (fun h_71 p_71 => ?_)
          subst p_71
          first | refine g_aload0 dX3_shareText_74 ?_ | refine g_aloadQ0 dX3_shareText_74 ?_ | refine g_aloadN0 dX3_shareText_74 ?_
          refine g_iload4 dX3_shareText_75 ?_
          refine g_V1v0 (ctX3_writesNumber hA _ _ _ (by simp only [List.length_append, dgL_len, List.length_singleton, List.length_nil]; omega) (by omega)) kX3_writesNumber q2397 tw_0 rfl rfl (by decide) ⟨rfl, rfl⟩ ⟨Nat.zero_le _, Nat.zero_le _⟩ (Nat.le_of_ble_eq_true rfl) dX3_shareText_77 (fun h_77 p_77 => ?_)
          subst p_77
          first | refine g_aload0 dX3_shareText_80 ?_ | refine g_aloadQ0 dX3_shareText_80 ?_ | refine g_aloadN0 dX3_shareText_80 ?_
          refine g_bipush (nI 64) dX3_shareText_81 (by decide) ?_
          refine g_V1v0 (ctX3_writes hA _ _ _ (by simp only [List.length_append, dgL_len, List.length_singleton, List.length_nil]; omega) (by omega)) kX3_writes q2401 tw_0 rfl rfl (by decide) ⟨rfl, rfl⟩ ⟨Nat.zero_le _, Nat.zero_le _⟩ (Nat.le_of_ble_eq_true rfl) dX3_shareText_83 (fun h_83 p_83 => ?_)
          subst p_83
          have hev := (hW.2.2.2.2 s (by omega)).2.2.2.2.2.2 p (by omega) (by omega)
          first | refine g_aload0 dX3_shareText_86 ?_ | refine g_aloadQ0 dX3_shareText_86 ?_ | refine g_aloadN0 dX3_shareText_86 ?_
          refine g_iload5 dX3_shareText_87 ?_
          refine g_V1v0 (ctX3_writesNumber hA _ _ _ (by simp only [List.length_append, dgL_len, List.length_singleton, List.length_nil]; omega) (by omega)) kX3_writesNumber q2397 tw_0 rfl rfl (by decide) ⟨rfl, rfl⟩ ⟨Nat.zero_le _, Nat.zero_le _⟩ (Nat.le_of_ble_eq_true rfl) dX3_shareText_89 (fun h_89 p_89 => ?_)
          subst p_89
          first | refine g_aload0 dX3_shareText_92 ?_ | refine g_aloadQ0 dX3_shareText_92 ?_ | refine g_aloadN0 dX3_shareText_92 ?_
          refine g_bipush (nI 35) dX3_shareText_93 (by decide) ?_
          refine g_V1v0 (ctX3_writes hA _ _ _ (by simp only [List.length_append, dgL_len, List.length_singleton, List.length_nil]; omega) (by omega)) kX3_writes q2401 tw_0 rfl rfl (by decide) ⟨rfl, rfl⟩ ⟨Nat.zero_le _, Nat.zero_le _⟩ (Nat.le_of_ble_eq_true rfl) dX3_shareText_95 (fun h_95 p_95 => ?_)
          subst p_95
          first | refine g_aload0 dX3_shareText_98 ?_ | refine g_aloadQ0 dX3_shareText_98 ?_ | refine g_aloadN0 dX3_shareText_98 ?_
          refine g_bipush (nI 48) dX3_shareText_99 (by decide) ?_
          refine g_iload2 dX3_shareText_101 ?_
          refine g_iload4 dX3_shareText_102 ?_
          refine g_iload5 dX3_shareText_104 ?_
          refine g_S3n0 (ctX3_lastDigit _ _ _ (by omega) (by omega) (by omega)) kX3_lastDigit q2405 (by decide) ⟨rfl, rfl⟩ ⟨Nat.zero_le _, Nat.zero_le _⟩ (Nat.le_of_ble_eq_true rfl) dX3_shareText_106 (fun r_106 h_106 p_106 => ?_)
          obtain ⟨rfl, rfl⟩ := p_106
          first | refine g_iaddN dX3_shareText_109 ?_ | refine g_iadd dX3_shareText_109 ?_
          refine g_V1v0 (ctX3_writes hA _ _ _ (by simp only [List.length_append, dgL_len, List.length_singleton, List.length_nil]; omega) (by omega)) kX3_writes q2401 tw_0 rfl rfl (by decide) ⟨rfl, rfl⟩ ⟨Nat.zero_le _, Nat.zero_le _⟩ (Nat.le_of_ble_eq_true rfl) dX3_shareText_110 (fun h_110 p_110 => ?_)
          subst p_110
          first | refine g_aload0 dX3_shareText_113 ?_ | refine g_aloadQ0 dX3_shareText_113 ?_ | refine g_aloadN0 dX3_shareText_113 ?_
          refine g_iload3 dX3_shareText_114 ?_
          refine g_V1n0 (ctX3_paperAt hA _ (shT p (gSh (M 1) s p 1) (gSh (M 1) s p 2)) _ (by omega) (by omega)) kX3_paperAt q2408 tw_0 rfl rfl (by decide) ⟨rfl, rfl⟩ ⟨Nat.zero_le _, Nat.zero_le _⟩ (Nat.le_of_ble_eq_true rfl) dX3_shareText_115 (fun r_115 h_115 p_115 => ?_)
          obtain ⟨cc, rfl, hi_115⟩ := p_115
          exact g_iret dX3_shareText_118 rfl ⟨_, rfl, (by first | exact t_fails (by unfold xc_shareText; (repeat' split) <;> omega) (by omega) (by unfold xm_shareText; exact tSame.rf) | exact ⟨_, rfl, by rw [tset_ss]; unfold xc_shareText; (repeat' split) <;> omega, fun z => by unfold xv_shareText; unfold xc_shareText at z; rcases hi_115 with q | q | q <;> (first | (rw [if_pos (by omega)]; exact q.2.2) | (rw [if_neg (by omega)]; exact q.2.2) | (exfalso; revert z; (repeat' split) <;> omega)), by unfold xm_shareText; exact (tPp_same _ _).f 0 _ (by decide)⟩)⟩
        · first | refine g_aload0 dX3_shareText_34 ?_ | refine g_aloadQ0 dX3_shareText_34 ?_ | refine g_aloadN0 dX3_shareText_34 ?_
          refine g_iconst (nI 2) dX3_shareText_35 (by decide) ?_
          refine g_V1n0 (ctX3_fails hA _ _) kX3_fails q2196 tw_0 rfl rfl (by decide) ⟨rfl, rfl⟩ ⟨Nat.zero_le _, Nat.zero_le _⟩ (Nat.le_of_ble_eq_true rfl) dX3_shareText_36 (fun r_36 h_36 p_36 => ?_)
          obtain ⟨rfl, rfl⟩ := p_36
          exact g_iret dX3_shareText_39 rfl ⟨_, rfl, (by first | exact t_fails (by unfold xc_shareText; (repeat' split) <;> omega) (by omega) (by unfold xm_shareText; exact tSame.rf) | exact ⟨_, rfl, by rw [tset_ss]; unfold xc_shareText; (repeat' split) <;> omega, fun z => by unfold xv_shareText; unfold xc_shareText at z; rcases hi_115 with q | q | q <;> (first | (rw [if_pos (by omega)]; exact q.2.2) | (rw [if_neg (by omega)]; exact q.2.2) | (exfalso; revert z; (repeat' split) <;> omega)), by unfold xm_shareText; exact (tPp_same _ _).f 0 _ (by decide)⟩)⟩
      · have c9 : 2147483648 ≤ i ∧ ¬ i = 4294967295 := by have z := (not_congr (nI_leS (by decide) hi)).mp c_16; unfold sg at z; split at z <;> omega
        first | refine g_aload0 dX3_shareText_19 ?_ | refine g_aloadQ0 dX3_shareText_19 ?_ | refine g_aloadN0 dX3_shareText_19 ?_
        refine g_iconst (nI 1) dX3_shareText_20 (by decide) ?_
        refine g_V1n0 (ctX3_fails hA _ _) kX3_fails q2196 tw_0 rfl rfl (by decide) ⟨rfl, rfl⟩ ⟨Nat.zero_le _, Nat.zero_le _⟩ (Nat.le_of_ble_eq_true rfl) dX3_shareText_21 (fun r_21 h_21 p_21 => ?_)
        obtain ⟨rfl, rfl⟩ := p_21
        exact g_iret dX3_shareText_24 rfl ⟨_, rfl, (by first | exact t_fails (by unfold xc_shareText; (repeat' split) <;> omega) (by omega) (by unfold xm_shareText; exact tSame.rf) | exact ⟨_, rfl, by rw [tset_ss]; unfold xc_shareText; (repeat' split) <;> omega, fun z => by unfold xv_shareText; unfold xc_shareText at z; rcases hi_115 with q | q | q <;> (first | (rw [if_pos (by omega)]; exact q.2.2) | (rw [if_neg (by omega)]; exact q.2.2) | (exfalso; revert z; (repeat' split) <;> omega)), by unfold xm_shareText; exact (tPp_same _ _).f 0 _ (by decide)⟩)⟩
