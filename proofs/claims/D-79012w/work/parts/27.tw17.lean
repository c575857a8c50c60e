/-! THE TWIN: groups, a secret's numbers, enrolling -/
set_option maxRecDepth 100000
abbrev clB (set m : Nat) : Nat := set &&& (1 * 2 ^ m ^^^ 4294967295)
theorem clB_le (set m : Nat) : clB set m ≤ set := Nat.and_le_left
def grN (g : Nat → Nat) (s : Nat) : Nat → Nat
  | 0 => 0
  | i + 1 => grN g s i + (if opF g s i then 1 else 0)
/-- 1: opened by the set, and by none with one of its first m members less -/
def smS (g : Nat → Nat) (s set : Nat) : Nat → Nat
  | 0 => if opF g s set then 1 else 0
  | m + 1 => if smS g s set m = 1 ∧ (set / 2 ^ m % 2 = 0 ∨ ¬ opF g s (clB set m)) then 1 else 0
theorem smS_down (g : Nat → Nat) (s set m n : Nat) (h : ¬ smS g s set m = 1) : ¬ smS g s set (m + n) = 1 := by
  induction n with
  | zero => exact h
  | succ n ih =>
    show ¬ smS g s set (m + n + 1) = 1
    rw [smS, if_neg (fun z => ih z.1)]
    decide
def siN (g : Nat → Nat) (s : Nat) : Nat → Nat
  | 0 => 0
  | i + 1 => siN g s i + (if smS g s i 8 = 1 then 1 else 0)
/-- the smallest set of that number among the first i, one more; or 0 -/
def siF (g : Nat → Nat) (s k : Nat) : Nat → Nat
  | 0 => 0
  | i + 1 => if siF g s k i = 0 then (if smS g s i 8 = 1 ∧ siN g s i = k then i + 1 else 0) else siF g s k i
theorem siN_le (g : Nat → Nat) (s i : Nat) : siN g s i ≤ i := by
  induction i with
  | zero => exact Nat.le_refl _
  | succ i ih =>
    rw [siN]
    split <;> omega
theorem grN_le (g : Nat → Nat) (s i : Nat) : grN g s i ≤ i := by
  induction i with
  | zero => exact Nat.le_refl _
  | succ i ih =>
    rw [grN]
    split <;> omega
theorem siF_up (g : Nat → Nat) (s k i n : Nat) (h : siF g s k i ≠ 0) : siF g s k (i + n) = siF g s k i := by
  induction n with
  | zero => rfl
  | succ n ih =>
    show siF g s k (i + n + 1) = _
    rw [siF, ih, if_neg h]
theorem ctX3_opensR {E : GE} {h : AH} {A : Nat → Nat} (hA : twA A) (M M' : TW) (s mem : Nat) (hI : tSame M M') (hB' : twB M') (hs : s < 4) (hm : mem < 2147483648) (hS : slP (M 1) s) (hP : plW (M 1) s) : Ct E cX3_opens mX3_opens [.ref (A 0), .int (nI s), .int (nI mem)] (twO E A M' h) (pN fun r h' => r < 2 ∧ (r = 1 ↔ opF (M 1) s mem) ∧ ∃ M2, h' = twO E A M2 h ∧ tSame M M2 ∧ twB M2) noX := by
  have e : M' 1 = M 1 := hI.1
  refine (ctX3_opens hA M' s mem hB' hs hm (by rw [e]; exact hS) (by rw [e]; exact hP)).impN (fun r h' z => ?_)
  obtain ⟨z1, z2, rfl⟩ := z
  rw [e] at z2
  exact ⟨z1, z2, _, rfl, hI.tr (tNd_same _ _), twB_op hB'⟩
abbrev mX3_groups : GM := (yX3_groups, 5, (some .int), [], { frames := 48, cells := 0, slots := 0, locals := 2675 }, 255)
theorem kX3_groups : gCv cX3_groups mX3_groups 1 := ⟨q2487, q2488, q90, q2489, ⟨by decide +kernel, by decide +kernel, by decide +kernel⟩, rfl⟩
def xc_groups (M : TW) (s : Nat) : Nat := if ¬ s ≤ 3 then 1 else if gOf (M 1) s 0 = 0 then 2 else 0
def xv_groups (M : TW) (s : Nat) : Nat := grN (M 1) s 256
def xm_groups (M : TW) (s : Nat) : TW := M
set_option maxHeartbeats 400000 in
theorem ctX3_groups {E : GE} {h : AH} {A : Nat → Nat} (hA : twA A) (M : TW) (s : Nat) (hW : tWF M) (hWp : ∀ s, s < 4 → plW (M 1) s) (hs : s < 4294967296) : Ct E cX3_groups mX3_groups [.ref (A 0), .int (nI s)] (twO E A M h) (pN fun r h' => tEnd E A h (xc_groups M s ) (xv_groups M s ) (xm_groups M s ) r h') noX := by
  refine g_enter (own := "SecretVaultModel") [some (.ref (A 0)), some (.int (nI s)), none, none, none] (by decide +kernel) rfl rfl (Nat.le_of_ble_eq_true rfl) rfl rfl (fun X => ?_)
  have hB := hW.1
  have L : ∀ i, 0 ≤ i → i ≤ 256 → s ≤ 3 → ¬ gOf (M 1) s 0 = 0 → ∀ (M' : TW), tSame M M' → twB M' → V E cX3_groups "SecretVaultModel" mX3_groups (pN fun r h' => tEnd E A h (xc_groups M s ) (xv_groups M s ) (xm_groups M s ) r h') noX X (twO E A M' h) 0 0 21 [some (.ref (A 0)), some (.int (nI (s))), some (.int (nI (0))), some (.int (nI (grN (M 1) s i))), some (.int (nI (i)))] [] := by
    intro i h00 h01 hs3 hh
    have hS := (hW.2.2.2.2 s (by omega)).P
    have hP := hWp s (by omega)
    refine g_for (fun i => ∀ (M' : TW), tSame M M' → twB M' → V E cX3_groups "SecretVaultModel" mX3_groups (pN fun r h' => tEnd E A h (xc_groups M s ) (xv_groups M s ) (xm_groups M s ) r h') noX X (twO E A M' h) 0 0 21 [some (.ref (A 0)), some (.int (nI (s))), some (.int (nI (0))), some (.int (nI (grN (M 1) s i))), some (.int (nI (i)))] []) 0 256 ?_ ?_ i h00 h01
    · intro M' hI hB1
      refine g_iload4 dX3_groups_21 ?_
      refine g_sipush (nI 256) dX3_groups_23 (by decide) ?_
      first | refine g_icmpN_ge (tgt := 53) dX3_groups_26 (by decide) (by first | omega | exact hB _ _ | (split <;> omega)) (by first | omega | exact hB _ _ | (split <;> omega)) (fun c_26 => ?_) (fun c_26 => ?_) | refine g_icmp_ge (tgt := 53) dX3_groups_26 (by decide) (fun c_26 => ?_) (fun c_26 => ?_)
      · first | refine g_aload0 dX3_groups_53 ?_ | refine g_aloadQ0 dX3_groups_53 ?_ | refine g_aloadN0 dX3_groups_53 ?_
        refine g_iload3 dX3_groups_54 ?_
        refine g_V1n0 (ctX3_done hA _ _) kX3_done q2173 tw_0 rfl rfl (by decide) ⟨rfl, rfl⟩ ⟨Nat.zero_le _, Nat.zero_le _⟩ (Nat.le_of_ble_eq_true rfl) dX3_groups_55 (fun r_55 h_55 p_55 => ?_)
        obtain ⟨rfl, rfl⟩ := p_55
        exact g_iret dX3_groups_58 rfl ⟨_, rfl, t_done (by unfold xc_groups; (repeat' split) <;> omega) rfl (by unfold xm_groups; exact hI)⟩
      · omega
    · intro i h0 hi ih M' hI hB1
      have hgn := grN_le (M 1) s i
      refine g_iload4 dX3_groups_21 ?_
      refine g_sipush (nI 256) dX3_groups_23 (by decide) ?_
      first | refine g_icmpN_ge (tgt := 53) dX3_groups_26 (by decide) (by first | omega | exact hB _ _ | (split <;> omega)) (by first | omega | exact hB _ _ | (split <;> omega)) (fun c_26 => ?_) (fun c_26 => ?_) | refine g_icmp_ge (tgt := 53) dX3_groups_26 (by decide) (fun c_26 => ?_) (fun c_26 => ?_)
      · omega
      · refine g_iload3 dX3_groups_29 ?_
        first | refine g_aload0 dX3_groups_30 ?_ | refine g_aloadQ0 dX3_groups_30 ?_ | refine g_aloadN0 dX3_groups_30 ?_
        refine g_iload1 dX3_groups_31 ?_
        refine g_iload4 dX3_groups_32 ?_
        refine g_V2n0 (ctX3_opensR hA M _ _ _ hI hB1 (by omega) (by omega) hS hP) kX3_opens q2296 tw_0 rfl rfl (by decide) ⟨rfl, rfl⟩ ⟨Nat.zero_le _, Nat.zero_le _⟩ (Nat.le_of_ble_eq_true rfl) dX3_groups_34 (fun r_34 h_34 p_34 => ?_)
        obtain ⟨hr_34, hi_34, M34, rfl, hI, hB1⟩ := p_34
        first | refine g_ifN_eq (tgt := 44) dX3_groups_37 (by decide) (by first | omega | exact hB _ _ | (split <;> omega)) (fun c_37 => ?_) (fun c_37 => ?_) | refine g_if_eq (tgt := 44) dX3_groups_37 (by decide) (fun c_37 => ?_) (fun c_37 => ?_)
        · refine g_iconst (nI 0) dX3_groups_44 (by decide) ?_
          first | refine g_iaddN dX3_groups_45 ?_ | refine g_iadd dX3_groups_45 ?_
          refine g_istore3 dX3_groups_46 (by decide) ?_
          first | refine g_iincN4 1 dX3_groups_47 (by decide) (by decide) ?_ | refine g_iinc4 _ dX3_groups_47 rfl (by decide) ?_
          refine g_goto (tgt := 21) dX3_groups_50 (by decide) ?_
          first | (rw [show grN (M 1) s (i + 1) = grN (M 1) s i + 1 from by rw [grN, if_pos (by omega)]] at ih; exact ih _ hI hB1) | (rw [show grN (M 1) s (i + 1) = grN (M 1) s i + 0 from by rw [grN, if_neg (by omega)]] at ih; exact ih _ hI hB1)
        · refine g_iconst (nI 1) dX3_groups_40 (by decide) ?_
          refine g_goto (tgt := 45) dX3_groups_41 (by decide) ?_
          first | refine g_iaddN dX3_groups_45 ?_ | refine g_iadd dX3_groups_45 ?_
          refine g_istore3 dX3_groups_46 (by decide) ?_
          first | refine g_iincN4 1 dX3_groups_47 (by decide) (by decide) ?_ | refine g_iinc4 _ dX3_groups_47 rfl (by decide) ?_
          refine g_goto (tgt := 21) dX3_groups_50 (by decide) ?_
          first | (rw [show grN (M 1) s (i + 1) = grN (M 1) s i + 1 from by rw [grN, if_pos (by omega)]] at ih; exact ih _ hI hB1) | (rw [show grN (M 1) s (i + 1) = grN (M 1) s i + 0 from by rw [grN, if_neg (by omega)]] at ih; exact ih _ hI hB1)
  first | refine g_aload0 dX3_groups_0 ?_ | refine g_aloadQ0 dX3_groups_0 ?_ | refine g_aloadN0 dX3_groups_0 ?_
  refine g_iload1 dX3_groups_1 ?_
  refine g_V1n0 (ctX3_lacks hA _ _ hB (by omega)) kX3_lacks q2277 tw_0 rfl rfl (by decide) ⟨rfl, rfl⟩ ⟨Nat.zero_le _, Nat.zero_le _⟩ (Nat.le_of_ble_eq_true rfl) dX3_groups_2 (fun r_2 h_2 p_2 => ?_)
  obtain ⟨hi_2, rfl⟩ := p_2
  refine g_istore2 dX3_groups_5 (by decide) ?_
  refine g_iload2 dX3_groups_6 ?_
  first | refine g_ifN_eq (tgt := 16) dX3_groups_7 (by decide) (by first | omega | exact hB _ _ | (split <;> omega)) (fun c_7 => ?_) (fun c_7 => ?_) | refine g_if_eq (tgt := 16) dX3_groups_7 (by decide) (fun c_7 => ?_) (fun c_7 => ?_)
  · refine g_iconst (nI 0) dX3_groups_16 (by decide) ?_
    refine g_istore3 dX3_groups_17 (by decide) ?_
    refine g_iconst (nI 0) dX3_groups_18 (by decide) ?_
    refine g_istore4 dX3_groups_19 (by decide) ?_
    obtain rfl : r_2 = 0 := by omega
    exact L 0 (by omega) (by omega) (by omega) (by omega) _ tSame.rf hB
  · first | refine g_aload0 dX3_groups_10 ?_ | refine g_aloadQ0 dX3_groups_10 ?_ | refine g_aloadN0 dX3_groups_10 ?_
    refine g_iload2 dX3_groups_11 ?_
    refine g_V1n0 (ctX3_fails hA _ _) kX3_fails q2196 tw_0 rfl rfl (by decide) ⟨rfl, rfl⟩ ⟨Nat.zero_le _, Nat.zero_le _⟩ (Nat.le_of_ble_eq_true rfl) dX3_groups_12 (fun r_12 h_12 p_12 => ?_)
    obtain ⟨rfl, rfl⟩ := p_12
    exact g_iret dX3_groups_15 rfl ⟨_, rfl, t_fails (by unfold xc_groups; (repeat' split) <;> omega) (by omega) (by unfold xm_groups; exact tSame.rf)⟩
abbrev mX3_isSmallest : GM := (yX3_isSmallest, 5, (some .boolean), [], { frames := 48, cells := 0, slots := 0, locals := 2675 }, 255)
theorem kX3_isSmallest : gCv cX3_isSmallest mX3_isSmallest 2 := ⟨q2496, qs64, q90, q2497, ⟨by decide +kernel, by decide +kernel, by decide +kernel⟩, rfl⟩
set_option maxHeartbeats 400000 in
theorem ctX3_isSmallest {E : GE} {h : AH} {A : Nat → Nat} (hA : twA A) (M M1 : TW) (s set : Nat) (hI : tSame M M1) (hB1 : twB M1) (hs : s < 4) (hm : set < 256) (hS : slP (M 1) s) (hP : plW (M 1) s) : Ct E cX3_isSmallest mX3_isSmallest [.ref (A 0), .int (nI s), .int (nI set)] (twO E A M1 h) (pN fun r h' => r < 2 ∧ (r = 1 ↔ smS (M 1) s set 8 = 1) ∧ ∃ M2, h' = twO E A M2 h ∧ tSame M M2 ∧ twB M2) noX := by
  refine g_enter (own := "SecretVaultModel") [some (.ref (A 0)), some (.int (nI s)), some (.int (nI set)), none, none] (by decide +kernel) rfl rfl (Nat.le_of_ble_eq_true rfl) rfl rfl (fun X => ?_)
  have L : ∀ m, 0 ≤ m → m ≤ 8 → ∀ (is : Nat) (M' : TW), is < 2 → (is = 1 ↔ smS (M 1) s set m = 1) → tSame M M' → twB M' → V E cX3_isSmallest "SecretVaultModel" mX3_isSmallest (pN fun r h' => r < 2 ∧ (r = 1 ↔ smS (M 1) s set 8 = 1) ∧ ∃ M2, h' = twO E A M2 h ∧ tSame M M2 ∧ twB M2) noX X (twO E A M' h) 0 0 10 [some (.ref (A 0)), some (.int (nI (s))), some (.int (nI (set))), some (.int (nI (is))), some (.int (nI (m)))] [] := by
    refine g_for (fun m => ∀ (is : Nat) (M' : TW), is < 2 → (is = 1 ↔ smS (M 1) s set m = 1) → tSame M M' → twB M' → V E cX3_isSmallest "SecretVaultModel" mX3_isSmallest (pN fun r h' => r < 2 ∧ (r = 1 ↔ smS (M 1) s set 8 = 1) ∧ ∃ M2, h' = twO E A M2 h ∧ tSame M M2 ∧ twB M2) noX X (twO E A M' h) 0 0 10 [some (.ref (A 0)), some (.int (nI (s))), some (.int (nI (set))), some (.int (nI (is))), some (.int (nI (m)))] []) 0 8 ?_ ?_
    · intro is M' h2 hi hI hB1
      refine g_iload4 dX3_isSmallest_10 ?_
      refine g_bipush (nI 8) dX3_isSmallest_12 (by decide) ?_
      first | refine g_icmpN_ge (tgt := 58) dX3_isSmallest_14 (by decide) (by omega) (by omega) (fun c_14 => ?_) (fun c_14 => ?_) | refine g_icmp_ge (tgt := 58) dX3_isSmallest_14 (by decide) (fun c_14 => ?_) (fun c_14 => ?_)
      · refine g_iload3 dX3_isSmallest_58 ?_
        exact g_zret dX3_isSmallest_59 rfl (nar_zb (by omega)) ⟨_, rfl, by omega, hi, _, rfl, hI, hB1⟩
      · omega
    · intro m h0 hm ih is M' h2 hi hI hB1
      have hcl := clB_le set m
      have hsd := smS_down (M 1) s set m (8 - m)
      rw [show m + (8 - m) = 8 by omega] at hsd
      have hS1 : smS (M 1) s set (m + 1) = if smS (M 1) s set m = 1 ∧ (set / 2 ^ m % 2 = 0 ∨ ¬ opF (M 1) s (clB set m)) then 1 else 0 := rfl
      refine g_iload4 dX3_isSmallest_10 ?_
      refine g_bipush (nI 8) dX3_isSmallest_12 (by decide) ?_
      first | refine g_icmpN_ge (tgt := 58) dX3_isSmallest_14 (by decide) (by first | omega | exact Nat.lt_of_le_of_lt (Nat.div_le_self _ _) (by omega) | exact Nat.lt_of_le_of_lt (clB_le _ _) (by omega) | (have := Nat.pow_lt_pow_right (a := 2) (by decide) (show m < 8 by omega); omega)) (by first | omega | exact Nat.lt_of_le_of_lt (Nat.div_le_self _ _) (by omega) | exact Nat.lt_of_le_of_lt (clB_le _ _) (by omega) | (have := Nat.pow_lt_pow_right (a := 2) (by decide) (show m < 8 by omega); omega)) (fun c_14 => ?_) (fun c_14 => ?_) | refine g_icmp_ge (tgt := 58) dX3_isSmallest_14 (by decide) (fun c_14 => ?_) (fun c_14 => ?_)
      · omega
      · refine g_iload3 dX3_isSmallest_17 ?_
        first | refine g_ifN_eq (tgt := 58) dX3_isSmallest_18 (by decide) (by first | omega | exact Nat.lt_of_le_of_lt (Nat.div_le_self _ _) (by omega) | exact Nat.lt_of_le_of_lt (clB_le _ _) (by omega) | (have := Nat.pow_lt_pow_right (a := 2) (by decide) (show m < 8 by omega); omega)) (fun c_18 => ?_) (fun c_18 => ?_) | refine g_if_eq (tgt := 58) dX3_isSmallest_18 (by decide) (fun c_18 => ?_) (fun c_18 => ?_)
        · refine g_iload3 dX3_isSmallest_58 ?_
          exact g_zret dX3_isSmallest_59 rfl (nar_zb (by first | omega | exact Nat.lt_of_le_of_lt (Nat.div_le_self _ _) (by omega) | exact Nat.lt_of_le_of_lt (clB_le _ _) (by omega) | (have := Nat.pow_lt_pow_right (a := 2) (by decide) (show m < 8 by omega); omega))) ⟨_, rfl, by omega, ⟨fun z => absurd z (by omega), fun z => absurd z (hsd (by omega))⟩, _, rfl, hI, hB1⟩
        · refine g_iload2 dX3_isSmallest_21 ?_
          refine g_iload4 dX3_isSmallest_22 ?_
          refine g_ishrN dX3_isSmallest_24 (by first | omega | exact Nat.lt_of_le_of_lt (Nat.div_le_self _ _) (by omega) | exact Nat.lt_of_le_of_lt (clB_le _ _) (by omega) | (have := Nat.pow_lt_pow_right (a := 2) (by decide) (show m < 8 by omega); omega)) (by first | omega | exact Nat.lt_of_le_of_lt (Nat.div_le_self _ _) (by omega) | exact Nat.lt_of_le_of_lt (clB_le _ _) (by omega) | (have := Nat.pow_lt_pow_right (a := 2) (by decide) (show m < 8 by omega); omega)) ?_
          refine g_iconst (nI 1) dX3_isSmallest_25 (by decide) ?_
          refine g_iand1 dX3_isSmallest_26 (by first | omega | exact Nat.lt_of_le_of_lt (Nat.div_le_self _ _) (by omega) | exact Nat.lt_of_le_of_lt (clB_le _ _) (by omega) | (have := Nat.pow_lt_pow_right (a := 2) (by decide) (show m < 8 by omega); omega)) ?_
          first | refine g_ifN_eq (tgt := 46) dX3_isSmallest_27 (by decide) (by first | omega | exact Nat.lt_of_le_of_lt (Nat.div_le_self _ _) (by omega) | exact Nat.lt_of_le_of_lt (clB_le _ _) (by omega) | (have := Nat.pow_lt_pow_right (a := 2) (by decide) (show m < 8 by omega); omega)) (fun c_27 => ?_) (fun c_27 => ?_) | refine g_if_eq (tgt := 46) dX3_isSmallest_27 (by decide) (fun c_27 => ?_) (fun c_27 => ?_)
          · refine g_iconst (nI 1) dX3_isSmallest_46 (by decide) ?_
            refine g_goto (tgt := 51) dX3_isSmallest_47 (by decide) ?_
            refine g_istore3 dX3_isSmallest_51 (by decide) ?_
            first | refine g_iincN4 1 dX3_isSmallest_52 (by decide) (by decide) ?_ | refine g_iinc4 _ dX3_isSmallest_52 rfl (by decide) ?_
            refine g_goto (tgt := 10) dX3_isSmallest_55 (by decide) ?_
            first | (rw [if_pos (by omega)] at hS1; exact ih _ _ (by omega) (by omega) hI hB1) | (rw [if_neg (by omega)] at hS1; exact ih _ _ (by omega) (by omega) hI hB1)
          · first | refine g_aload0 dX3_isSmallest_30 ?_ | refine g_aloadQ0 dX3_isSmallest_30 ?_ | refine g_aloadN0 dX3_isSmallest_30 ?_
            refine g_iload1 dX3_isSmallest_31 ?_
            refine g_iload2 dX3_isSmallest_32 ?_
            refine g_iconst (nI 1) dX3_isSmallest_33 (by decide) ?_
            refine g_iload4 dX3_isSmallest_34 ?_
            refine g_ishlN dX3_isSmallest_36 (by first | omega | exact Nat.lt_of_le_of_lt (Nat.div_le_self _ _) (by omega) | exact Nat.lt_of_le_of_lt (clB_le _ _) (by omega) | (have := Nat.pow_lt_pow_right (a := 2) (by decide) (show m < 8 by omega); omega)) (by first | omega | exact Nat.lt_of_le_of_lt (Nat.div_le_self _ _) (by omega) | exact Nat.lt_of_le_of_lt (clB_le _ _) (by omega) | (have := Nat.pow_lt_pow_right (a := 2) (by decide) (show m < 8 by omega); omega)) ?_
            refine g_iconst (nI 4294967295) dX3_isSmallest_37 (by decide) ?_
            first | refine g_ixorN dX3_isSmallest_38 ?_ | refine g_ixor dX3_isSmallest_38 ?_
            first | refine g_iandN dX3_isSmallest_39 ?_ | refine g_iand dX3_isSmallest_39 ?_
            refine g_V2n0 (ctX3_opensR hA M _ _ _ hI hB1 (by omega) (by first | omega | exact Nat.lt_of_le_of_lt (clB_le _ _) (by omega)) hS hP) kX3_opens q2296 tw_0 rfl rfl (by decide) ⟨rfl, rfl⟩ ⟨Nat.zero_le _, Nat.zero_le _⟩ (Nat.le_of_ble_eq_true rfl) dX3_isSmallest_40 (fun r_40 h_40 p_40 => ?_)
            obtain ⟨hr_40, hi0_r, M40, rfl, hI, hB1⟩ := p_40
            have hi_40 : r_40 = 1 ↔ opF (M 1) s (clB set m) := hi0_r
            first | refine g_ifN_ne (tgt := 50) dX3_isSmallest_43 (by decide) (by first | omega | exact Nat.lt_of_le_of_lt (Nat.div_le_self _ _) (by omega) | exact Nat.lt_of_le_of_lt (clB_le _ _) (by omega) | (have := Nat.pow_lt_pow_right (a := 2) (by decide) (show m < 8 by omega); omega)) (fun c_43 => ?_) (fun c_43 => ?_) | refine g_if_ne (tgt := 50) dX3_isSmallest_43 (by decide) (fun c_43 => ?_) (fun c_43 => ?_)
            · refine g_iconst (nI 0) dX3_isSmallest_50 (by decide) ?_
              refine g_istore3 dX3_isSmallest_51 (by decide) ?_
              first | refine g_iincN4 1 dX3_isSmallest_52 (by decide) (by decide) ?_ | refine g_iinc4 _ dX3_isSmallest_52 rfl (by decide) ?_
              refine g_goto (tgt := 10) dX3_isSmallest_55 (by decide) ?_
              first | (rw [if_pos (by omega)] at hS1; exact ih _ _ (by omega) (by omega) hI hB1) | (rw [if_neg (by omega)] at hS1; exact ih _ _ (by omega) (by omega) hI hB1)
            · refine g_iconst (nI 1) dX3_isSmallest_46 (by decide) ?_
              refine g_goto (tgt := 51) dX3_isSmallest_47 (by decide) ?_
              refine g_istore3 dX3_isSmallest_51 (by decide) ?_
              first | refine g_iincN4 1 dX3_isSmallest_52 (by decide) (by decide) ?_ | refine g_iinc4 _ dX3_isSmallest_52 rfl (by decide) ?_
              refine g_goto (tgt := 10) dX3_isSmallest_55 (by decide) ?_
              first | (rw [if_pos (by omega)] at hS1; exact ih _ _ (by omega) (by omega) hI hB1) | (rw [if_neg (by omega)] at hS1; exact ih _ _ (by omega) (by omega) hI hB1)
  first | refine g_aload0 dX3_isSmallest_0 ?_ | refine g_aloadQ0 dX3_isSmallest_0 ?_ | refine g_aloadN0 dX3_isSmallest_0 ?_
  refine g_iload1 dX3_isSmallest_1 ?_
  refine g_iload2 dX3_isSmallest_2 ?_
  refine g_V2n0 (ctX3_opensR hA M _ _ _ hI hB1 (by omega) (by first | omega | exact Nat.lt_of_le_of_lt (clB_le _ _) (by omega)) hS hP) kX3_opens q2296 tw_0 rfl rfl (by decide) ⟨rfl, rfl⟩ ⟨Nat.zero_le _, Nat.zero_le _⟩ (Nat.le_of_ble_eq_true rfl) dX3_isSmallest_3 (fun r_3 h_3 p_3 => ?_)
  obtain ⟨hr_3, hi_3, M3, rfl, hI, hB1⟩ := p_3
  refine g_istore3 dX3_isSmallest_6 (by decide) ?_
  refine g_iconst (nI 0) dX3_isSmallest_7 (by decide) ?_
  refine g_istore4 dX3_isSmallest_8 (by decide) ?_
  exact L 0 (by omega) (by omega) _ _ hr_3 (by rw [hi_3]; unfold smS; by_cases hq : opF (M 1) s set; rw [if_pos hq]; exact ⟨fun _ => rfl, fun _ => hq⟩; rw [if_neg hq]; exact ⟨fun z => absurd z hq, fun z => absurd z (by decide)⟩) hI hB1
abbrev mX3_smallest : GM := (yX3_smallest, 6, (some .int), [], { frames := 49, cells := 0, slots := 0, locals := 2699 }, 255)
theorem kX3_smallest : gCv cX3_smallest mX3_smallest 2 := ⟨q2491, q2492, q90, q2493, ⟨by decide +kernel, by decide +kernel, by decide +kernel⟩, rfl⟩
def xc_smallest (M : TW) (s k : Nat) : Nat := if ¬ s ≤ 3 then 1 else if gOf (M 1) s 0 = 0 then 2 else if siF (M 1) s k 256 = 0 then 2 else 0
def xv_smallest (M : TW) (s k : Nat) : Nat := siF (M 1) s k 256 - 1
def xm_smallest (M : TW) (s k : Nat) : TW := M
set_option maxHeartbeats 400000 in
theorem ctX3_smallest {E : GE} {h : AH} {A : Nat → Nat} (hA : twA A) (M : TW) (s k : Nat) (hW : tWF M) (hWp : ∀ s, s < 4 → plW (M 1) s) (hs : s < 4294967296) (hk : k < 4294967296) : Ct E cX3_smallest mX3_smallest [.ref (A 0), .int (nI s), .int (nI k)] (twO E A M h) (pN fun r h' => tEnd E A h (xc_smallest M s k ) (xv_smallest M s k ) (xm_smallest M s k ) r h') noX := by
  refine g_enter (own := "SecretVaultModel") [some (.ref (A 0)), some (.int (nI s)), some (.int (nI k)), none, none, none] (by decide +kernel) rfl rfl (Nat.le_of_ble_eq_true rfl) rfl rfl (fun X => ?_)
  have hB := hW.1
  have L : ∀ i, 0 ≤ i → i ≤ 256 → s ≤ 3 → ¬ gOf (M 1) s 0 = 0 → siF (M 1) s k i = 0 → ∀ (M' : TW), tSame M M' → twB M' → V E cX3_smallest "SecretVaultModel" mX3_smallest (pN fun r h' => tEnd E A h (xc_smallest M s k ) (xv_smallest M s k ) (xm_smallest M s k ) r h') noX X (twO E A M' h) 0 0 22 [some (.ref (A 0)), some (.int (nI (s))), some (.int (nI (k))), some (.int (nI (0))), some (.int (nI (siN (M 1) s i))), some (.int (nI (i)))] [] := by
    intro i h00 h01 hs3 hh
    have hS := (hW.2.2.2.2 s (by omega)).P
    have hP := hWp s (by omega)
    refine g_for (fun i => siF (M 1) s k i = 0 → ∀ (M' : TW), tSame M M' → twB M' → V E cX3_smallest "SecretVaultModel" mX3_smallest (pN fun r h' => tEnd E A h (xc_smallest M s k ) (xv_smallest M s k ) (xm_smallest M s k ) r h') noX X (twO E A M' h) 0 0 22 [some (.ref (A 0)), some (.int (nI (s))), some (.int (nI (k))), some (.int (nI (0))), some (.int (nI (siN (M 1) s i))), some (.int (nI (i)))] []) 0 256 ?_ ?_ i h00 h01
    · intro hb M' hI hB1
      refine g_iload5 dX3_smallest_22 ?_
      refine g_sipush (nI 256) dX3_smallest_24 (by decide) ?_
      first | refine g_icmpN_ge (tgt := 62) dX3_smallest_27 (by decide) (by first | omega | exact hB _ _ | (split <;> omega)) (by first | omega | exact hB _ _ | (split <;> omega)) (fun c_27 => ?_) (fun c_27 => ?_) | refine g_icmp_ge (tgt := 62) dX3_smallest_27 (by decide) (fun c_27 => ?_) (fun c_27 => ?_)
      · first | refine g_aload0 dX3_smallest_62 ?_ | refine g_aloadQ0 dX3_smallest_62 ?_ | refine g_aloadN0 dX3_smallest_62 ?_
        refine g_iconst (nI 2) dX3_smallest_63 (by decide) ?_
        refine g_V1n0 (ctX3_fails hA _ _) kX3_fails q2196 tw_0 rfl rfl (by decide) ⟨rfl, rfl⟩ ⟨Nat.zero_le _, Nat.zero_le _⟩ (Nat.le_of_ble_eq_true rfl) dX3_smallest_64 (fun r_64 h_64 p_64 => ?_)
        obtain ⟨rfl, rfl⟩ := p_64
        exact g_iret dX3_smallest_67 rfl ⟨_, rfl, t_fails (by unfold xc_smallest; rw [hb]; (repeat' split) <;> omega) (by decide) (by unfold xm_smallest; exact hI)⟩
      · omega
    · intro i h0 hi ih hb M' hI hB1
      have hgn := siN_le (M 1) s i
      refine g_iload5 dX3_smallest_22 ?_
      refine g_sipush (nI 256) dX3_smallest_24 (by decide) ?_
      first | refine g_icmpN_ge (tgt := 62) dX3_smallest_27 (by decide) (by first | omega | exact hB _ _ | (split <;> omega)) (by first | omega | exact hB _ _ | (split <;> omega)) (fun c_27 => ?_) (fun c_27 => ?_) | refine g_icmp_ge (tgt := 62) dX3_smallest_27 (by decide) (fun c_27 => ?_) (fun c_27 => ?_)
      · omega
      · first | refine g_aload0 dX3_smallest_30 ?_ | refine g_aloadQ0 dX3_smallest_30 ?_ | refine g_aloadN0 dX3_smallest_30 ?_
        refine g_iload1 dX3_smallest_31 ?_
        refine g_iload5 dX3_smallest_32 ?_
        refine g_V2n0 (ctX3_isSmallest hA M _ _ _ hI hB1 (by omega) (by omega) hS hP) kX3_isSmallest q2494 tw_0 rfl rfl (by decide) ⟨rfl, rfl⟩ ⟨Nat.zero_le _, Nat.zero_le _⟩ (Nat.le_of_ble_eq_true rfl) dX3_smallest_34 (fun r_34 h_34 p_34 => ?_)
        obtain ⟨hr_34, hi_34, M34, rfl, hI, hB1⟩ := p_34
        first | refine g_ifN_eq (tgt := 56) dX3_smallest_37 (by decide) (by first | omega | exact hB _ _ | (split <;> omega)) (fun c_37 => ?_) (fun c_37 => ?_) | refine g_if_eq (tgt := 56) dX3_smallest_37 (by decide) (fun c_37 => ?_) (fun c_37 => ?_)
        · first | refine g_iincN5 1 dX3_smallest_56 (by decide) (by decide) ?_ | refine g_iinc5 _ dX3_smallest_56 rfl (by decide) ?_
          refine g_goto (tgt := 22) dX3_smallest_59 (by decide) ?_
          first | (rw [show siN (M 1) s (i + 1) = siN (M 1) s i + 1 from by rw [siN, if_pos (by omega)]] at ih; exact ih (by rw [siF, if_pos hb, if_neg (by omega)]) _ hI hB1) | (rw [show siN (M 1) s (i + 1) = siN (M 1) s i from by rw [siN, if_neg (by omega)]; rfl] at ih; exact ih (by rw [siF, if_pos hb, if_neg (by omega)]) _ hI hB1)
        · refine g_iload4 dX3_smallest_40 ?_
          refine g_iload2 dX3_smallest_42 ?_
          first | refine g_icmpN_ne (tgt := 53) dX3_smallest_43 (by decide) (by first | omega | exact hB _ _ | (split <;> omega)) (by first | omega | exact hB _ _ | (split <;> omega)) (fun c_43 => ?_) (fun c_43 => ?_) | refine g_icmpU_ne (tgt := 53) dX3_smallest_43 (by decide) (by first | omega | exact hB _ _ | (split <;> omega)) (by first | omega | exact hB _ _ | (split <;> omega)) (fun c_43 => ?_) (fun c_43 => ?_) | refine g_icmp_ne (tgt := 53) dX3_smallest_43 (by decide) (fun c_43 => ?_) (fun c_43 => ?_)
          · first | refine g_iincN4 1 dX3_smallest_53 (by decide) (by decide) ?_ | refine g_iinc4 _ dX3_smallest_53 rfl (by decide) ?_
            first | refine g_iincN5 1 dX3_smallest_56 (by decide) (by decide) ?_ | refine g_iinc5 _ dX3_smallest_56 rfl (by decide) ?_
            refine g_goto (tgt := 22) dX3_smallest_59 (by decide) ?_
            first | (rw [show siN (M 1) s (i + 1) = siN (M 1) s i + 1 from by rw [siN, if_pos (by omega)]] at ih; exact ih (by rw [siF, if_pos hb, if_neg (by omega)]) _ hI hB1) | (rw [show siN (M 1) s (i + 1) = siN (M 1) s i from by rw [siN, if_neg (by omega)]; rfl] at ih; exact ih (by rw [siF, if_pos hb, if_neg (by omega)]) _ hI hB1)
          · have hf : siF (M 1) s k (i + 1) = i + 1 := by rw [siF, if_pos hb, if_pos (by omega)]
            have hf9 : siF (M 1) s k 256 = i + 1 := by have hq := siF_up (M 1) s k (i + 1) (255 - i) (by omega); rw [show i + 1 + (255 - i) = 256 by omega] at hq; omega
            first | refine g_aload0 dX3_smallest_46 ?_ | refine g_aloadQ0 dX3_smallest_46 ?_ | refine g_aloadN0 dX3_smallest_46 ?_
            refine g_iload5 dX3_smallest_47 ?_
            refine g_V1n0 (ctX3_done hA _ _) kX3_done q2173 tw_0 rfl rfl (by decide) ⟨rfl, rfl⟩ ⟨Nat.zero_le _, Nat.zero_le _⟩ (Nat.le_of_ble_eq_true rfl) dX3_smallest_49 (fun r_49 h_49 p_49 => ?_)
            obtain ⟨rfl, rfl⟩ := p_49
            exact g_iret dX3_smallest_52 rfl ⟨_, rfl, t_done (by unfold xc_smallest; rw [hf9]; (repeat' split) <;> omega) (by unfold xv_smallest; rw [hf9]; rfl) (by unfold xm_smallest; exact hI)⟩
  first | refine g_aload0 dX3_smallest_0 ?_ | refine g_aloadQ0 dX3_smallest_0 ?_ | refine g_aloadN0 dX3_smallest_0 ?_
  refine g_iload1 dX3_smallest_1 ?_
  refine g_V1n0 (ctX3_lacks hA _ _ hB (by omega)) kX3_lacks q2277 tw_0 rfl rfl (by decide) ⟨rfl, rfl⟩ ⟨Nat.zero_le _, Nat.zero_le _⟩ (Nat.le_of_ble_eq_true rfl) dX3_smallest_2 (fun r_2 h_2 p_2 => ?_)
  obtain ⟨hi_2, rfl⟩ := p_2
  refine g_istore3 dX3_smallest_5 (by decide) ?_
  refine g_iload3 dX3_smallest_6 ?_
  first | refine g_ifN_eq (tgt := 16) dX3_smallest_7 (by decide) (by first | omega | exact hB _ _ | (split <;> omega)) (fun c_7 => ?_) (fun c_7 => ?_) | refine g_if_eq (tgt := 16) dX3_smallest_7 (by decide) (fun c_7 => ?_) (fun c_7 => ?_)
  · refine g_iconst (nI 0) dX3_smallest_16 (by decide) ?_
    refine g_istore4 dX3_smallest_17 (by decide) ?_
    refine g_iconst (nI 0) dX3_smallest_19 (by decide) ?_
    refine g_istore5 dX3_smallest_20 (by decide) ?_
    obtain rfl : r_2 = 0 := by omega
    exact L 0 (by omega) (by omega) (by omega) (by omega) rfl _ tSame.rf hB
  · first | refine g_aload0 dX3_smallest_10 ?_ | refine g_aloadQ0 dX3_smallest_10 ?_ | refine g_aloadN0 dX3_smallest_10 ?_
    refine g_iload3 dX3_smallest_11 ?_
    refine g_V1n0 (ctX3_fails hA _ _) kX3_fails q2196 tw_0 rfl rfl (by decide) ⟨rfl, rfl⟩ ⟨Nat.zero_le _, Nat.zero_le _⟩ (Nat.le_of_ble_eq_true rfl) dX3_smallest_12 (fun r_12 h_12 p_12 => ?_)
    obtain ⟨rfl, rfl⟩ := p_12
    exact g_iret dX3_smallest_15 rfl ⟨_, rfl, t_fails (by unfold xc_smallest; (repeat' split) <;> omega) (by omega) (by unfold xm_smallest; exact tSame.rf)⟩
abbrev mX3_fulfils : GM := (yX3_fulfils, 3, (some .boolean), [], { frames := 47, cells := 0, slots := 0, locals := 2652 }, 255)
theorem kX3_fulfils : gCv cX3_fulfils mX3_fulfils 2 := ⟨q2458, q2459, q90, q2460, ⟨by decide +kernel, by decide +kernel, by decide +kernel⟩, rfl⟩
def xc_fulfils (M : TW) (s mem : Nat) : Nat := if ¬ s ≤ 3 then 1 else if ¬ mem ≤ 255 then 2 else if gOf (M 1) s 0 = 0 then 3 else 0
def xv_fulfils (M : TW) (s mem : Nat) : Nat := flF (M 1) s mem
def xm_fulfils (M : TW) (s mem : Nat) : TW := M
set_option maxHeartbeats 400000 in
theorem ctX3_fulfils {E : GE} {h : AH} {A : Nat → Nat} (hA : twA A) (M : TW) (s mem : Nat) (hW : tWF M) (hWp : ∀ s, s < 4 → plW (M 1) s) (hs : s < 4294967296) (hm : mem < 4294967296) : Ct E cX3_fulfils mX3_fulfils [.ref (A 0), .int (nI s), .int (nI mem)] (twO E A M h) (pN fun r h' => tEnd E A h (xc_fulfils M s mem ) (xv_fulfils M s mem ) (xm_fulfils M s mem ) r h') noX := by
  refine g_enter (own := "SecretVaultModel") [some (.ref (A 0)), some (.int (nI s)), some (.int (nI mem))] (by decide +kernel) rfl rfl (Nat.le_of_ble_eq_true rfl) rfl rfl (fun X => ?_)
  have hB := hW.1
  first | refine g_aload0 dX3_fulfils_0 ?_ | refine g_aloadQ0 dX3_fulfils_0 ?_ | refine g_aloadN0 dX3_fulfils_0 ?_
  first | refine g_aload0 dX3_fulfils_1 ?_ | refine g_aloadQ0 dX3_fulfils_1 ?_ | refine g_aloadN0 dX3_fulfils_1 ?_
  refine g_iload1 dX3_fulfils_2 ?_
  refine g_iload2 dX3_fulfils_3 ?_
  refine g_V2n0 (ctX3_lacksSet hA _ _ _ hB (by omega) (by omega)) kX3_lacksSet q2362 tw_0 rfl rfl (by decide) ⟨rfl, rfl⟩ ⟨Nat.zero_le _, Nat.zero_le _⟩ (Nat.le_of_ble_eq_true rfl) dX3_fulfils_4 (fun r_4 h_4 p_4 => ?_)
  obtain ⟨hi_4, rfl⟩ := p_4
  refine t_put0 hA q2098 dX3_fulfils_7 ?_
  first | refine g_aload0 dX3_fulfils_10 ?_ | refine g_aloadQ0 dX3_fulfils_10 ?_ | refine g_aloadN0 dX3_fulfils_10 ?_
  refine t_get0 hA q2098 dX3_fulfils_11 ?_
  rw [tset_ss]
  first | refine g_ifN_ne (tgt := 30) dX3_fulfils_14 (by decide) (by first | omega | exact hB _ _ | (split <;> omega)) (fun c_14 => ?_) (fun c_14 => ?_) | refine g_if_ne (tgt := 30) dX3_fulfils_14 (by decide) (fun c_14 => ?_) (fun c_14 => ?_)
  · refine g_iconst (nI 0) dX3_fulfils_30 (by decide) ?_
    exact g_zret dX3_fulfils_31 rfl (nar_zb (by first | omega | exact hB _ _ | (split <;> omega))) ⟨_, rfl, ⟨_, rfl, by rw [tset_ss]; unfold xc_fulfils; (repeat' split) <;> omega, fun z => by first | (unfold xv_fulfils; omega) | exact absurd z (by unfold xc_fulfils; (repeat' split) <;> omega), by unfold xm_fulfils; exact tSame.rf.f 0 _ (by decide)⟩⟩
  · obtain rfl : r_4 = 0 := by omega
    first | refine g_aload0 dX3_fulfils_17 ?_ | refine g_aloadQ0 dX3_fulfils_17 ?_ | refine g_aloadN0 dX3_fulfils_17 ?_
    refine g_iload1 dX3_fulfils_18 ?_
    refine g_iload2 dX3_fulfils_19 ?_
    refine g_V2n0 (ctX3_fulfilled hA _ _ _ (twB_set hB (by decide)) (by omega) (by omega) (hWp s (by omega))) kX3_fulfilled q2308 tw_0 rfl rfl (by decide) ⟨rfl, rfl⟩ ⟨Nat.zero_le _, Nat.zero_le _⟩ (Nat.le_of_ble_eq_true rfl) dX3_fulfils_20 (fun r_20 h_20 p_20 => ?_)
    obtain ⟨hi0_r, rfl⟩ := p_20
    have hi_20 : r_20 = flF (M 1) s mem := hi0_r
    have hfl := flF_le (hWp s (by omega)) mem
    first | refine g_ifN_eq (tgt := 30) dX3_fulfils_23 (by decide) (by first | omega | exact hB _ _ | (split <;> omega)) (fun c_23 => ?_) (fun c_23 => ?_) | refine g_if_eq (tgt := 30) dX3_fulfils_23 (by decide) (fun c_23 => ?_) (fun c_23 => ?_)
    · refine g_iconst (nI 0) dX3_fulfils_30 (by decide) ?_
      exact g_zret dX3_fulfils_31 rfl (nar_zb (by first | omega | exact hB _ _ | (split <;> omega))) ⟨_, rfl, ⟨_, rfl, by rw [tset_ss]; unfold xc_fulfils; (repeat' split) <;> omega, fun z => by first | (unfold xv_fulfils; omega) | exact absurd z (by unfold xc_fulfils; (repeat' split) <;> omega), by unfold xm_fulfils; exact tSame.rf.f 0 _ (by decide)⟩⟩
    · refine g_iconst (nI 1) dX3_fulfils_26 (by decide) ?_
      refine g_goto (tgt := 31) dX3_fulfils_27 (by decide) ?_
      exact g_zret dX3_fulfils_31 rfl (nar_zb (by first | omega | exact hB _ _ | (split <;> omega))) ⟨_, rfl, ⟨_, rfl, by rw [tset_ss]; unfold xc_fulfils; (repeat' split) <;> omega, fun z => by first | (unfold xv_fulfils; omega) | exact absurd z (by unfold xc_fulfils; (repeat' split) <;> omega), by unfold xm_fulfils; exact tSame.rf.f 0 _ (by decide)⟩⟩
abbrev mX3_secret : GM := (yX3_secret, 3, (some .int), [], { frames := 4, cells := 0, slots := 0, locals := 94 }, 255)
theorem kX3_secret : gCv cX3_secret mX3_secret 2 := ⟨q2371, q2372, q90, q2373, ⟨by decide +kernel, by decide +kernel, by decide +kernel⟩, rfl⟩
def xc_secret (M : TW) (s w : Nat) : Nat := if ¬ s ≤ 3 then 1 else if ¬ w ≤ 6 then 2 else if gOf (M 1) s 0 = 0 then 3 else 0
def xv_secret (M : TW) (s w : Nat) : Nat := if w = 0 then gOf (M 1) s 1 else if w = 1 then gOf (M 1) s 2 else if w = 6 then (if 0 < gOf (M 1) s 11 then 1 else 0) else cnF (M 1) s (if w = 2 then 4294967295 else w - 3) 24
def xm_secret (M : TW) (s w : Nat) : TW := M
set_option maxHeartbeats 400000 in
theorem ctX3_secret {E : GE} {h : AH} {A : Nat → Nat} (hA : twA A) (M : TW) (s w : Nat) (hW : tWF M) (hs : s < 4294967296) (hw : w < 4294967296) : Ct E cX3_secret mX3_secret [.ref (A 0), .int (nI s), .int (nI w)] (twO E A M h) (pN fun r h' => tEnd E A h (xc_secret M s w ) (xv_secret M s w ) (xm_secret M s w ) r h') noX := by
  refine g_enter (own := "SecretVaultModel") [some (.ref (A 0)), some (.int (nI s)), some (.int (nI w))] (by decide +kernel) rfl rfl (Nat.le_of_ble_eq_true rfl) rfl rfl (fun X => ?_)
  have hB := hW.1
  refine g_iload1 dX3_secret_0 ?_
  refine g_S1n0 (ctX3_isSlot _ (by omega)) kX3_isSlot q2235 (by decide) ⟨rfl, rfl⟩ ⟨Nat.zero_le _, Nat.zero_le _⟩ (Nat.le_of_ble_eq_true rfl) dX3_secret_1 (fun r_1 h_1 p_1 => ?_)
  obtain ⟨hr_1, hi_1, rfl⟩ := p_1
  first | refine g_ifN_ne (tgt := 13) dX3_secret_4 (by decide) (by first | omega | exact hB _ _) (fun c_4 => ?_) (fun c_4 => ?_) | refine g_if_ne (tgt := 13) dX3_secret_4 (by decide) (fun c_4 => ?_) (fun c_4 => ?_)
  · refine g_iload2 dX3_secret_13 ?_
    refine g_iconst (nI 0) dX3_secret_14 (by decide) ?_
    refine g_bipush (nI 6) dX3_secret_15 (by decide) ?_
    refine g_S3n0 (ctX3_in _ _ _ (by first | omega | exact hB _ _) (by omega) (by omega)) kX3_in q2193 (by decide) ⟨rfl, rfl⟩ ⟨Nat.zero_le _, Nat.zero_le _⟩ (Nat.le_of_ble_eq_true rfl) dX3_secret_17 (fun r_17 h_17 p_17 => ?_)
    obtain ⟨hr_17, hi_17, rfl⟩ := p_17
    first | refine g_ifN_ne (tgt := 29) dX3_secret_20 (by decide) (by first | omega | exact hB _ _) (fun c_20 => ?_) (fun c_20 => ?_) | refine g_if_ne (tgt := 29) dX3_secret_20 (by decide) (fun c_20 => ?_) (fun c_20 => ?_)
    · first | refine g_aload0 dX3_secret_29 ?_ | refine g_aloadQ0 dX3_secret_29 ?_ | refine g_aloadN0 dX3_secret_29 ?_
      refine g_iload1 dX3_secret_30 ?_
      refine g_iconst (nI 0) dX3_secret_31 (by decide) ?_
      refine g_V2n0 (ctX3_of hA _ _ _ (by omega) (by omega)) kX3_of q2220 tw_0 rfl rfl (by decide) ⟨rfl, rfl⟩ ⟨Nat.zero_le _, Nat.zero_le _⟩ (Nat.le_of_ble_eq_true rfl) dX3_secret_32 (fun r_32 h_32 p_32 => ?_)
      obtain ⟨rfl, rfl⟩ := p_32
      first | refine g_ifN_ne (tgt := 44) dX3_secret_35 (by decide) (by first | omega | exact hB _ _) (fun c_35 => ?_) (fun c_35 => ?_) | refine g_if_ne (tgt := 44) dX3_secret_35 (by decide) (fun c_35 => ?_) (fun c_35 => ?_)
      · refine g_iload2 dX3_secret_44 ?_
        have hsl := hW.2.2.2.2 s (by omega)
        have hS := hsl.P
        have hp11 := hsl.2.2.2.2.2.1
        rcases (show w = 0 ∨ w = 1 ∨ w = 6 ∨ w = 2 ∨ w = 3 ∨ w = 4 ∨ w = 5 by omega) with rfl | rfl | rfl | rfl | rfl | rfl | rfl
        · refine g_lookup (tgt := 80) dX3_secret_45 (by decide) rfl (by decide) ?_
          first | refine g_aload0 dX3_secret_80 ?_ | refine g_aloadQ0 dX3_secret_80 ?_ | refine g_aloadN0 dX3_secret_80 ?_
          first | refine g_aload0 dX3_secret_81 ?_ | refine g_aloadQ0 dX3_secret_81 ?_ | refine g_aloadN0 dX3_secret_81 ?_
          refine g_iload1 dX3_secret_82 ?_
          refine g_iconst (nI 1) dX3_secret_83 (by decide) ?_
          refine g_V2n0 (ctX3_of hA _ _ _ (by omega) (by omega)) kX3_of q2220 tw_0 rfl rfl (by decide) ⟨rfl, rfl⟩ ⟨Nat.zero_le _, Nat.zero_le _⟩ (Nat.le_of_ble_eq_true rfl) dX3_secret_84 (fun r_84 h_84 p_84 => ?_)
          obtain ⟨rfl, rfl⟩ := p_84
          refine g_V1n0 (ctX3_done hA _ _) kX3_done q2173 tw_0 rfl rfl (by decide) ⟨rfl, rfl⟩ ⟨Nat.zero_le _, Nat.zero_le _⟩ (Nat.le_of_ble_eq_true rfl) dX3_secret_87 (fun r_87 h_87 p_87 => ?_)
          obtain ⟨rfl, rfl⟩ := p_87
          exact g_iret dX3_secret_90 rfl ⟨_, rfl, (by first | exact t_fails (by unfold xc_secret; (repeat' split) <;> omega) (by decide) (by unfold xm_secret; exact tSame.rf) | exact t_done (by unfold xc_secret; (repeat' split) <;> omega) rfl (by unfold xm_secret; exact tSame.rf) | exact t_done (by unfold xc_secret; (repeat' split) <;> omega) (by unfold xv_secret; rw [if_neg (by decide), if_neg (by decide), if_pos rfl]; first | rw [if_pos (by omega)] | rw [if_neg (by omega)]) (by unfold xm_secret; exact tSame.rf))⟩
        · refine g_lookup (tgt := 91) dX3_secret_45 (by decide) rfl (by decide) ?_
          first | refine g_aload0 dX3_secret_91 ?_ | refine g_aloadQ0 dX3_secret_91 ?_ | refine g_aloadN0 dX3_secret_91 ?_
          first | refine g_aload0 dX3_secret_92 ?_ | refine g_aloadQ0 dX3_secret_92 ?_ | refine g_aloadN0 dX3_secret_92 ?_
          refine g_iload1 dX3_secret_93 ?_
          refine g_iconst (nI 2) dX3_secret_94 (by decide) ?_
          refine g_V2n0 (ctX3_of hA _ _ _ (by omega) (by omega)) kX3_of q2220 tw_0 rfl rfl (by decide) ⟨rfl, rfl⟩ ⟨Nat.zero_le _, Nat.zero_le _⟩ (Nat.le_of_ble_eq_true rfl) dX3_secret_95 (fun r_95 h_95 p_95 => ?_)
          obtain ⟨rfl, rfl⟩ := p_95
          refine g_V1n0 (ctX3_done hA _ _) kX3_done q2173 tw_0 rfl rfl (by decide) ⟨rfl, rfl⟩ ⟨Nat.zero_le _, Nat.zero_le _⟩ (Nat.le_of_ble_eq_true rfl) dX3_secret_98 (fun r_98 h_98 p_98 => ?_)
          obtain ⟨rfl, rfl⟩ := p_98
          exact g_iret dX3_secret_101 rfl ⟨_, rfl, (by first | exact t_fails (by unfold xc_secret; (repeat' split) <;> omega) (by decide) (by unfold xm_secret; exact tSame.rf) | exact t_done (by unfold xc_secret; (repeat' split) <;> omega) rfl (by unfold xm_secret; exact tSame.rf) | exact t_done (by unfold xc_secret; (repeat' split) <;> omega) (by unfold xv_secret; rw [if_neg (by decide), if_neg (by decide), if_pos rfl]; first | rw [if_pos (by omega)] | rw [if_neg (by omega)]) (by unfold xm_secret; exact tSame.rf))⟩
        · refine g_lookup (tgt := 102) dX3_secret_45 (by decide) rfl (by decide) ?_
          first | refine g_aload0 dX3_secret_102 ?_ | refine g_aloadQ0 dX3_secret_102 ?_ | refine g_aloadN0 dX3_secret_102 ?_
          first | refine g_aload0 dX3_secret_103 ?_ | refine g_aloadQ0 dX3_secret_103 ?_ | refine g_aloadN0 dX3_secret_103 ?_
          refine g_iload1 dX3_secret_104 ?_
          refine g_V1n0 (ctX3_hasPolicy hA _ _ (by omega) hp11) kX3_hasPolicy q2312 tw_0 rfl rfl (by decide) ⟨rfl, rfl⟩ ⟨Nat.zero_le _, Nat.zero_le _⟩ (Nat.le_of_ble_eq_true rfl) dX3_secret_105 (fun r_105 h_105 p_105 => ?_)
          obtain ⟨hr_105, hi_105, rfl⟩ := p_105
          first | refine g_ifN_eq (tgt := 115) dX3_secret_108 (by decide) (by first | omega | exact hB _ _) (fun c_108 => ?_) (fun c_108 => ?_) | refine g_if_eq (tgt := 115) dX3_secret_108 (by decide) (fun c_108 => ?_) (fun c_108 => ?_)
          · refine g_iconst (nI 0) dX3_secret_115 (by decide) ?_
            refine g_V1n0 (ctX3_done hA _ _) kX3_done q2173 tw_0 rfl rfl (by decide) ⟨rfl, rfl⟩ ⟨Nat.zero_le _, Nat.zero_le _⟩ (Nat.le_of_ble_eq_true rfl) dX3_secret_116 (fun r_116 h_116 p_116 => ?_)
            obtain ⟨rfl, rfl⟩ := p_116
            exact g_iret dX3_secret_119 rfl ⟨_, rfl, (by first | exact t_fails (by unfold xc_secret; (repeat' split) <;> omega) (by decide) (by unfold xm_secret; exact tSame.rf) | exact t_done (by unfold xc_secret; (repeat' split) <;> omega) rfl (by unfold xm_secret; exact tSame.rf) | exact t_done (by unfold xc_secret; (repeat' split) <;> omega) (by unfold xv_secret; rw [if_neg (by decide), if_neg (by decide), if_pos rfl]; first | rw [if_pos (by omega)] | rw [if_neg (by omega)]) (by unfold xm_secret; exact tSame.rf))⟩
          · refine g_iconst (nI 1) dX3_secret_111 (by decide) ?_
            refine g_goto (tgt := 116) dX3_secret_112 (by decide) ?_
            refine g_V1n0 (ctX3_done hA _ _) kX3_done q2173 tw_0 rfl rfl (by decide) ⟨rfl, rfl⟩ ⟨Nat.zero_le _, Nat.zero_le _⟩ (Nat.le_of_ble_eq_true rfl) dX3_secret_116 (fun r_116 h_116 p_116 => ?_)
            obtain ⟨rfl, rfl⟩ := p_116
            exact g_iret dX3_secret_119 rfl ⟨_, rfl, (by first | exact t_fails (by unfold xc_secret; (repeat' split) <;> omega) (by decide) (by unfold xm_secret; exact tSame.rf) | exact t_done (by unfold xc_secret; (repeat' split) <;> omega) rfl (by unfold xm_secret; exact tSame.rf) | exact t_done (by unfold xc_secret; (repeat' split) <;> omega) (by unfold xv_secret; rw [if_neg (by decide), if_neg (by decide), if_pos rfl]; first | rw [if_pos (by omega)] | rw [if_neg (by omega)]) (by unfold xm_secret; exact tSame.rf))⟩
        · refine g_lookup (tgt := 120) dX3_secret_45 (by decide) rfl (by decide) ?_
          first | refine g_aload0 dX3_secret_120 ?_ | refine g_aloadQ0 dX3_secret_120 ?_ | refine g_aloadN0 dX3_secret_120 ?_
          first | refine g_aload0 dX3_secret_121 ?_ | refine g_aloadQ0 dX3_secret_121 ?_ | refine g_aloadN0 dX3_secret_121 ?_
          refine g_iload1 dX3_secret_122 ?_
          refine g_iload2 dX3_secret_123 ?_
          refine g_iconst (nI 3) dX3_secret_124 (by decide) ?_
          refine g_isub dX3_secret_125 ?_
          first | rw [show nI 2 - nI 3 = nI 4294967295 by decide] | rw [show nI 3 - nI 3 = nI 0 by decide] | rw [show nI 4 - nI 3 = nI 1 by decide] | rw [show nI 5 - nI 3 = nI 2 by decide]
          refine g_V2n0 (ctX3_count hA _ _ _ hB (by omega) (by decide) hS) kX3_count q2374 tw_0 rfl rfl (by decide) ⟨rfl, rfl⟩ ⟨Nat.zero_le _, Nat.zero_le _⟩ (Nat.le_of_ble_eq_true rfl) dX3_secret_126 (fun r_126 h_126 p_126 => ?_)
          obtain ⟨rfl, rfl⟩ := p_126
          refine g_V1n0 (ctX3_done hA _ _) kX3_done q2173 tw_0 rfl rfl (by decide) ⟨rfl, rfl⟩ ⟨Nat.zero_le _, Nat.zero_le _⟩ (Nat.le_of_ble_eq_true rfl) dX3_secret_129 (fun r_129 h_129 p_129 => ?_)
          obtain ⟨rfl, rfl⟩ := p_129
          exact g_iret dX3_secret_132 rfl ⟨_, rfl, (by first | exact t_fails (by unfold xc_secret; (repeat' split) <;> omega) (by decide) (by unfold xm_secret; exact tSame.rf) | exact t_done (by unfold xc_secret; (repeat' split) <;> omega) rfl (by unfold xm_secret; exact tSame.rf) | exact t_done (by unfold xc_secret; (repeat' split) <;> omega) (by unfold xv_secret; rw [if_neg (by decide), if_neg (by decide), if_pos rfl]; first | rw [if_pos (by omega)] | rw [if_neg (by omega)]) (by unfold xm_secret; exact tSame.rf))⟩
        · refine g_lookup (tgt := 120) dX3_secret_45 (by decide) rfl (by decide) ?_
          first | refine g_aload0 dX3_secret_120 ?_ | refine g_aloadQ0 dX3_secret_120 ?_ | refine g_aloadN0 dX3_secret_120 ?_
          first | refine g_aload0 dX3_secret_121 ?_ | refine g_aloadQ0 dX3_secret_121 ?_ | refine g_aloadN0 dX3_secret_121 ?_
          refine g_iload1 dX3_secret_122 ?_
          refine g_iload2 dX3_secret_123 ?_
          refine g_iconst (nI 3) dX3_secret_124 (by decide) ?_
          refine g_isub dX3_secret_125 ?_
          first | rw [show nI 2 - nI 3 = nI 4294967295 by decide] | rw [show nI 3 - nI 3 = nI 0 by decide] | rw [show nI 4 - nI 3 = nI 1 by decide] | rw [show nI 5 - nI 3 = nI 2 by decide]
          refine g_V2n0 (ctX3_count hA _ _ _ hB (by omega) (by decide) hS) kX3_count q2374 tw_0 rfl rfl (by decide) ⟨rfl, rfl⟩ ⟨Nat.zero_le _, Nat.zero_le _⟩ (Nat.le_of_ble_eq_true rfl) dX3_secret_126 (fun r_126 h_126 p_126 => ?_)
          obtain ⟨rfl, rfl⟩ := p_126
          refine g_V1n0 (ctX3_done hA _ _) kX3_done q2173 tw_0 rfl rfl (by decide) ⟨rfl, rfl⟩ ⟨Nat.zero_le _, Nat.zero_le _⟩ (Nat.le_of_ble_eq_true rfl) dX3_secret_129 (fun r_129 h_129 p_129 => ?_)
          obtain ⟨rfl, rfl⟩ := p_129
          exact g_iret dX3_secret_132 rfl ⟨_, rfl, (by first | exact t_fails (by unfold xc_secret; (repeat' split) <;> omega) (by decide) (by unfold xm_secret; exact tSame.rf) | exact t_done (by unfold xc_secret; (repeat' split) <;> omega) rfl (by unfold xm_secret; exact tSame.rf) | exact t_done (by unfold xc_secret; (repeat' split) <;> omega) (by unfold xv_secret; rw [if_neg (by decide), if_neg (by decide), if_pos rfl]; first | rw [if_pos (by omega)] | rw [if_neg (by omega)]) (by unfold xm_secret; exact tSame.rf))⟩
        · refine g_lookup (tgt := 120) dX3_secret_45 (by decide) rfl (by decide) ?_
          first | refine g_aload0 dX3_secret_120 ?_ | refine g_aloadQ0 dX3_secret_120 ?_ | refine g_aloadN0 dX3_secret_120 ?_
          first | refine g_aload0 dX3_secret_121 ?_ | refine g_aloadQ0 dX3_secret_121 ?_ | refine g_aloadN0 dX3_secret_121 ?_
          refine g_iload1 dX3_secret_122 ?_
          refine g_iload2 dX3_secret_123 ?_
          refine g_iconst (nI 3) dX3_secret_124 (by decide) ?_
          refine g_isub dX3_secret_125 ?_
          first | rw [show nI 2 - nI 3 = nI 4294967295 by decide] | rw [show nI 3 - nI 3 = nI 0 by decide] | rw [show nI 4 - nI 3 = nI 1 by decide] | rw [show nI 5 - nI 3 = nI 2 by decide]
          refine g_V2n0 (ctX3_count hA _ _ _ hB (by omega) (by decide) hS) kX3_count q2374 tw_0 rfl rfl (by decide) ⟨rfl, rfl⟩ ⟨Nat.zero_le _, Nat.zero_le _⟩ (Nat.le_of_ble_eq_true rfl) dX3_secret_126 (fun r_126 h_126 p_126 => ?_)
          obtain ⟨rfl, rfl⟩ := p_126
          refine g_V1n0 (ctX3_done hA _ _) kX3_done q2173 tw_0 rfl rfl (by decide) ⟨rfl, rfl⟩ ⟨Nat.zero_le _, Nat.zero_le _⟩ (Nat.le_of_ble_eq_true rfl) dX3_secret_129 (fun r_129 h_129 p_129 => ?_)
          obtain ⟨rfl, rfl⟩ := p_129
          exact g_iret dX3_secret_132 rfl ⟨_, rfl, (by first | exact t_fails (by unfold xc_secret; (repeat' split) <;> omega) (by decide) (by unfold xm_secret; exact tSame.rf) | exact t_done (by unfold xc_secret; (repeat' split) <;> omega) rfl (by unfold xm_secret; exact tSame.rf) | exact t_done (by unfold xc_secret; (repeat' split) <;> omega) (by unfold xv_secret; rw [if_neg (by decide), if_neg (by decide), if_pos rfl]; first | rw [if_pos (by omega)] | rw [if_neg (by omega)]) (by unfold xm_secret; exact tSame.rf))⟩
        · refine g_lookup (tgt := 120) dX3_secret_45 (by decide) rfl (by decide) ?_
          first | refine g_aload0 dX3_secret_120 ?_ | refine g_aloadQ0 dX3_secret_120 ?_ | refine g_aloadN0 dX3_secret_120 ?_
          first | refine g_aload0 dX3_secret_121 ?_ | refine g_aloadQ0 dX3_secret_121 ?_ | refine g_aloadN0 dX3_secret_121 ?_
          refine g_iload1 dX3_secret_122 ?_
          refine g_iload2 dX3_secret_123 ?_
          refine g_iconst (nI 3) dX3_secret_124 (by decide) ?_
          refine g_isub dX3_secret_125 ?_
          first | rw [show nI 2 - nI 3 = nI 4294967295 by decide] | rw [show nI 3 - nI 3 = nI 0 by decide] | rw [show nI 4 - nI 3 = nI 1 by decide] | rw [show nI 5 - nI 3 = nI 2 by decide]
          refine g_V2n0 (ctX3_count hA _ _ _ hB (by omega) (by decide) hS) kX3_count q2374 tw_0 rfl rfl (by decide) ⟨rfl, rfl⟩ ⟨Nat.zero_le _, Nat.zero_le _⟩ (Nat.le_of_ble_eq_true rfl) dX3_secret_126 (fun r_126 h_126 p_126 => ?_)
          obtain ⟨rfl, rfl⟩ := p_126
          refine g_V1n0 (ctX3_done hA _ _) kX3_done q2173 tw_0 rfl rfl (by decide) ⟨rfl, rfl⟩ ⟨Nat.zero_le _, Nat.zero_le _⟩ (Nat.le_of_ble_eq_true rfl) dX3_secret_129 (fun r_129 h_129 p_129 => ?_)
          obtain ⟨rfl, rfl⟩ := p_129
          exact g_iret dX3_secret_132 rfl ⟨_, rfl, (by first | exact t_fails (by unfold xc_secret; (repeat' split) <;> omega) (by decide) (by unfold xm_secret; exact tSame.rf) | exact t_done (by unfold xc_secret; (repeat' split) <;> omega) rfl (by unfold xm_secret; exact tSame.rf) | exact t_done (by unfold xc_secret; (repeat' split) <;> omega) (by unfold xv_secret; rw [if_neg (by decide), if_neg (by decide), if_pos rfl]; first | rw [if_pos (by omega)] | rw [if_neg (by omega)]) (by unfold xm_secret; exact tSame.rf))⟩
      · first | refine g_aload0 dX3_secret_38 ?_ | refine g_aloadQ0 dX3_secret_38 ?_ | refine g_aloadN0 dX3_secret_38 ?_
        refine g_iconst (nI 3) dX3_secret_39 (by decide) ?_
        refine g_V1n0 (ctX3_fails hA _ _) kX3_fails q2196 tw_0 rfl rfl (by decide) ⟨rfl, rfl⟩ ⟨Nat.zero_le _, Nat.zero_le _⟩ (Nat.le_of_ble_eq_true rfl) dX3_secret_40 (fun r_40 h_40 p_40 => ?_)
        obtain ⟨rfl, rfl⟩ := p_40
        exact g_iret dX3_secret_43 rfl ⟨_, rfl, (by first | exact t_fails (by unfold xc_secret; (repeat' split) <;> omega) (by decide) (by unfold xm_secret; exact tSame.rf) | exact t_done (by unfold xc_secret; (repeat' split) <;> omega) rfl (by unfold xm_secret; exact tSame.rf) | exact t_done (by unfold xc_secret; (repeat' split) <;> omega) (by unfold xv_secret; rw [if_neg (by decide), if_neg (by decide), if_pos rfl]; first | rw [if_pos (by omega)] | rw [if_neg (by omega)]) (by unfold xm_secret; exact tSame.rf))⟩
    · first | refine g_aload0 dX3_secret_23 ?_ | refine g_aloadQ0 dX3_secret_23 ?_ | refine g_aloadN0 dX3_secret_23 ?_
      refine g_iconst (nI 2) dX3_secret_24 (by decide) ?_
      refine g_V1n0 (ctX3_fails hA _ _) kX3_fails q2196 tw_0 rfl rfl (by decide) ⟨rfl, rfl⟩ ⟨Nat.zero_le _, Nat.zero_le _⟩ (Nat.le_of_ble_eq_true rfl) dX3_secret_25 (fun r_25 h_25 p_25 => ?_)
      obtain ⟨rfl, rfl⟩ := p_25
      exact g_iret dX3_secret_28 rfl ⟨_, rfl, (by first | exact t_fails (by unfold xc_secret; (repeat' split) <;> omega) (by decide) (by unfold xm_secret; exact tSame.rf) | exact t_done (by unfold xc_secret; (repeat' split) <;> omega) rfl (by unfold xm_secret; exact tSame.rf) | exact t_done (by unfold xc_secret; (repeat' split) <;> omega) (by unfold xv_secret; rw [if_neg (by decide), if_neg (by decide), if_pos rfl]; first | rw [if_pos (by omega)] | rw [if_neg (by omega)]) (by unfold xm_secret; exact tSame.rf))⟩
  · first | refine g_aload0 dX3_secret_7 ?_ | refine g_aloadQ0 dX3_secret_7 ?_ | refine g_aloadN0 dX3_secret_7 ?_
    refine g_iconst (nI 1) dX3_secret_8 (by decide) ?_
    refine g_V1n0 (ctX3_fails hA _ _) kX3_fails q2196 tw_0 rfl rfl (by decide) ⟨rfl, rfl⟩ ⟨Nat.zero_le _, Nat.zero_le _⟩ (Nat.le_of_ble_eq_true rfl) dX3_secret_9 (fun r_9 h_9 p_9 => ?_)
    obtain ⟨rfl, rfl⟩ := p_9
    exact g_iret dX3_secret_12 rfl ⟨_, rfl, (by first | exact t_fails (by unfold xc_secret; (repeat' split) <;> omega) (by decide) (by unfold xm_secret; exact tSame.rf) | exact t_done (by unfold xc_secret; (repeat' split) <;> omega) rfl (by unfold xm_secret; exact tSame.rf) | exact t_done (by unfold xc_secret; (repeat' split) <;> omega) (by unfold xv_secret; rw [if_neg (by decide), if_neg (by decide), if_pos rfl]; first | rw [if_pos (by omega)] | rw [if_neg (by omega)]) (by unfold xm_secret; exact tSame.rf))⟩
def tGv (M : TW) (s mem m : Nat) : Nat → TW
  | 0 => (tNd M (opL (M 1) s mem))
  | k + 1 => tset (tGv M s mem m k) 11 k (opV M s mem (3 * m + 1 + k))
theorem tGv_n (M : TW) (s mem m k b : Nat) (h : b ≠ 11) : tGv M s mem m k b = (tNd M (opL (M 1) s mem)) b := by
  induction k with
  | zero => rfl
  | succ k ih => rw [tGv, tset_n _ _ _ h, ih]
theorem tGv_same (M : TW) (s mem m k : Nat) : tSame M (tGv M s mem m k) := by
  induction k with
  | zero => exact tNd_same _ _
  | succ k ih => exact ih.a 11 _ _ (by decide)
theorem tGv_11 (M : TW) (s mem m k j : Nat) (h : j < k) : tGv M s mem m k 11 j = opV M s mem (3 * m + 1 + j) := by
  induction k with
  | zero => omega
  | succ k ih =>
    rw [tGv, tset_s]
    unfold nup
    split
    · rename_i e
      rw [e]
    · exact ih (by omega)
theorem twB_gv {M : TW} {s mem m k : Nat} (h : twB M) : twB (tGv M s mem m k) := by
  induction k with
  | zero => exact twB_op h
  | succ k ih => exact twB_set ih (Nat.lt_trans (vaS_lt _ _ _ _ _ _) (by decide))
abbrev enD (g : Nat → Nat) (s x : Nat) : Prop := ¬ (gSh g s x 0 = 1 ∧ stF g s x = 0)
/-- an enrolling: the first k places of a member -/
def enP (Mb M : TW) (s mem m : Nat) : Nat → TW
  | 0 => Mb
  | k + 1 => if enD (M 1) s (3 * m + 1 + k) then tShare (enP Mb M s mem m k) s (3 * m + 1 + k) (opV M s mem (3 * m + 1 + k)) (gOf (M 1) s 2) else enP Mb M s mem m k
def enN (M : TW) (s m : Nat) : Nat → Nat
  | 0 => 0
  | k + 1 => enN M s m k + (if enD (M 1) s (3 * m + 1 + k) then 1 else 0)
theorem enP_n (Mb M : TW) (s mem m k b : Nat) (h : b ≠ 1) : enP Mb M s mem m k b = Mb b := by
  induction k with
  | zero => rfl
  | succ k ih =>
    rw [enP]
    split
    · rw [tShare_n _ _ _ _ _ _ h, ih]
    · exact ih
theorem enP_far (Mb M : TW) (s mem m k i : Nat) (h : i < 38 + 124 * s + (52 + 3 * (3 * m)) ∨ 38 + 124 * s + (52 + 3 * (3 * m + k)) ≤ i) : enP Mb M s mem m k 1 i = Mb 1 i := by
  induction k with
  | zero => rfl
  | succ k ih =>
    rw [enP]
    split
    · rw [tShare_far _ _ _ _ _ _ (by omega), ih (by omega)]
    · exact ih (by omega)
theorem tSame.en {Mb Mb1 : TW} (h : tSame Mb Mb1) (M : TW) (s mem m k : Nat) : tSame (enP Mb M s mem m k) (enP Mb1 M s mem m k) := by
  induction k with
  | zero => exact h
  | succ k ih =>
    rw [enP, enP]
    split
    · exact ih.share _ _ _ _
    · exact ih
theorem twB_en {Mb M : TW} {s mem m k : Nat} (h : twB Mb) (he : gOf (M 1) s 2 < 4294967296) : twB (enP Mb M s mem m k) := by
  induction k with
  | zero => exact h
  | succ k ih =>
    rw [enP]
    split
    · exact twB_share ih (Nat.lt_trans (vaS_lt _ _ _ _ _ _) (by decide)) he
    · exact ih
theorem share_1 (M : TW) (s x v e : Nat) : gSh (tShare M s x v e 1) s x 1 = v := by
  unfold gSh tShare
  rw [tset_s, nup_n _ _ (by omega), tset_ss]
theorem slP_share {M : TW} {s x v e : Nat} (h : slP (M 1) s) (hv : v < 1019) (hx : 1 ≤ x) : slP (tShare M s x v e 1) s := by
  refine ⟨?_, fun j hj => ?_, fun y h1 h2 => ?_⟩
  · rw [show gOf (tShare M s x v e 1) s 1 = gOf (M 1) s 1 from tShare_far _ _ _ _ _ _ (by omega)]
    exact h.1
  · rw [show gOf (tShare M s x v e 1) s (3 + j) = gOf (M 1) s (3 + j) from tShare_far _ _ _ _ _ _ (by omega)]
    exact h.2.1 j hj
  · by_cases hyx : y = x
    · subst hyx
      rw [share_1]
      exact hv
    · rw [show gSh (tShare M s x v e 1) s y 1 = gSh (M 1) s y 1 from tShare_far _ _ _ _ _ _ (by omega)]
      exact h.2.2 y h1 h2
theorem slP_en {Mb M : TW} {s mem m k : Nat} (h : slP (Mb 1) s) : slP (enP Mb M s mem m k 1) s := by
  induction k with
  | zero => exact h
  | succ k ih =>
    rw [enP]
    split
    · exact slP_share ih (vaS_lt _ _ _ _ _ _) (by omega)
    · exact ih
theorem prF_g {g g' : Nat → Nat} {s : Nat} (h : ∀ w, w < 52 → gOf g' s w = gOf g s w) (x j : Nat) (hj : j ≤ 8) : prF g' s x j = prF g s x j := by
  induction j with
  | zero => rfl
  | succ j ih => rw [prF, prF, ih (by omega), h _ (by omega)]
theorem stF_g {g g' : Nat → Nat} {s x : Nat} (h : ∀ w, w < 52 → gOf g' s w = gOf g s w) (h2 : ∀ c, c < 3 → gSh g' s x c = gSh g s x c) (h8 : gOf g s 1 ≤ 8) : stF g' s x = stF g s x := by
  unfold stF
  rw [h2 2 (by decide), h2 1 (by decide), h 2 (by decide), h 1 (by decide), prF_g h x _ h8]
abbrev mX3_enroll : GM := (yX3_enroll, 8, (some .int), [], { frames := 49, cells := 0, slots := 0, locals := 2698 }, 255)
theorem kX3_enroll : gCv cX3_enroll mX3_enroll 3 := ⟨q2343, q2344, q90, q2345, ⟨by decide +kernel, by decide +kernel, by decide +kernel⟩, rfl⟩
def xc_enroll (M : TW) (s mem m : Nat) : Nat := if ¬ s ≤ 3 ∨ ¬ m ≤ 7 then 1 else loC (M 1) s mem
def xv_enroll (M : TW) (s mem m : Nat) : Nat := enN M s m (M 1 (1 + m))
def xm_enroll (M : TW) (s mem m : Nat) : TW := if s ≤ 3 ∧ m ≤ 7 then (if loC (M 1) s mem = 0 then tEv (enP M M s mem m (M 1 (1 + m))) (500 + 10 * s + m) else loX M s mem) else M
set_option maxHeartbeats 400000 in
theorem ctX3_enroll {E : GE} {h : AH} {A : Nat → Nat} (hA : twA A) (M : TW) (s mem m : Nat) (hW : tWF M) (hWp : ∀ s, s < 4 → plW (M 1) s) (hs : s < 4294967296) (hm : mem < 4294967296) (hmm : m < 4294967296) : Ct E cX3_enroll mX3_enroll [.ref (A 0), .int (nI s), .int (nI mem), .int (nI m)] (twO E A M h) (pN fun r h' => tEnd E A h (xc_enroll M s mem m ) (xv_enroll M s mem m ) (xm_enroll M s mem m ) r h') noX := by
  refine g_enter (own := "SecretVaultModel") [some (.ref (A 0)), some (.int (nI s)), some (.int (nI mem)), some (.int (nI m)), none, none, none, none] (by decide +kernel) rfl rfl (Nat.le_of_ble_eq_true rfl) rfl rfl (fun X => ?_)
  have hB := hW.1
  have hWt := hW.2.1
  have hs17 : M 1 17 ≤ 20 := hW.2.2.2.1
  have hlc := loC_le (M 1) s mem
  have L2 : ∀ k, 0 ≤ k → k ≤ M 1 (1 + m) → m ≤ 7 → loC (M 1) s mem = 0 → ∀ o7, V E cX3_enroll "SecretVaultModel" mX3_enroll (pN fun r h' => tEnd E A h (xc_enroll M s mem m ) (xv_enroll M s mem m ) (xm_enroll M s mem m ) r h') noX X (twO E A (enP (tGv M s mem m 3) M s mem m (k)) h) 0 0 87 [some (.ref (A 0)), some (.int (nI (s))), some (.int (nI (mem))), some (.int (nI (m))), some (.int (nI (0))), some (.int (nI (enN M s m k))), some (.int (nI (k))), o7] [] := by
    intro k h90 h91 hm7 hl0
    have h00 := hl0
    obtain ⟨hs3, hm3, hh3, hop⟩ := loC_0 h00
    have hsl := hW.2.2.2.2 s (by omega)
    have hS := hsl.P
    have hk8 := hsl.2.2.1
    have hep := hsl.2.2.2.1
    have hw3 := hWt m (by omega)
    have hN := op_N hop
    refine g_for (fun k => ∀ o7, V E cX3_enroll "SecretVaultModel" mX3_enroll (pN fun r h' => tEnd E A h (xc_enroll M s mem m ) (xv_enroll M s mem m ) (xm_enroll M s mem m ) r h') noX X (twO E A (enP (tGv M s mem m 3) M s mem m (k)) h) 0 0 87 [some (.ref (A 0)), some (.int (nI (s))), some (.int (nI (mem))), some (.int (nI (m))), some (.int (nI (0))), some (.int (nI (enN M s m k))), some (.int (nI (k))), o7] []) 0 (M 1 (1 + m)) ?_ ?_ k h90 h91
    · intro o7
      have ew : (enP (tGv M s mem m 3) M s mem m (M 1 (1 + m))) 1 (1 + m) = M 1 (1 + m) := by rw [enP_far _ _ _ _ _ _ _ (by omega), tGv_n _ _ _ _ _ _ (by decide)]; rfl
      have hE : (enP (tGv M s mem m 3) M s mem m (M 1 (1 + m))) 1 17 ≤ 20 := by rw [enP_far _ _ _ _ _ _ _ (by omega), tGv_n _ _ _ _ _ _ (by decide)]; exact hs17
      refine g_iload6 dX3_enroll_87 ?_
      first | refine g_aload0 dX3_enroll_89 ?_ | refine g_aloadQ0 dX3_enroll_89 ?_ | refine g_aloadN0 dX3_enroll_89 ?_
      refine t_get1 hA q2099 dX3_enroll_90 ?_
      refine g_iconst (nI 1) dX3_enroll_93 (by decide) ?_
      refine g_iload3 dX3_enroll_94 ?_
      first | refine g_iaddN dX3_enroll_95 ?_ | refine g_iadd dX3_enroll_95 ?_
      refine t_ald1 hA (by first | omega | exact hB _ _) dX3_enroll_96 ?_
      rw [ew]
      first | refine g_icmpN_ge (tgt := 149) dX3_enroll_97 (by decide) (by first | omega | exact hB _ _) (by first | omega | exact hB _ _) (fun c_97 => ?_) (fun c_97 => ?_) | refine g_icmp_ge (tgt := 149) dX3_enroll_97 (by decide) (fun c_97 => ?_) (fun c_97 => ?_)
      · first | refine g_aload0 dX3_enroll_149 ?_ | refine g_aloadQ0 dX3_enroll_149 ?_ | refine g_aloadN0 dX3_enroll_149 ?_
        refine g_sipush (nI 500) dX3_enroll_150 (by decide) ?_
        refine g_bipush (nI 10) dX3_enroll_153 (by decide) ?_
        refine g_iload1 dX3_enroll_155 ?_
        first | refine g_imulN dX3_enroll_156 ?_ | refine g_imul dX3_enroll_156 ?_
        first | refine g_iaddN dX3_enroll_157 ?_ | refine g_iadd dX3_enroll_157 ?_
        refine g_iload3 dX3_enroll_158 ?_
        first | refine g_iaddN dX3_enroll_159 ?_ | refine g_iadd dX3_enroll_159 ?_
        refine g_V1v0 (ctX3_happens hA _ _ hE) kX3_happens q2269 tw_0 rfl rfl (by decide) ⟨rfl, rfl⟩ ⟨Nat.zero_le _, Nat.zero_le _⟩ (Nat.le_of_ble_eq_true rfl) dX3_enroll_160 (fun h_160 p_160 => ?_)
        subst p_160
        first | refine g_aload0 dX3_enroll_163 ?_ | refine g_aloadQ0 dX3_enroll_163 ?_ | refine g_aloadN0 dX3_enroll_163 ?_
        refine g_iload5 dX3_enroll_164 ?_
        refine g_V1n0 (ctX3_done hA _ _) kX3_done q2173 tw_0 rfl rfl (by decide) ⟨rfl, rfl⟩ ⟨Nat.zero_le _, Nat.zero_le _⟩ (Nat.le_of_ble_eq_true rfl) dX3_enroll_166 (fun r_166 h_166 p_166 => ?_)
        obtain ⟨rfl, rfl⟩ := p_166
        exact g_iret dX3_enroll_169 rfl ⟨_, rfl, t_done (by unfold xc_enroll; rw [if_neg (by omega)]; exact h00.symm) rfl (by unfold xm_enroll; rw [if_pos (by omega), if_pos h00]; exact ((tGv_same M s mem m 3).en _ _ _ _ _).ev _)⟩
      · omega
    · intro k h0 hk ih o7
      have ew : (enP (tGv M s mem m 3) M s mem m (k)) 1 (1 + m) = M 1 (1 + m) := by rw [enP_far _ _ _ _ _ _ _ (by omega), tGv_n _ _ _ _ _ _ (by decide)]; rfl
      have eo : ∀ w, w < 52 → gOf ((enP (tGv M s mem m 3) M s mem m (k)) 1) s w = gOf (M 1) s w := fun w hw => by unfold gOf; rw [enP_far _ _ _ _ _ _ _ (by omega), tGv_n _ _ _ _ _ _ (by decide)]; rfl
      have es : ∀ c, c < 3 → gSh ((enP (tGv M s mem m 3) M s mem m (k)) 1) s (3 * m + 1 + k) c = gSh (M 1) s (3 * m + 1 + k) c := fun c hc => by unfold gSh; rw [enP_far _ _ _ _ _ _ _ (by omega), tGv_n _ _ _ _ _ _ (by decide)]; rfl
      have hBk : twB (enP (tGv M s mem m 3) M s mem m (k)) := twB_en (twB_gv hB) (by omega)
      have hSk : slP ((enP (tGv M s mem m 3) M s mem m (k)) 1) s := slP_en (by rw [tGv_n _ _ _ _ _ _ (by decide)]; exact hS)
      have est := stF_g eo es hk8
      have es0 := es 0 (by decide)
      have eg : (enP (tGv M s mem m 3) M s mem m (k)) 11 k = opV M s mem (3 * m + 1 + k) := by rw [enP_n _ _ _ _ _ _ _ (by decide), tGv_11 _ _ _ _ _ _ (by omega)]
      have ee := eo 2 (by decide)
      have hst := stF_lt (M 1) s (3 * m + 1 + k)
      refine g_iload6 dX3_enroll_87 ?_
      first | refine g_aload0 dX3_enroll_89 ?_ | refine g_aloadQ0 dX3_enroll_89 ?_ | refine g_aloadN0 dX3_enroll_89 ?_
      refine t_get1 hA q2099 dX3_enroll_90 ?_
      refine g_iconst (nI 1) dX3_enroll_93 (by decide) ?_
      refine g_iload3 dX3_enroll_94 ?_
      first | refine g_iaddN dX3_enroll_95 ?_ | refine g_iadd dX3_enroll_95 ?_
      refine t_ald1 hA (by first | omega | exact hB _ _) dX3_enroll_96 ?_
      rw [ew]
      first | refine g_icmpN_ge (tgt := 149) dX3_enroll_97 (by decide) (by first | omega | exact hB _ _) (by first | omega | exact hB _ _) (fun c_97 => ?_) (fun c_97 => ?_) | refine g_icmp_ge (tgt := 149) dX3_enroll_97 (by decide) (fun c_97 => ?_) (fun c_97 => ?_)
      · omega
      · refine g_iconst (nI 3) dX3_enroll_100 (by decide) ?_
        refine g_iload3 dX3_enroll_101 ?_
        first | refine g_imulN dX3_enroll_102 ?_ | refine g_imul dX3_enroll_102 ?_
        refine g_iconst (nI 1) dX3_enroll_103 (by decide) ?_
        first | refine g_iaddN dX3_enroll_104 ?_ | refine g_iadd dX3_enroll_104 ?_
        refine g_iload6 dX3_enroll_105 ?_
        first | refine g_iaddN dX3_enroll_107 ?_ | refine g_iadd dX3_enroll_107 ?_
        refine g_istore7 dX3_enroll_108 (by decide) ?_
        first | refine g_aload0 dX3_enroll_110 ?_ | refine g_aloadQ0 dX3_enroll_110 ?_ | refine g_aloadN0 dX3_enroll_110 ?_
        refine g_iload1 dX3_enroll_111 ?_
        refine g_iload7 dX3_enroll_112 ?_
        refine g_V2n0 (ctX3_isGood hA _ _ _ hBk (by omega) (by omega) hSk) kX3_isGood q2346 tw_0 rfl rfl (by decide) ⟨rfl, rfl⟩ ⟨Nat.zero_le _, Nat.zero_le _⟩ (Nat.le_of_ble_eq_true rfl) dX3_enroll_114 (fun r_114 h_114 p_114 => ?_)
        obtain ⟨hr_114, hi_114, rfl⟩ := p_114
        rw [est, es0] at hi_114
        first | refine g_ifN_ne (tgt := 143) dX3_enroll_117 (by decide) (by first | omega | exact hB _ _) (fun c_117 => ?_) (fun c_117 => ?_) | refine g_if_ne (tgt := 143) dX3_enroll_117 (by decide) (fun c_117 => ?_) (fun c_117 => ?_)
        · first | refine g_iincN6 1 dX3_enroll_143 (by decide) (by decide) ?_ | refine g_iinc6 _ dX3_enroll_143 rfl (by decide) ?_
          refine g_goto (tgt := 87) dX3_enroll_146 (by decide) ?_
          first | (rw [show (enP (tGv M s mem m 3) M s mem m (k + 1)) = tShare (enP (tGv M s mem m 3) M s mem m (k)) s (3 * m + 1 + k) (opV M s mem (3 * m + 1 + k)) (gOf (M 1) s 2) from by rw [enP, if_pos (by omega)], show enN M s m (k + 1) = enN M s m k + 1 from by rw [enN, if_pos (by omega)]] at ih; exact ih _) | (rw [show (enP (tGv M s mem m 3) M s mem m (k + 1)) = (enP (tGv M s mem m 3) M s mem m (k)) from by rw [enP, if_neg (by omega)], show enN M s m (k + 1) = enN M s m k from by rw [enN, if_neg (by omega)]; rfl] at ih; exact ih _)
        · first | refine g_aload0 dX3_enroll_120 ?_ | refine g_aloadQ0 dX3_enroll_120 ?_ | refine g_aloadN0 dX3_enroll_120 ?_
          refine g_iload1 dX3_enroll_121 ?_
          refine g_iload7 dX3_enroll_122 ?_
          first | refine g_aload0 dX3_enroll_124 ?_ | refine g_aloadQ0 dX3_enroll_124 ?_ | refine g_aloadN0 dX3_enroll_124 ?_
          refine t_get11 hA q2108 dX3_enroll_125 ?_
          refine g_iload6 dX3_enroll_128 ?_
          refine t_ald11 hA (by first | omega | exact hB _ _) dX3_enroll_130 ?_
          rw [eg]
          first | refine g_aload0 dX3_enroll_131 ?_ | refine g_aloadQ0 dX3_enroll_131 ?_ | refine g_aloadN0 dX3_enroll_131 ?_
          refine g_iload1 dX3_enroll_132 ?_
          refine g_iconst (nI 2) dX3_enroll_133 (by decide) ?_
          refine g_V2n0 (ctX3_of hA _ _ _ (by omega) (by omega)) kX3_of q2220 tw_0 rfl rfl (by decide) ⟨rfl, rfl⟩ ⟨Nat.zero_le _, Nat.zero_le _⟩ (Nat.le_of_ble_eq_true rfl) dX3_enroll_134 (fun r_134 h_134 p_134 => ?_)
          obtain ⟨rfl, rfl⟩ := p_134
          rw [ee]
          refine g_V4v0 (ctX3_setsShare hA _ _ _ _ _ (by omega) (by omega)) kX3_setsShare q2265 tw_0 rfl rfl (by decide) ⟨rfl, rfl⟩ ⟨Nat.zero_le _, Nat.zero_le _⟩ (Nat.le_of_ble_eq_true rfl) dX3_enroll_137 (fun h_137 p_137 => ?_)
          subst p_137
          first | refine g_iincN5 1 dX3_enroll_140 (by decide) (by decide) ?_ | refine g_iinc5 _ dX3_enroll_140 rfl (by decide) ?_
          first | refine g_iincN6 1 dX3_enroll_143 (by decide) (by decide) ?_ | refine g_iinc6 _ dX3_enroll_143 rfl (by decide) ?_
          refine g_goto (tgt := 87) dX3_enroll_146 (by decide) ?_
          first | (rw [show (enP (tGv M s mem m 3) M s mem m (k + 1)) = tShare (enP (tGv M s mem m 3) M s mem m (k)) s (3 * m + 1 + k) (opV M s mem (3 * m + 1 + k)) (gOf (M 1) s 2) from by rw [enP, if_pos (by omega)], show enN M s m (k + 1) = enN M s m k + 1 from by rw [enN, if_pos (by omega)]] at ih; exact ih _) | (rw [show (enP (tGv M s mem m 3) M s mem m (k + 1)) = (enP (tGv M s mem m 3) M s mem m (k)) from by rw [enP, if_neg (by omega)], show enN M s m (k + 1) = enN M s m k from by rw [enN, if_neg (by omega)]; rfl] at ih; exact ih _)
  have L1 : ∀ k, 0 ≤ k → k ≤ 3 → m ≤ 7 → loC (M 1) s mem = 0 → ∀ o7, V E cX3_enroll "SecretVaultModel" mX3_enroll (pN fun r h' => tEnd E A h (xc_enroll M s mem m ) (xv_enroll M s mem m ) (xm_enroll M s mem m ) r h') noX X (twO E A (tGv M s mem m k) h) 0 0 46 [some (.ref (A 0)), some (.int (nI (s))), some (.int (nI (mem))), some (.int (nI (m))), some (.int (nI (0))), some (.int (nI (0))), some (.int (nI (k))), o7] [] := by
    intro k h90 h91 hm7 hl0
    have h00 := hl0
    obtain ⟨hs3, hm3, hh3, hop⟩ := loC_0 h00
    have hsl := hW.2.2.2.2 s (by omega)
    have hS := hsl.P
    have hk8 := hsl.2.2.1
    have hep := hsl.2.2.2.1
    have hw3 := hWt m (by omega)
    have hN := op_N hop
    refine g_for (fun k => ∀ o7, V E cX3_enroll "SecretVaultModel" mX3_enroll (pN fun r h' => tEnd E A h (xc_enroll M s mem m ) (xv_enroll M s mem m ) (xm_enroll M s mem m ) r h') noX X (twO E A (tGv M s mem m k) h) 0 0 46 [some (.ref (A 0)), some (.int (nI (s))), some (.int (nI (mem))), some (.int (nI (m))), some (.int (nI (0))), some (.int (nI (0))), some (.int (nI (k))), o7] []) 0 3 ?_ ?_ k h90 h91
    · intro o7
      refine g_iload6 dX3_enroll_46 ?_
      refine g_iconst (nI 3) dX3_enroll_48 (by decide) ?_
      first | refine g_icmpN_ge (tgt := 84) dX3_enroll_49 (by decide) (by first | omega | exact hB _ _) (by first | omega | exact hB _ _) (fun c_49 => ?_) (fun c_49 => ?_) | refine g_icmp_ge (tgt := 84) dX3_enroll_49 (by decide) (fun c_49 => ?_) (fun c_49 => ?_)
      · refine g_iconst (nI 0) dX3_enroll_84 (by decide) ?_
        refine g_istore6 dX3_enroll_85 (by decide) ?_
        exact L2 0 (by omega) (by omega) hm7 h00 _
      · omega
    · intro k h0 hk ih o7
      have e1 : tGv M s mem m k 1 = M 1 := by rw [tGv_n _ _ _ _ _ _ (by decide)]; rfl
      have e5 : tGv M s mem m k 5 = (tNd M (opL (M 1) s mem)) 5 := tGv_n _ _ _ _ _ _ (by decide)
      have hSk : slP (tGv M s mem m k 1) s := by rw [e1]; exact hS
      have hNk : ∀ i, i < gOf (M 1) s 1 → 1 ≤ tGv M s mem m k 5 i ∧ tGv M s mem m k 5 i ≤ 24 := by rw [e5]; exact hN
      refine g_iload6 dX3_enroll_46 ?_
      refine g_iconst (nI 3) dX3_enroll_48 (by decide) ?_
      first | refine g_icmpN_ge (tgt := 84) dX3_enroll_49 (by decide) (by first | omega | exact hB _ _) (by first | omega | exact hB _ _) (fun c_49 => ?_) (fun c_49 => ?_) | refine g_icmp_ge (tgt := 84) dX3_enroll_49 (by decide) (fun c_49 => ?_) (fun c_49 => ?_)
      · omega
      · first | refine g_aload0 dX3_enroll_52 ?_ | refine g_aloadQ0 dX3_enroll_52 ?_ | refine g_aloadN0 dX3_enroll_52 ?_
        refine t_get11 hA q2108 dX3_enroll_53 ?_
        refine g_iload6 dX3_enroll_56 ?_
        first | refine g_aload0 dX3_enroll_58 ?_ | refine g_aloadQ0 dX3_enroll_58 ?_ | refine g_aloadN0 dX3_enroll_58 ?_
        refine g_iload1 dX3_enroll_59 ?_
        first | refine g_aload0 dX3_enroll_60 ?_ | refine g_aloadQ0 dX3_enroll_60 ?_ | refine g_aloadN0 dX3_enroll_60 ?_
        refine g_iload1 dX3_enroll_61 ?_
        refine g_iconst (nI 1) dX3_enroll_62 (by decide) ?_
        refine g_V2n0 (ctX3_of hA _ _ _ (by omega) (by omega)) kX3_of q2220 tw_0 rfl rfl (by decide) ⟨rfl, rfl⟩ ⟨Nat.zero_le _, Nat.zero_le _⟩ (Nat.le_of_ble_eq_true rfl) dX3_enroll_63 (fun r_63 h_63 p_63 => ?_)
        obtain ⟨rfl, rfl⟩ := p_63
        rw [e1]
        refine g_iconst (nI 3) dX3_enroll_66 (by decide) ?_
        refine g_iload3 dX3_enroll_67 ?_
        first | refine g_imulN dX3_enroll_68 ?_ | refine g_imul dX3_enroll_68 ?_
        refine g_iconst (nI 1) dX3_enroll_69 (by decide) ?_
        first | refine g_iaddN dX3_enroll_70 ?_ | refine g_iadd dX3_enroll_70 ?_
        refine g_iload6 dX3_enroll_71 ?_
        first | refine g_iaddN dX3_enroll_73 ?_ | refine g_iadd dX3_enroll_73 ?_
        refine g_V3n0 (ctX3_valueAt hA (tGv M s mem m k) _ _ _ (by omega) (by omega) (by omega) hSk hNk) kX3_valueAt q2335 tw_0 rfl rfl (by decide) ⟨rfl, rfl⟩ ⟨Nat.zero_le _, Nat.zero_le _⟩ (Nat.le_of_ble_eq_true rfl) dX3_enroll_74 (fun r_74 h_74 p_74 => ?_)
        obtain ⟨hi0_r, rfl⟩ := p_74
        rw [e1, e5] at hi0_r
        have hi_74 : r_74 = opV M s mem (3 * m + 1 + k) := hi0_r
        subst hi_74
        refine t_ast11 hA (by first | omega | exact hB _ _) dX3_enroll_77 ?_
        first | refine g_iincN6 1 dX3_enroll_78 (by decide) (by decide) ?_ | refine g_iinc6 _ dX3_enroll_78 rfl (by decide) ?_
        refine g_goto (tgt := 46) dX3_enroll_81 (by decide) ?_
        exact ih _
  refine g_iload1 dX3_enroll_0 ?_
  refine g_S1n0 (ctX3_isSlot _ (by omega)) kX3_isSlot q2235 (by decide) ⟨rfl, rfl⟩ ⟨Nat.zero_le _, Nat.zero_le _⟩ (Nat.le_of_ble_eq_true rfl) dX3_enroll_1 (fun r_1 h_1 p_1 => ?_)
  obtain ⟨hr_1, hi_1, rfl⟩ := p_1
  first | refine g_ifN_eq (tgt := 14) dX3_enroll_4 (by decide) (by first | omega | exact hB _ _) (fun c_4 => ?_) (fun c_4 => ?_) | refine g_if_eq (tgt := 14) dX3_enroll_4 (by decide) (fun c_4 => ?_) (fun c_4 => ?_)
  · first | refine g_aload0 dX3_enroll_14 ?_ | refine g_aloadQ0 dX3_enroll_14 ?_ | refine g_aloadN0 dX3_enroll_14 ?_
    refine g_iconst (nI 1) dX3_enroll_15 (by decide) ?_
    refine g_V1n0 (ctX3_fails hA _ _) kX3_fails q2196 tw_0 rfl rfl (by decide) ⟨rfl, rfl⟩ ⟨Nat.zero_le _, Nat.zero_le _⟩ (Nat.le_of_ble_eq_true rfl) dX3_enroll_16 (fun r_16 h_16 p_16 => ?_)
    obtain ⟨rfl, rfl⟩ := p_16
    exact g_iret dX3_enroll_19 rfl ⟨_, rfl, (by first | exact t_fails (by unfold xc_enroll; (repeat' split) <;> omega) (by omega) (by unfold xm_enroll; rw [if_neg (by omega)]; exact tSame.rf) | exact t_fails (by unfold xc_enroll; rw [if_neg (by omega)]; omega) (by omega) (by unfold xm_enroll; rw [if_pos (by omega), if_neg (by omega)]; exact lo_same (by omega)))⟩
  · refine g_iload3 dX3_enroll_7 ?_
    refine g_S1n0 (ctX3_isMember _ (by omega)) kX3_isMember q2190 (by decide) ⟨rfl, rfl⟩ ⟨Nat.zero_le _, Nat.zero_le _⟩ (Nat.le_of_ble_eq_true rfl) dX3_enroll_8 (fun r_8 h_8 p_8 => ?_)
    obtain ⟨hr_8, hi_8, rfl⟩ := p_8
    first | refine g_ifN_ne (tgt := 20) dX3_enroll_11 (by decide) (by first | omega | exact hB _ _) (fun c_11 => ?_) (fun c_11 => ?_) | refine g_if_ne (tgt := 20) dX3_enroll_11 (by decide) (fun c_11 => ?_) (fun c_11 => ?_)
    · first | refine g_aload0 dX3_enroll_20 ?_ | refine g_aloadQ0 dX3_enroll_20 ?_ | refine g_aloadN0 dX3_enroll_20 ?_
      refine g_iload1 dX3_enroll_21 ?_
      refine g_iload2 dX3_enroll_22 ?_
      refine g_V2n0 (ctX3_lacksOpen hA _ _ _ hW hWp (by omega) (by omega)) kX3_lacksOpen q2292 tw_0 rfl rfl (by decide) ⟨rfl, rfl⟩ ⟨Nat.zero_le _, Nat.zero_le _⟩ (Nat.le_of_ble_eq_true rfl) dX3_enroll_23 (fun r_23 h_23 p_23 => ?_)
      obtain ⟨hi_23, rfl⟩ := p_23
      refine g_istore4 dX3_enroll_26 (by decide) ?_
      refine g_iload4 dX3_enroll_28 ?_
      first | refine g_ifN_eq (tgt := 40) dX3_enroll_30 (by decide) (by first | omega | exact hB _ _) (fun c_30 => ?_) (fun c_30 => ?_) | refine g_if_eq (tgt := 40) dX3_enroll_30 (by decide) (fun c_30 => ?_) (fun c_30 => ?_)
      · refine g_iconst (nI 0) dX3_enroll_40 (by decide) ?_
        refine g_istore5 dX3_enroll_41 (by decide) ?_
        refine g_iconst (nI 0) dX3_enroll_43 (by decide) ?_
        refine g_istore6 dX3_enroll_44 (by decide) ?_
        have h00 : loC (M 1) s mem = 0 := by omega
        obtain rfl : r_23 = 0 := by omega
        rw [loM_0 h00]
        exact L1 0 (by omega) (by omega) (by omega) h00 _
      · first | refine g_aload0 dX3_enroll_33 ?_ | refine g_aloadQ0 dX3_enroll_33 ?_ | refine g_aloadN0 dX3_enroll_33 ?_
        refine g_iload4 dX3_enroll_34 ?_
        refine g_V1n0 (ctX3_fails hA _ _) kX3_fails q2196 tw_0 rfl rfl (by decide) ⟨rfl, rfl⟩ ⟨Nat.zero_le _, Nat.zero_le _⟩ (Nat.le_of_ble_eq_true rfl) dX3_enroll_36 (fun r_36 h_36 p_36 => ?_)
        obtain ⟨rfl, rfl⟩ := p_36
        exact g_iret dX3_enroll_39 rfl ⟨_, rfl, (by first | exact t_fails (by unfold xc_enroll; (repeat' split) <;> omega) (by omega) (by unfold xm_enroll; rw [if_neg (by omega)]; exact tSame.rf) | exact t_fails (by unfold xc_enroll; rw [if_neg (by omega)]; omega) (by omega) (by unfold xm_enroll; rw [if_pos (by omega), if_neg (by omega)]; exact lo_same (by omega)))⟩
    · first | refine g_aload0 dX3_enroll_14 ?_ | refine g_aloadQ0 dX3_enroll_14 ?_ | refine g_aloadN0 dX3_enroll_14 ?_
      refine g_iconst (nI 1) dX3_enroll_15 (by decide) ?_
      refine g_V1n0 (ctX3_fails hA _ _) kX3_fails q2196 tw_0 rfl rfl (by decide) ⟨rfl, rfl⟩ ⟨Nat.zero_le _, Nat.zero_le _⟩ (Nat.le_of_ble_eq_true rfl) dX3_enroll_16 (fun r_16 h_16 p_16 => ?_)
      obtain ⟨rfl, rfl⟩ := p_16
      exact g_iret dX3_enroll_19 rfl ⟨_, rfl, (by first | exact t_fails (by unfold xc_enroll; (repeat' split) <;> omega) (by omega) (by unfold xm_enroll; rw [if_neg (by omega)]; exact tSame.rf) | exact t_fails (by unfold xc_enroll; rw [if_neg (by omega)]; omega) (by omega) (by unfold xm_enroll; rw [if_pos (by omega), if_neg (by omega)]; exact lo_same (by omega)))⟩
