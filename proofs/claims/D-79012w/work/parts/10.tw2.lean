/-! THE TWIN: states of shares, dealing -/
set_option maxRecDepth 100000
def exF (x : Nat) : Nat → Nat
  | 0 => 1
  | j + 1 => exF x j * x % 1019
def prF (g : Nat → Nat) (s x : Nat) : Nat → Nat
  | 0 => 1
  | j + 1 => prF g s x j * (gOf g s (3 + j) ^ exF x j % 2039) % 2039
/-- what a share is like: 0 good, 1 stale, 2 wrong -/
def stF (g : Nat → Nat) (s x : Nat) : Nat := if ¬ gSh g s x 2 = gOf g s 2 then 1 else if 4 ^ gSh g s x 1 % 2039 = prF g s x (gOf g s 1) then 0 else 2
theorem exF_lt (x j : Nat) : exF x j < 1019 := by
  cases j with
  | zero => show 1 < 1019; decide
  | succ j => exact Nat.mod_lt _ (by decide)
theorem prF_lt (g : Nat → Nat) (s x j : Nat) : prF g s x j < 2039 := by
  cases j with
  | zero => show 1 < 2039; decide
  | succ j => exact Nat.mod_lt _ (by decide)
theorem stF_lt (g : Nat → Nat) (s x : Nat) : stF g s x < 3 := by
  unfold stF
  split <;> (try split) <;> decide
/-- what the walk needs of a slot -/
def slP (g : Nat → Nat) (s : Nat) : Prop := gOf g s 1 ≤ 8 ∧ (∀ j, j < 8 → gOf g s (3 + j) < 2039) ∧ ∀ x, 1 ≤ x → x ≤ 24 → gSh g s x 1 < 1019
def zI (z : Nat) : Nat → Nat
  | 0 => z
  | i + 1 => zN (zI z i)
theorem zN_lt (z : Nat) : zN z < 4294967296 := Nat.mod_lt _ (by decide)
/-- the coefficients: the first one given, the others drawn -/
def cfF (z first j : Nat) : Nat := if j = 0 then first else zI z j / 2 ^ 16 % 1019
def tCf (M : TW) (first j : Nat) : TW := fun b => if b = 4 then (fun i => if i < j then cfF (M 1 0) first i else M 4 i) else if b = 1 then nup (M 1) 0 (zI (M 1 0) (j - 1)) else M b
theorem tCf_1 (M : TW) (first : Nat) : tset M 4 0 first = tCf M first 1 := by
  funext b i
  unfold tset tCf nup
  by_cases h4 : b = 4
  · subst h4
    simp only [if_true]
    by_cases hi : i = 0
    · subst hi
      rfl
    · rw [if_neg hi, if_neg (by omega)]
  · rw [if_neg h4, if_neg h4]
    by_cases h1 : b = 1
    · subst h1
      rw [if_pos rfl]
      by_cases hi : i = 0
      · subst hi
        rfl
      · rw [if_neg hi]
    · rw [if_neg h1]
theorem tCf_z (M : TW) (first j : Nat) : tCf M first j 1 0 = zI (M 1 0) (j - 1) := rfl
theorem tCf_s (M : TW) (first j : Nat) (hj : 1 ≤ j) : tset (tset (tCf M first j) 1 0 (zN (tCf M first j 1 0))) 4 j (zN (tCf M first j 1 0) / 2 ^ 16 % 1019) = tCf M first (j + 1) := by
  have hz : zN (zI (M 1 0) (j - 1)) = zI (M 1 0) j := by
    obtain ⟨i, rfl⟩ : ∃ i, j = i + 1 := ⟨j - 1, by omega⟩
    rfl
  rw [tCf_z, hz]
  funext b i
  unfold tset tCf nup
  by_cases h4 : b = 4
  · subst h4
    simp only [if_true]
    by_cases hi : i = j
    · subst hi
      rw [if_pos rfl, if_pos (by omega)]
      unfold cfF
      rw [if_neg (by omega)]
    · rw [if_neg hi]
      simp only [show ¬ (4 : Nat) = 1 by decide, if_false]
      by_cases h : i < j
      · rw [if_pos h, if_pos (by omega)]
      · rw [if_neg h, if_neg (by omega)]
  · rw [if_neg h4, if_neg h4]
    by_cases h1 : b = 1
    · subst h1
      simp only [if_true]
      rw [if_neg h4]
      show (if i = 0 then _ else if i = 0 then _ else _) = _
      by_cases hi : i = 0
      · subst hi
        rfl
      · rw [if_neg hi, if_neg hi]
        exact (if_neg hi).symm
    · rw [if_neg h1, if_neg h4, if_neg h1, if_neg h1]
/-- Horner, from the coefficient j down -/
def poD (cf : Nat → Nat) (x : Nat) : Nat → Nat → Nat
  | 0, v => v
  | j + 1, v => poD cf x j ((v * x + cf j) % 1019)
def upF (g : Nat → Nat) : Nat → Nat
  | 0 => 0
  | m + 1 => upF g m + (if g (9 + m) = 1 then g (1 + m) else 0)
/-- whether a place of a present member is used -/
abbrev plU (g : Nat → Nat) (x : Nat) : Prop := g (9 + (x - 1) / 3) = 1 ∧ (x - 1) % 3 < g (1 + (x - 1) / 3)
/-- the places up to p dealt; how many shares there are -/
def dlP (M : TW) (s k e : Nat) : Nat → TW
  | 0 => M
  | p + 1 => if plU (tRem (dlP M s k e p) s (p + 1) 3 1) (p + 1) then tShare (tRem (dlP M s k e p) s (p + 1) 3) s (p + 1) (poD (tRem (dlP M s k e p) s (p + 1) 3 4) (p + 1) k 0) e else tRem (dlP M s k e p) s (p + 1) 3
def dlN (M : TW) (s k e : Nat) : Nat → Nat
  | 0 => 0
  | p + 1 => dlN M s k e p + (if plU (tRem (dlP M s k e p) s (p + 1) 3 1) (p + 1) then 1 else 0)
def dlC (M : TW) (s k : Nat) : Nat → TW
  | 0 => M
  | j + 1 => tset (dlC M s k j) 1 (38 + 124 * s + (3 + j)) (if j < k then 4 ^ (dlC M s k j 4 j) % 2039 else 0)
def dlM (M : TW) (s value k e : Nat) : TW :=
  tset (tset (tset (dlC (dlP (tCf M value k) s k e 24) s k 8) 1 (38 + 124 * s + 0) 1) 1 (38 + 124 * s + 1) k) 1 (38 + 124 * s + 2) e
theorem tRem_n (M : TW) (s x k b : Nat) (h : b ≠ 1) : tRem M s x k b = M b := by
  induction k with
  | zero => rfl
  | succ k ih => rw [tRem, tset_n _ _ _ h, ih]
theorem tShare_n (M : TW) (s x v e b : Nat) (h : b ≠ 1) : tShare M s x v e b = M b := by
  unfold tShare
  rw [tset_n _ _ _ h, tset_n _ _ _ h, tset_n _ _ _ h]
theorem dlP_n (M : TW) (s k e p b : Nat) (h : b ≠ 1) : dlP M s k e p b = M b := by
  induction p with
  | zero => rfl
  | succ p ih =>
    rw [dlP]
    split
    · rw [tShare_n _ _ _ _ _ _ h, tRem_n _ _ _ _ _ h, ih]
    · rw [tRem_n _ _ _ _ _ h, ih]
theorem dlC_n (M : TW) (s k j b : Nat) (h : b ≠ 1) : dlC M s k j b = M b := by
  induction j with
  | zero => rfl
  | succ j ih => rw [dlC, tset_n _ _ _ h, ih]
theorem tRem_g (M : TW) (s x k i : Nat) (h : i < 38) : tRem M s x k 1 i = M 1 i := by
  induction k with
  | zero => rfl
  | succ k ih => rw [tRem, tset_s, nup_n _ _ (by omega), ih]
theorem tShare_g (M : TW) (s x v e i : Nat) (h : i < 38) : tShare M s x v e 1 i = M 1 i := by
  unfold tShare
  rw [tset_s, nup_n _ _ (by omega), tset_s, nup_n _ _ (by omega), tset_s, nup_n _ _ (by omega)]
theorem dlP_g (M : TW) (s k e p i : Nat) (h : i < 38) : dlP M s k e p 1 i = M 1 i := by
  induction p with
  | zero => rfl
  | succ p ih =>
    rw [dlP]
    split
    · rw [tShare_g _ _ _ _ _ _ h, tRem_g _ _ _ _ _ h, ih]
    · rw [tRem_g _ _ _ _ _ h, ih]
theorem poD_lt (cf : Nat → Nat) (x j v : Nat) (hv : v < 1019) : poD cf x j v < 1019 := by
  induction j generalizing v with
  | zero => exact hv
  | succ j ih => exact ih _ (Nat.mod_lt _ (by decide))
theorem tCf_g (M : TW) (first j i : Nat) (h : 0 < i) : tCf M first j 1 i = M 1 i := by
  show nup (M 1) 0 _ i = _
  rw [nup_n _ _ (by omega)]
theorem cfF_lt (z first j : Nat) (h : first < 1019) : cfF z first j < 1019 := by
  unfold cfF
  split
  · exact h
  · exact Nat.mod_lt _ (by decide)

abbrev mX3_stateOf : GM := (yX3_stateOf, 6, (some .int), [], { frames := 2, cells := 0, slots := 0, locals := 45 }, 255)
theorem kX3_stateOf : gCv cX3_stateOf mX3_stateOf 2 := ⟨q2226, qs31, q90, q2227, ⟨by decide +kernel, by decide +kernel, by decide +kernel⟩, rfl⟩
set_option maxHeartbeats 400000 in
theorem ctX3_stateOf {E : GE} {h : AH} {A : Nat → Nat} (hA : twA A) (M : TW) (s x : Nat) (hB : twB M) (hs : s < 4) (hx : 1 ≤ x ∧ x ≤ 24) (hS : slP (M 1) s) : Ct E cX3_stateOf mX3_stateOf [.ref (A 0), .int (nI s), .int (nI x)] (twO E A M h) (pN fun r h' => r = (stF (M 1) s x) ∧ h' = twO E A M h) noX := by
  refine g_enter (own := "SecretVaultModel") [some (.ref (A 0)), some (.int (nI s)), some (.int (nI x)), none, none, none] (by decide +kernel) rfl rfl (Nat.le_of_ble_eq_true rfl) rfl rfl (fun X => ?_)
  obtain ⟨hk8, hcm, hv⟩ := hS
  have hvx := hv x hx.1 hx.2
  have L : ∀ j, 0 ≤ j → j ≤ gOf (M 1) s 1 → ¬ ¬ gSh (M 1) s x 2 = gOf (M 1) s 2 → V E cX3_stateOf "SecretVaultModel" mX3_stateOf (pN fun r h' => r = (stF (M 1) s x) ∧ h' = twO E A M h) noX X (twO E A M h) 0 0 26 [some (.ref (A 0)), some (.int (nI s)), some (.int (nI x)), some (.int (nI (prF (M 1) s x j))), some (.int (nI (exF x j))), some (.int (nI j))] [] := by
    intro j h0 hj hne
    refine g_for (fun j => V E cX3_stateOf "SecretVaultModel" mX3_stateOf (pN fun r h' => r = (stF (M 1) s x) ∧ h' = twO E A M h) noX X (twO E A M h) 0 0 26 [some (.ref (A 0)), some (.int (nI s)), some (.int (nI x)), some (.int (nI (prF (M 1) s x j))), some (.int (nI (exF x j))), some (.int (nI j))] []) 0 (gOf (M 1) s 1) ?_ ?_ j h0 hj
    · have hp := prF_lt (M 1) s x (gOf (M 1) s 1)
      refine g_iload5 dX3_stateOf_26 ?_
      first | refine g_aload0 dX3_stateOf_28 ?_ | refine g_aloadQ0 dX3_stateOf_28 ?_ | refine g_aloadN0 dX3_stateOf_28 ?_
      refine g_iload1 dX3_stateOf_29 ?_
      refine g_iconst (nI 1) dX3_stateOf_30 (by decide) ?_
      refine g_V2n0 (ctX3_of hA _ _ _ (by omega) (by omega)) kX3_of q2220 tw_0 rfl rfl (by decide) ⟨rfl, rfl⟩ ⟨Nat.zero_le _, Nat.zero_le _⟩ (Nat.le_of_ble_eq_true rfl) dX3_stateOf_31 (fun r_31 h_31 p_31 => ?_)
      obtain ⟨rfl, rfl⟩ := p_31
      first | refine g_icmpN_ge (tgt := 77) dX3_stateOf_34 (by decide) (by first | omega | exact Nat.lt_trans (Nat.mod_lt _ (by decide)) (by decide)) (by first | omega | exact Nat.lt_trans (Nat.mod_lt _ (by decide)) (by decide)) (fun c_34 => ?_) (fun c_34 => ?_) | refine g_icmp_ge (tgt := 77) dX3_stateOf_34 (by decide) (fun c_34 => ?_) (fun c_34 => ?_)
      · refine g_iconst (nI 4) dX3_stateOf_77 (by decide) ?_
        first | refine g_aload0 dX3_stateOf_78 ?_ | refine g_aloadQ0 dX3_stateOf_78 ?_ | refine g_aloadN0 dX3_stateOf_78 ?_
        refine g_iload1 dX3_stateOf_79 ?_
        refine g_iload2 dX3_stateOf_80 ?_
        refine g_iconst (nI 1) dX3_stateOf_81 (by decide) ?_
        refine g_V3n0 (ctX3_shareOf hA _ _ _ _ (by omega) (by omega) (by omega)) kX3_shareOf q2216 tw_0 rfl rfl (by decide) ⟨rfl, rfl⟩ ⟨Nat.zero_le _, Nat.zero_le _⟩ (Nat.le_of_ble_eq_true rfl) dX3_stateOf_82 (fun r_82 h_82 p_82 => ?_)
        obtain ⟨rfl, rfl⟩ := p_82
        refine g_sipush (nI 2039) dX3_stateOf_85 (by decide) ?_
        refine g_S3n0 (ctX3_power _ _ _ (by omega) (by omega) (by omega)) kX3_power q2228 (by decide) ⟨rfl, rfl⟩ ⟨Nat.zero_le _, Nat.zero_le _⟩ (Nat.le_of_ble_eq_true rfl) dX3_stateOf_88 (fun r_88 h_88 p_88 => ?_)
        obtain ⟨rfl, rfl⟩ := p_88
        refine g_iload3 dX3_stateOf_91 ?_
        first | refine g_icmpN_ne (tgt := 99) dX3_stateOf_92 (by decide) (by first | omega | exact Nat.lt_trans (Nat.mod_lt _ (by decide)) (by decide)) (by first | omega | exact Nat.lt_trans (Nat.mod_lt _ (by decide)) (by decide)) (fun c_92 => ?_) (fun c_92 => ?_) | refine g_icmpU_ne (tgt := 99) dX3_stateOf_92 (by decide) (by first | omega | exact Nat.lt_trans (Nat.mod_lt _ (by decide)) (by decide)) (by first | omega | exact Nat.lt_trans (Nat.mod_lt _ (by decide)) (by decide)) (fun c_92 => ?_) (fun c_92 => ?_) | refine g_icmp_ne (tgt := 99) dX3_stateOf_92 (by decide) (fun c_92 => ?_) (fun c_92 => ?_)
        · refine g_iconst (nI 2) dX3_stateOf_99 (by decide) ?_
          exact g_iret dX3_stateOf_100 rfl ⟨_, rfl, by unfold stF; rw [if_neg hne]; first | exact (if_pos c_92).symm | exact (if_neg c_92).symm, rfl⟩
        · refine g_iconst (nI 0) dX3_stateOf_95 (by decide) ?_
          refine g_goto (tgt := 100) dX3_stateOf_96 (by decide) ?_
          exact g_iret dX3_stateOf_100 rfl ⟨_, rfl, by unfold stF; rw [if_neg hne]; first | exact (if_pos c_92).symm | exact (if_neg c_92).symm, rfl⟩
      · omega
    · intro j h0 hj ih
      have hc := hcm j (by omega)
      have he := exF_lt x j
      have hp := prF_lt (M 1) s x j
      have h1 : prF (M 1) s x j * (gOf (M 1) s (3 + j) ^ exF x j % 2039) ≤ 2038 * 2038 := Nat.mul_le_mul (by omega) (by have := Nat.mod_lt (gOf (M 1) s (3 + j) ^ exF x j) (show 0 < 2039 by decide); omega)
      have h2 : exF x j * x ≤ 1018 * 24 := Nat.mul_le_mul (by omega) (by omega)
      refine g_iload5 dX3_stateOf_26 ?_
      first | refine g_aload0 dX3_stateOf_28 ?_ | refine g_aloadQ0 dX3_stateOf_28 ?_ | refine g_aloadN0 dX3_stateOf_28 ?_
      refine g_iload1 dX3_stateOf_29 ?_
      refine g_iconst (nI 1) dX3_stateOf_30 (by decide) ?_
      refine g_V2n0 (ctX3_of hA _ _ _ (by omega) (by omega)) kX3_of q2220 tw_0 rfl rfl (by decide) ⟨rfl, rfl⟩ ⟨Nat.zero_le _, Nat.zero_le _⟩ (Nat.le_of_ble_eq_true rfl) dX3_stateOf_31 (fun r_31 h_31 p_31 => ?_)
      obtain ⟨rfl, rfl⟩ := p_31
      first | refine g_icmpN_ge (tgt := 77) dX3_stateOf_34 (by decide) (by omega) (by omega) (fun c_34 => ?_) (fun c_34 => ?_) | refine g_icmp_ge (tgt := 77) dX3_stateOf_34 (by decide) (fun c_34 => ?_) (fun c_34 => ?_)
      · omega
      · refine g_iload3 dX3_stateOf_37 ?_
        first | refine g_aload0 dX3_stateOf_38 ?_ | refine g_aloadQ0 dX3_stateOf_38 ?_ | refine g_aloadN0 dX3_stateOf_38 ?_
        refine g_iload1 dX3_stateOf_39 ?_
        refine g_iconst (nI 3) dX3_stateOf_40 (by decide) ?_
        refine g_iload5 dX3_stateOf_41 ?_
        first | refine g_iaddN dX3_stateOf_43 ?_ | refine g_iadd dX3_stateOf_43 ?_
        refine g_V2n0 (ctX3_of hA _ _ _ (by omega) (by omega)) kX3_of q2220 tw_0 rfl rfl (by decide) ⟨rfl, rfl⟩ ⟨Nat.zero_le _, Nat.zero_le _⟩ (Nat.le_of_ble_eq_true rfl) dX3_stateOf_44 (fun r_44 h_44 p_44 => ?_)
        obtain ⟨rfl, rfl⟩ := p_44
        refine g_iload4 dX3_stateOf_47 ?_
        refine g_sipush (nI 2039) dX3_stateOf_49 (by decide) ?_
        refine g_S3n0 (ctX3_power _ _ _ (by omega) (by omega) (by omega)) kX3_power q2228 (by decide) ⟨rfl, rfl⟩ ⟨Nat.zero_le _, Nat.zero_le _⟩ (Nat.le_of_ble_eq_true rfl) dX3_stateOf_52 (fun r_52 h_52 p_52 => ?_)
        obtain ⟨rfl, rfl⟩ := p_52
        first | refine g_imulN dX3_stateOf_55 ?_ | refine g_imul dX3_stateOf_55 ?_
        refine g_sipush (nI 2039) dX3_stateOf_56 (by decide) ?_
        refine g_iremN dX3_stateOf_59 (by omega) (by omega) (by omega) ?_
        refine g_istore3 dX3_stateOf_60 (by decide) ?_
        refine g_iload4 dX3_stateOf_61 ?_
        refine g_iload2 dX3_stateOf_63 ?_
        first | refine g_imulN dX3_stateOf_64 ?_ | refine g_imul dX3_stateOf_64 ?_
        refine g_sipush (nI 1019) dX3_stateOf_65 (by decide) ?_
        refine g_iremN dX3_stateOf_68 (by omega) (by omega) (by omega) ?_
        refine g_istore4 dX3_stateOf_69 (by decide) ?_
        first | refine g_iincN5 1 dX3_stateOf_71 (by decide) (by decide) ?_ | refine g_iinc5 _ dX3_stateOf_71 rfl (by decide) ?_
        refine g_goto (tgt := 26) dX3_stateOf_74 (by decide) ?_
        exact ih
  first | refine g_aload0 dX3_stateOf_0 ?_ | refine g_aloadQ0 dX3_stateOf_0 ?_ | refine g_aloadN0 dX3_stateOf_0 ?_
  refine g_iload1 dX3_stateOf_1 ?_
  refine g_iload2 dX3_stateOf_2 ?_
  refine g_iconst (nI 2) dX3_stateOf_3 (by decide) ?_
  refine g_V3n0 (ctX3_shareOf hA _ _ _ _ (by omega) (by omega) (by omega)) kX3_shareOf q2216 tw_0 rfl rfl (by decide) ⟨rfl, rfl⟩ ⟨Nat.zero_le _, Nat.zero_le _⟩ (Nat.le_of_ble_eq_true rfl) dX3_stateOf_4 (fun r_4 h_4 p_4 => ?_)
  obtain ⟨rfl, rfl⟩ := p_4
  first | refine g_aload0 dX3_stateOf_7 ?_ | refine g_aloadQ0 dX3_stateOf_7 ?_ | refine g_aloadN0 dX3_stateOf_7 ?_
  refine g_iload1 dX3_stateOf_8 ?_
  refine g_iconst (nI 2) dX3_stateOf_9 (by decide) ?_
  refine g_V2n0 (ctX3_of hA _ _ _ (by omega) (by omega)) kX3_of q2220 tw_0 rfl rfl (by decide) ⟨rfl, rfl⟩ ⟨Nat.zero_le _, Nat.zero_le _⟩ (Nat.le_of_ble_eq_true rfl) dX3_stateOf_10 (fun r_10 h_10 p_10 => ?_)
  obtain ⟨rfl, rfl⟩ := p_10
  first | refine g_icmpN_eq (tgt := 18) dX3_stateOf_13 (by decide) (by first | omega | exact hB _ _) (by first | omega | exact hB _ _) (fun c_13 => ?_) (fun c_13 => ?_) | refine g_icmpU_eq (tgt := 18) dX3_stateOf_13 (by decide) (by first | omega | exact hB _ _) (by first | omega | exact hB _ _) (fun c_13 => ?_) (fun c_13 => ?_) | refine g_icmp_eq (tgt := 18) dX3_stateOf_13 (by decide) (fun c_13 => ?_) (fun c_13 => ?_)
  · refine g_iconst (nI 1) dX3_stateOf_18 (by decide) ?_
    refine g_istore3 dX3_stateOf_19 (by decide) ?_
    refine g_iconst (nI 1) dX3_stateOf_20 (by decide) ?_
    refine g_istore4 dX3_stateOf_21 (by decide) ?_
    refine g_iconst (nI 0) dX3_stateOf_23 (by decide) ?_
    refine g_istore5 dX3_stateOf_24 (by decide) ?_
    exact L 0 (by omega) (by omega) (by omega)
  · refine g_iconst (nI 1) dX3_stateOf_16 (by decide) ?_
    exact g_iret dX3_stateOf_17 rfl ⟨_, rfl, by unfold stF; exact (if_pos c_13).symm, rfl⟩
abbrev mX3_isGood : GM := (yX3_isGood, 3, (some .boolean), [], { frames := 3, cells := 0, slots := 0, locals := 70 }, 255)
theorem kX3_isGood : gCv cX3_isGood mX3_isGood 2 := ⟨q2348, qs52, q90, q2349, ⟨by decide +kernel, by decide +kernel, by decide +kernel⟩, rfl⟩
set_option maxHeartbeats 400000 in
theorem ctX3_isGood {E : GE} {h : AH} {A : Nat → Nat} (hA : twA A) (M : TW) (s x : Nat) (hB : twB M) (hs : s < 4) (hx : 1 ≤ x ∧ x ≤ 24) (hS : slP (M 1) s) : Ct E cX3_isGood mX3_isGood [.ref (A 0), .int (nI s), .int (nI x)] (twO E A M h) (pN fun r h' => r < 2 ∧ (r = 1 ↔ gSh (M 1) s x 0 = 1 ∧ stF (M 1) s x = 0) ∧ h' = twO E A M h) noX := by
  refine g_enter (own := "SecretVaultModel") [some (.ref (A 0)), some (.int (nI s)), some (.int (nI x))] (by decide +kernel) rfl rfl (Nat.le_of_ble_eq_true rfl) rfl rfl (fun X => ?_)
  first | refine g_aload0 dX3_isGood_0 ?_ | refine g_aloadQ0 dX3_isGood_0 ?_ | refine g_aloadN0 dX3_isGood_0 ?_
  refine g_iload1 dX3_isGood_1 ?_
  refine g_iload2 dX3_isGood_2 ?_
  refine g_V2n0 (ctX3_hasShare hA _ _ _ hB (by omega) (by omega)) kX3_hasShare q2212 tw_0 rfl rfl (by decide) ⟨rfl, rfl⟩ ⟨Nat.zero_le _, Nat.zero_le _⟩ (Nat.le_of_ble_eq_true rfl) dX3_isGood_3 (fun r_3 h_3 p_3 => ?_)
  obtain ⟨hr_3, hi_3, rfl⟩ := p_3
  first | refine g_ifN_eq (tgt := 22) dX3_isGood_6 (by decide) (by first | omega | exact Nat.lt_trans (stF_lt _ _ _) (by decide)) (fun c_6 => ?_) (fun c_6 => ?_) | refine g_if_eq (tgt := 22) dX3_isGood_6 (by decide) (fun c_6 => ?_) (fun c_6 => ?_)
  · refine g_iconst (nI 0) dX3_isGood_22 (by decide) ?_
    exact g_zret dX3_isGood_23 rfl (nar_zb (by first | omega | exact Nat.lt_trans (stF_lt _ _ _) (by decide))) ⟨_, rfl, by omega, by omega, rfl⟩
  · first | refine g_aload0 dX3_isGood_9 ?_ | refine g_aloadQ0 dX3_isGood_9 ?_ | refine g_aloadN0 dX3_isGood_9 ?_
    refine g_iload1 dX3_isGood_10 ?_
    refine g_iload2 dX3_isGood_11 ?_
    refine g_V2n0 (ctX3_stateOf hA _ _ _ hB (by omega) (by omega) hS) kX3_stateOf q2224 tw_0 rfl rfl (by decide) ⟨rfl, rfl⟩ ⟨Nat.zero_le _, Nat.zero_le _⟩ (Nat.le_of_ble_eq_true rfl) dX3_isGood_12 (fun r_12 h_12 p_12 => ?_)
    obtain ⟨rfl, rfl⟩ := p_12
    first | refine g_ifN_ne (tgt := 22) dX3_isGood_15 (by decide) (by first | omega | exact Nat.lt_trans (stF_lt _ _ _) (by decide)) (fun c_15 => ?_) (fun c_15 => ?_) | refine g_if_ne (tgt := 22) dX3_isGood_15 (by decide) (fun c_15 => ?_) (fun c_15 => ?_)
    · refine g_iconst (nI 0) dX3_isGood_22 (by decide) ?_
      exact g_zret dX3_isGood_23 rfl (nar_zb (by first | omega | exact Nat.lt_trans (stF_lt _ _ _) (by decide))) ⟨_, rfl, by omega, by omega, rfl⟩
    · refine g_iconst (nI 1) dX3_isGood_18 (by decide) ?_
      refine g_goto (tgt := 23) dX3_isGood_19 (by decide) ?_
      exact g_zret dX3_isGood_23 rfl (nar_zb (by first | omega | exact Nat.lt_trans (stF_lt _ _ _) (by decide))) ⟨_, rfl, by omega, by omega, rfl⟩
abbrev mX3_polynomial : GM := (yX3_polynomial, 5, (some .int), [], { frames := 0, cells := 0, slots := 0, locals := 0 }, 255)
theorem kX3_polynomial : gCv cX3_polynomial mX3_polynomial 2 := ⟨q2263, qs37, q90, q2264, ⟨by decide +kernel, by decide +kernel, by decide +kernel⟩, rfl⟩
set_option maxHeartbeats 400000 in
theorem ctX3_polynomial {E : GE} {h : AH} {A : Nat → Nat} (hA : twA A) (M : TW) (k x : Nat) (hk : 1 ≤ k ∧ k ≤ 8) (hx : x ≤ 24) (hC : ∀ j, j < k → M 4 j < 1000000) : Ct E cX3_polynomial mX3_polynomial [.ref (A 0), .int (nI k), .int (nI x)] (twO E A M h) (pN fun r h' => r = (poD (M 4) x k 0) ∧ h' = twO E A M h) noX := by
  refine g_enter (own := "SecretVaultModel") [some (.ref (A 0)), some (.int (nI k)), some (.int (nI x)), none, none] (by decide +kernel) rfl rfl (Nat.le_of_ble_eq_true rfl) rfl rfl (fun X => ?_)
  have L0 : ∀ v, v = poD (M 4) x k 0 → V E cX3_polynomial "SecretVaultModel" mX3_polynomial (pN fun r h' => r = (poD (M 4) x k 0) ∧ h' = twO E A M h) noX X (twO E A M h) 0 0 7 [some (.ref (A 0)), some (.int (nI k)), some (.int (nI x)), some (.int (nI v)), some (.int (-1))] [] := by
    intro v he
    subst he
    refine g_iload4 dX3_polynomial_7 ?_
    first | refine g_ifN_lt (tgt := 34) dX3_polynomial_9 (by decide) (by omega) (fun c_9 => ?_) (fun c_9 => ?_) | refine g_if_lt (tgt := 34) dX3_polynomial_9 (by decide) (fun c_9 => ?_) (fun c_9 => ?_)
    · refine g_iload3 dX3_polynomial_34 ?_
      exact g_iret dX3_polynomial_35 rfl ⟨_, rfl, rfl, rfl⟩
    · exact absurd (by decide) c_9
  have L : ∀ j v, j < k → v < 1019 → poD (M 4) x (j + 1) v = poD (M 4) x k 0 → V E cX3_polynomial "SecretVaultModel" mX3_polynomial (pN fun r h' => r = (poD (M 4) x k 0) ∧ h' = twO E A M h) noX X (twO E A M h) 0 0 7 [some (.ref (A 0)), some (.int (nI k)), some (.int (nI x)), some (.int (nI v)), some (.int (nI j))] [] := by
    intro j
    induction j with
    | zero =>
      intro v hj hv he
      have hcj := hC 0 (by omega)
      have h1 : v * x ≤ 1018 * 24 := Nat.mul_le_mul (by omega) (by omega)
      refine g_iload4 dX3_polynomial_7 ?_
      first | refine g_ifN_lt (tgt := 34) dX3_polynomial_9 (by decide) (by omega) (fun c_9 => ?_) (fun c_9 => ?_) | refine g_if_lt (tgt := 34) dX3_polynomial_9 (by decide) (fun c_9 => ?_) (fun c_9 => ?_)
      · omega
      · refine g_iload3 dX3_polynomial_12 ?_
        refine g_iload2 dX3_polynomial_13 ?_
        first | refine g_imulN dX3_polynomial_14 ?_ | refine g_imul dX3_polynomial_14 ?_
        first | refine g_aload0 dX3_polynomial_15 ?_ | refine g_aloadQ0 dX3_polynomial_15 ?_ | refine g_aloadN0 dX3_polynomial_15 ?_
        refine t_get4 hA q2102 dX3_polynomial_16 ?_
        refine g_iload4 dX3_polynomial_19 ?_
        refine t_ald4 hA (by omega) dX3_polynomial_21 ?_
        first | refine g_iaddN dX3_polynomial_22 ?_ | refine g_iadd dX3_polynomial_22 ?_
        refine g_sipush (nI 1019) dX3_polynomial_23 (by decide) ?_
        refine g_iremN dX3_polynomial_26 (by omega) (by omega) (by omega) ?_
        refine g_istore3 dX3_polynomial_27 (by decide) ?_
        refine g_iinc4 (-1) dX3_polynomial_28 (by decide) (by decide) ?_
        refine g_goto (tgt := 7) dX3_polynomial_31 (by decide) ?_
        exact L0 _ he
    | succ j ih =>
      intro v hj hv he
      have hcj := hC (j + 1) (by omega)
      have h1 : v * x ≤ 1018 * 24 := Nat.mul_le_mul (by omega) (by omega)
      refine g_iload4 dX3_polynomial_7 ?_
      first | refine g_ifN_lt (tgt := 34) dX3_polynomial_9 (by decide) (by omega) (fun c_9 => ?_) (fun c_9 => ?_) | refine g_if_lt (tgt := 34) dX3_polynomial_9 (by decide) (fun c_9 => ?_) (fun c_9 => ?_)
      · omega
      · refine g_iload3 dX3_polynomial_12 ?_
        refine g_iload2 dX3_polynomial_13 ?_
        first | refine g_imulN dX3_polynomial_14 ?_ | refine g_imul dX3_polynomial_14 ?_
        first | refine g_aload0 dX3_polynomial_15 ?_ | refine g_aloadQ0 dX3_polynomial_15 ?_ | refine g_aloadN0 dX3_polynomial_15 ?_
        refine t_get4 hA q2102 dX3_polynomial_16 ?_
        refine g_iload4 dX3_polynomial_19 ?_
        refine t_ald4 hA (by omega) dX3_polynomial_21 ?_
        first | refine g_iaddN dX3_polynomial_22 ?_ | refine g_iadd dX3_polynomial_22 ?_
        refine g_sipush (nI 1019) dX3_polynomial_23 (by decide) ?_
        refine g_iremN dX3_polynomial_26 (by omega) (by omega) (by omega) ?_
        refine g_istore3 dX3_polynomial_27 (by decide) ?_
        first | refine g_iincM4 1 dX3_polynomial_28 (by decide) (by omega) (by decide) ?_ | refine g_iinc4 _ dX3_polynomial_28 rfl (by decide) ?_
        refine g_goto (tgt := 7) dX3_polynomial_31 (by decide) ?_
        exact ih _ (by omega) (Nat.mod_lt _ (by decide)) he
  obtain ⟨k, rfl⟩ : ∃ k1, k = k1 + 1 := ⟨k - 1, by omega⟩
  refine g_iconst (nI 0) dX3_polynomial_0 (by decide) ?_
  refine g_istore3 dX3_polynomial_1 (by decide) ?_
  refine g_iload1 dX3_polynomial_2 ?_
  refine g_iconst (nI 1) dX3_polynomial_3 (by decide) ?_
  first | refine g_isubN dX3_polynomial_4 (by omega) ?_ | refine g_isub dX3_polynomial_4 ?_
  refine g_istore4 dX3_polynomial_5 (by decide) ?_
  exact L k 0 (by omega) (by omega) rfl
abbrev mX3_usedPlaces : GM := (yX3_usedPlaces, 3, (some .int), [], { frames := 1, cells := 0, slots := 0, locals := 21 }, 255)
theorem kX3_usedPlaces : gCv cX3_usedPlaces mX3_usedPlaces 0 := ⟨q2240, qs32, q90, q2241, ⟨by decide +kernel, by decide +kernel, by decide +kernel⟩, rfl⟩
set_option maxHeartbeats 400000 in
theorem ctX3_usedPlaces {E : GE} {h : AH} {A : Nat → Nat} (hA : twA A) (M : TW)  (hB : twB M) : Ct E cX3_usedPlaces mX3_usedPlaces [.ref (A 0)] (twO E A M h) (pN fun r h' => r = (upF (M 1) 8) ∧ h' = twO E A M h) noX := by
  refine g_enter (own := "SecretVaultModel") [some (.ref (A 0)), none, none] (by decide +kernel) rfl rfl (Nat.le_of_ble_eq_true rfl) rfl rfl (fun X => ?_)
  have L : ∀ m, 0 ≤ m → m ≤ 8 → V E cX3_usedPlaces "SecretVaultModel" mX3_usedPlaces (pN fun r h' => r = (upF (M 1) 8) ∧ h' = twO E A M h) noX X (twO E A M h) 0 0 4 [some (.ref (A 0)), some (.int (nI (upF (M 1) m))), some (.int (nI m))] [] := by
    refine g_for _ 0 8 ?_ ?_
    · refine g_iload2 dX3_usedPlaces_4 ?_
      refine g_bipush (nI 8) dX3_usedPlaces_5 (by decide) ?_
      first | refine g_icmpN_ge (tgt := 39) dX3_usedPlaces_7 (by decide) (by omega) (by omega) (fun c_7 => ?_) (fun c_7 => ?_) | refine g_icmp_ge (tgt := 39) dX3_usedPlaces_7 (by decide) (fun c_7 => ?_) (fun c_7 => ?_)
      · refine g_iload1 dX3_usedPlaces_39 ?_
        exact g_iret dX3_usedPlaces_40 rfl ⟨_, rfl, rfl, rfl⟩
      · omega
    · intro m h0 hm ih
      refine g_iload2 dX3_usedPlaces_4 ?_
      refine g_bipush (nI 8) dX3_usedPlaces_5 (by decide) ?_
      first | refine g_icmpN_ge (tgt := 39) dX3_usedPlaces_7 (by decide) (by first | omega | exact hB _ _) (by first | omega | exact hB _ _) (fun c_7 => ?_) (fun c_7 => ?_) | refine g_icmp_ge (tgt := 39) dX3_usedPlaces_7 (by decide) (fun c_7 => ?_) (fun c_7 => ?_)
      · omega
      · refine g_iload1 dX3_usedPlaces_10 ?_
        first | refine g_aload0 dX3_usedPlaces_11 ?_ | refine g_aloadQ0 dX3_usedPlaces_11 ?_ | refine g_aloadN0 dX3_usedPlaces_11 ?_
        refine g_iload2 dX3_usedPlaces_12 ?_
        refine g_V1n0 (ctX3_isPresent hA _ _ hB (by omega)) kX3_isPresent q2204 tw_0 rfl rfl (by decide) ⟨rfl, rfl⟩ ⟨Nat.zero_le _, Nat.zero_le _⟩ (Nat.le_of_ble_eq_true rfl) dX3_usedPlaces_13 (fun r_13 h_13 p_13 => ?_)
        obtain ⟨hr_13, hi_13, rfl⟩ := p_13
        first | refine g_ifN_eq (tgt := 30) dX3_usedPlaces_16 (by decide) (by first | omega | exact hB _ _) (fun c_16 => ?_) (fun c_16 => ?_) | refine g_if_eq (tgt := 30) dX3_usedPlaces_16 (by decide) (fun c_16 => ?_) (fun c_16 => ?_)
        · refine g_iconst (nI 0) dX3_usedPlaces_30 (by decide) ?_
          first | refine g_iaddN dX3_usedPlaces_31 ?_ | refine g_iadd dX3_usedPlaces_31 ?_
          refine g_istore1 dX3_usedPlaces_32 (by decide) ?_
          first | refine g_iincN2 1 dX3_usedPlaces_33 (by decide) (by decide) ?_ | refine g_iinc2 _ dX3_usedPlaces_33 rfl (by decide) ?_
          refine g_goto (tgt := 4) dX3_usedPlaces_36 (by decide) ?_
          first | rw [show upF (M 1) (m + 1) = upF (M 1) m + M 1 (1 + m) from by rw [upF, if_pos (by omega)]] at ih | rw [show upF (M 1) (m + 1) = upF (M 1) m + 0 from by rw [upF, if_neg (by omega)]] at ih
          exact ih
        · first | refine g_aload0 dX3_usedPlaces_19 ?_ | refine g_aloadQ0 dX3_usedPlaces_19 ?_ | refine g_aloadN0 dX3_usedPlaces_19 ?_
          refine t_get1 hA q2099 dX3_usedPlaces_20 ?_
          refine g_iconst (nI 1) dX3_usedPlaces_23 (by decide) ?_
          refine g_iload2 dX3_usedPlaces_24 ?_
          first | refine g_iaddN dX3_usedPlaces_25 ?_ | refine g_iadd dX3_usedPlaces_25 ?_
          refine t_ald1 hA (by first | omega | exact hB _ _) dX3_usedPlaces_26 ?_
          refine g_goto (tgt := 31) dX3_usedPlaces_27 (by decide) ?_
          first | refine g_iaddN dX3_usedPlaces_31 ?_ | refine g_iadd dX3_usedPlaces_31 ?_
          refine g_istore1 dX3_usedPlaces_32 (by decide) ?_
          first | refine g_iincN2 1 dX3_usedPlaces_33 (by decide) (by decide) ?_ | refine g_iinc2 _ dX3_usedPlaces_33 rfl (by decide) ?_
          refine g_goto (tgt := 4) dX3_usedPlaces_36 (by decide) ?_
          first | rw [show upF (M 1) (m + 1) = upF (M 1) m + M 1 (1 + m) from by rw [upF, if_pos (by omega)]] at ih | rw [show upF (M 1) (m + 1) = upF (M 1) m + 0 from by rw [upF, if_neg (by omega)]] at ih
          exact ih
  refine g_iconst (nI 0) dX3_usedPlaces_0 (by decide) ?_
  refine g_istore1 dX3_usedPlaces_1 (by decide) ?_
  refine g_iconst (nI 0) dX3_usedPlaces_2 (by decide) ?_
  refine g_istore2 dX3_usedPlaces_3 (by decide) ?_
  exact L 0 (by omega) (by omega)
abbrev mX3_lacks : GM := (yX3_lacks, 2, (some .int), [], { frames := 2, cells := 0, slots := 0, locals := 42 }, 255)
theorem kX3_lacks : gCv cX3_lacks mX3_lacks 1 := ⟨q2279, qs40, q90, q2280, ⟨by decide +kernel, by decide +kernel, by decide +kernel⟩, rfl⟩
set_option maxHeartbeats 400000 in
theorem ctX3_lacks {E : GE} {h : AH} {A : Nat → Nat} (hA : twA A) (M : TW) (s : Nat) (hB : twB M) (hs : s < 4294967296) : Ct E cX3_lacks mX3_lacks [.ref (A 0), .int (nI s)] (twO E A M h) (pN fun r h' => (r = 1 ∧ ¬ s ≤ 3 ∨ r = 2 ∧ s ≤ 3 ∧ gOf (M 1) s 0 = 0 ∨ r = 0 ∧ s ≤ 3 ∧ ¬ gOf (M 1) s 0 = 0) ∧ h' = twO E A M h) noX := by
  refine g_enter (own := "SecretVaultModel") [some (.ref (A 0)), some (.int (nI s))] (by decide +kernel) rfl rfl (Nat.le_of_ble_eq_true rfl) rfl rfl (fun X => ?_)
  refine g_iload1 dX3_lacks_0 ?_
  refine g_S1n0 (ctX3_isSlot _ (by omega)) kX3_isSlot q2235 (by decide) ⟨rfl, rfl⟩ ⟨Nat.zero_le _, Nat.zero_le _⟩ (Nat.le_of_ble_eq_true rfl) dX3_lacks_1 (fun r_1 h_1 p_1 => ?_)
  obtain ⟨hr_1, hi_1, rfl⟩ := p_1
  first | refine g_ifN_ne (tgt := 11) dX3_lacks_4 (by decide) (by first | omega | exact hB _ _) (fun c_4 => ?_) (fun c_4 => ?_) | refine g_if_ne (tgt := 11) dX3_lacks_4 (by decide) (fun c_4 => ?_) (fun c_4 => ?_)
  · first | refine g_aload0 dX3_lacks_11 ?_ | refine g_aloadQ0 dX3_lacks_11 ?_ | refine g_aloadN0 dX3_lacks_11 ?_
    refine g_iload1 dX3_lacks_12 ?_
    refine g_iconst (nI 0) dX3_lacks_13 (by decide) ?_
    refine g_V2n0 (ctX3_of hA _ _ _ (by omega) (by omega)) kX3_of q2220 tw_0 rfl rfl (by decide) ⟨rfl, rfl⟩ ⟨Nat.zero_le _, Nat.zero_le _⟩ (Nat.le_of_ble_eq_true rfl) dX3_lacks_14 (fun r_14 h_14 p_14 => ?_)
    obtain ⟨rfl, rfl⟩ := p_14
    first | refine g_ifN_ne (tgt := 24) dX3_lacks_17 (by decide) (by first | omega | exact hB _ _) (fun c_17 => ?_) (fun c_17 => ?_) | refine g_if_ne (tgt := 24) dX3_lacks_17 (by decide) (fun c_17 => ?_) (fun c_17 => ?_)
    · refine g_iconst (nI 0) dX3_lacks_24 (by decide) ?_
      exact g_iret dX3_lacks_25 rfl ⟨_, rfl, by omega, rfl⟩
    · refine g_iconst (nI 2) dX3_lacks_20 (by decide) ?_
      refine g_goto (tgt := 25) dX3_lacks_21 (by decide) ?_
      exact g_iret dX3_lacks_25 rfl ⟨_, rfl, by omega, rfl⟩
  · refine g_iconst (nI 1) dX3_lacks_7 (by decide) ?_
    refine g_goto (tgt := 25) dX3_lacks_8 (by decide) ?_
    exact g_iret dX3_lacks_25 rfl ⟨_, rfl, by omega, rfl⟩
theorem twB_rem {M : TW} {s x k : Nat} (h : twB M) : twB (tRem M s x k) := by
  induction k with
  | zero => exact h
  | succ k ih => exact twB_set ih (by decide)
theorem twB_share {M : TW} {s x v e : Nat} (h : twB M) (hv : v < 4294967296) (he : e < 4294967296) : twB (tShare M s x v e) := twB_set (twB_set (twB_set h (by decide)) hv) he
theorem twB_cf {M : TW} {first j : Nat} (h : twB M) (hf : first < 1019) : twB (tCf M first j) := by
  intro b i
  unfold tCf
  split
  · dsimp only
    split
    · exact Nat.lt_trans (cfF_lt _ _ _ hf) (by decide)
    · exact h _ _
  · split
    · unfold nup
      split
      · cases hj : j - 1 with
        | zero => exact h _ _
        | succ n => exact zN_lt _
      · exact h _ _
    · exact h _ _
theorem twB_dlP {M : TW} {s k e p : Nat} (h : twB M) (he : e < 4294967296) : twB (dlP M s k e p) := by
  induction p with
  | zero => exact h
  | succ p ih =>
    rw [dlP]
    split
    · exact twB_share (twB_rem ih) (Nat.lt_trans (poD_lt _ _ _ _ (by decide)) (by decide)) he
    · exact twB_rem ih
theorem twB_dlC {M : TW} {s k j : Nat} (h : twB M) : twB (dlC M s k j) := by
  induction j with
  | zero => exact h
  | succ j ih =>
    refine twB_set ih ?_
    split
    · exact Nat.lt_trans (Nat.mod_lt _ (by decide)) (by decide)
    · decide
abbrev mX3_deals : GM := (yX3_deals, 7, (some .int), [], { frames := 2, cells := 0, slots := 0, locals := 47 }, 255)
theorem kX3_deals : gCv cX3_deals mX3_deals 4 := ⟨q2248, qs34, q90, q2249, ⟨by decide +kernel, by decide +kernel, by decide +kernel⟩, rfl⟩
set_option maxHeartbeats 400000 in
theorem ctX3_deals {E : GE} {h : AH} {A : Nat → Nat} (hA : twA A) (M : TW) (s value k e : Nat) (hB : twB M) (hs : s < 4) (hval : value < 1019) (hk : 1 ≤ k ∧ k ≤ 8) (he : e < 4294967296) (hWt : ∀ m, m < 8 → M 1 (1 + m) ≤ 3) : Ct E cX3_deals mX3_deals [.ref (A 0), .int (nI s), .int (nI value), .int (nI k), .int (nI e)] (twO E A M h) (pN fun r h' => r = (dlN (tCf M value k) s k e 24) ∧ h' = twO E A (dlM M s value k e) h) noX := by
  refine g_enter (own := "SecretVaultModel") [some (.ref (A 0)), some (.int (nI s)), some (.int (nI value)), some (.int (nI k)), some (.int (nI e)), none, none] (by decide +kernel) rfl rfl (Nat.le_of_ble_eq_true rfl) rfl rfl (fun X => ?_)
  have hcf : ∀ j, j < k → tCf M value k 4 j < 1019 := fun j hj => by
    show (if j < k then cfF (M 1 0) value j else M 4 j) < 1019
    rw [if_pos hj]; exact cfF_lt _ _ _ hval
  have hBc : twB (tCf M value k) := twB_cf hB hval
  have L3 : ∀ j, 0 ≤ j → j ≤ 8 → V E cX3_deals "SecretVaultModel" mX3_deals (pN fun r h' => r = (dlN (tCf M value k) s k e 24) ∧ h' = twO E A (dlM M s value k e) h) noX X (twO E A (dlC (dlP (tCf M value k) s k e 24) s k j) h) 0 0 102 [some (.ref (A 0)), some (.int (nI s)), some (.int (nI value)), some (.int (nI k)), some (.int (nI e)), some (.int (nI (dlN (tCf M value k) s k e 24))), some (.int (nI j))] [] := by
    refine g_for _ 0 8 ?_ ?_
    · refine g_iload6 dX3_deals_102 ?_
      refine g_bipush (nI 8) dX3_deals_104 (by decide) ?_
      first | refine g_icmpN_ge (tgt := 148) dX3_deals_106 (by decide) (by first | omega | exact hB _ _) (by first | omega | exact hB _ _) (fun c_106 => ?_) (fun c_106 => ?_) | refine g_icmp_ge (tgt := 148) dX3_deals_106 (by decide) (fun c_106 => ?_) (fun c_106 => ?_)
      · first | refine g_aload0 dX3_deals_148 ?_ | refine g_aloadQ0 dX3_deals_148 ?_ | refine g_aloadN0 dX3_deals_148 ?_
        refine g_iload1 dX3_deals_149 ?_
        refine g_iconst (nI 0) dX3_deals_150 (by decide) ?_
        refine g_iconst (nI 1) dX3_deals_151 (by decide) ?_
        refine g_V3v0 (ctX3_sets hA _ _ _ _ (by omega) (by omega)) kX3_sets q2242 tw_0 rfl rfl (by decide) ⟨rfl, rfl⟩ ⟨Nat.zero_le _, Nat.zero_le _⟩ (Nat.le_of_ble_eq_true rfl) dX3_deals_152 (fun h_152 p_152 => ?_)
        subst p_152
        first | refine g_aload0 dX3_deals_155 ?_ | refine g_aloadQ0 dX3_deals_155 ?_ | refine g_aloadN0 dX3_deals_155 ?_
        refine g_iload1 dX3_deals_156 ?_
        refine g_iconst (nI 1) dX3_deals_157 (by decide) ?_
        refine g_iload3 dX3_deals_158 ?_
        refine g_V3v0 (ctX3_sets hA _ _ _ _ (by omega) (by omega)) kX3_sets q2242 tw_0 rfl rfl (by decide) ⟨rfl, rfl⟩ ⟨Nat.zero_le _, Nat.zero_le _⟩ (Nat.le_of_ble_eq_true rfl) dX3_deals_159 (fun h_159 p_159 => ?_)
        subst p_159
        first | refine g_aload0 dX3_deals_162 ?_ | refine g_aloadQ0 dX3_deals_162 ?_ | refine g_aloadN0 dX3_deals_162 ?_
        refine g_iload1 dX3_deals_163 ?_
        refine g_iconst (nI 2) dX3_deals_164 (by decide) ?_
        refine g_iload4 dX3_deals_165 ?_
        refine g_V3v0 (ctX3_sets hA _ _ _ _ (by omega) (by omega)) kX3_sets q2242 tw_0 rfl rfl (by decide) ⟨rfl, rfl⟩ ⟨Nat.zero_le _, Nat.zero_le _⟩ (Nat.le_of_ble_eq_true rfl) dX3_deals_167 (fun h_167 p_167 => ?_)
        subst p_167
        refine g_iload5 dX3_deals_170 ?_
        exact g_iret dX3_deals_172 rfl ⟨_, rfl, rfl, rfl⟩
      · omega
    · intro j h0 hj ih
      have e4 : dlC (dlP (tCf M value k) s k e 24) s k j 4 j = (tCf M value k) 4 j := by rw [dlC_n _ _ _ _ _ (by decide), dlP_n _ _ _ _ _ _ (by decide)]
      have hcj := hcf j
      refine g_iload6 dX3_deals_102 ?_
      refine g_bipush (nI 8) dX3_deals_104 (by decide) ?_
      first | refine g_icmpN_ge (tgt := 148) dX3_deals_106 (by decide) (by first | omega | exact hB _ _) (by first | omega | exact hB _ _) (fun c_106 => ?_) (fun c_106 => ?_) | refine g_icmp_ge (tgt := 148) dX3_deals_106 (by decide) (fun c_106 => ?_) (fun c_106 => ?_)
      · omega
      · first | refine g_aload0 dX3_deals_109 ?_ | refine g_aloadQ0 dX3_deals_109 ?_ | refine g_aloadN0 dX3_deals_109 ?_
        refine g_iload1 dX3_deals_110 ?_
        refine g_iconst (nI 3) dX3_deals_111 (by decide) ?_
        refine g_iload6 dX3_deals_112 ?_
        first | refine g_iaddN dX3_deals_114 ?_ | refine g_iadd dX3_deals_114 ?_
        refine g_iload6 dX3_deals_115 ?_
        refine g_iload3 dX3_deals_117 ?_
        first | refine g_icmpN_ge (tgt := 138) dX3_deals_118 (by decide) (by first | omega | exact hB _ _) (by first | omega | exact hB _ _) (fun c_118 => ?_) (fun c_118 => ?_) | refine g_icmp_ge (tgt := 138) dX3_deals_118 (by decide) (fun c_118 => ?_) (fun c_118 => ?_)
        · refine g_iconst (nI 0) dX3_deals_138 (by decide) ?_
          refine g_V3v0 (ctX3_sets hA _ _ _ _ (by omega) (by omega)) kX3_sets q2242 tw_0 rfl rfl (by decide) ⟨rfl, rfl⟩ ⟨Nat.zero_le _, Nat.zero_le _⟩ (Nat.le_of_ble_eq_true rfl) dX3_deals_139 (fun h_139 p_139 => ?_)
          subst p_139
          first | refine g_iincN6 1 dX3_deals_142 (by decide) (by decide) ?_ | refine g_iinc6 _ dX3_deals_142 rfl (by decide) ?_
          refine g_goto (tgt := 102) dX3_deals_145 (by decide) ?_
          first | rw [show dlC (dlP (tCf M value k) s k e 24) s k (j + 1) = tset (dlC (dlP (tCf M value k) s k e 24) s k j) 1 (38 + 124 * s + (3 + j)) (4 ^ (dlC (dlP (tCf M value k) s k e 24) s k j 4 j) % 2039) from by rw [dlC, if_pos (by omega)]] at ih | rw [show dlC (dlP (tCf M value k) s k e 24) s k (j + 1) = tset (dlC (dlP (tCf M value k) s k e 24) s k j) 1 (38 + 124 * s + (3 + j)) 0 from by rw [dlC, if_neg (by omega)]] at ih
          exact ih
        · have hcj2 := hcj (by omega)
          refine g_iconst (nI 4) dX3_deals_121 (by decide) ?_
          first | refine g_aload0 dX3_deals_122 ?_ | refine g_aloadQ0 dX3_deals_122 ?_ | refine g_aloadN0 dX3_deals_122 ?_
          refine t_get4 hA q2102 dX3_deals_123 ?_
          refine g_iload6 dX3_deals_126 ?_
          refine t_ald4 hA (by first | omega | exact hB _ _) dX3_deals_128 ?_
          refine g_sipush (nI 2039) dX3_deals_129 (by decide) ?_
          refine g_S3n0 (ctX3_power _ _ _ (by omega) (by omega) (by omega)) kX3_power q2228 (by decide) ⟨rfl, rfl⟩ ⟨Nat.zero_le _, Nat.zero_le _⟩ (Nat.le_of_ble_eq_true rfl) dX3_deals_132 (fun r_132 h_132 p_132 => ?_)
          obtain ⟨rfl, rfl⟩ := p_132
          refine g_goto (tgt := 139) dX3_deals_135 (by decide) ?_
          refine g_V3v0 (ctX3_sets hA _ _ _ _ (by omega) (by omega)) kX3_sets q2242 tw_0 rfl rfl (by decide) ⟨rfl, rfl⟩ ⟨Nat.zero_le _, Nat.zero_le _⟩ (Nat.le_of_ble_eq_true rfl) dX3_deals_139 (fun h_139 p_139 => ?_)
          subst p_139
          first | refine g_iincN6 1 dX3_deals_142 (by decide) (by decide) ?_ | refine g_iinc6 _ dX3_deals_142 rfl (by decide) ?_
          refine g_goto (tgt := 102) dX3_deals_145 (by decide) ?_
          first | rw [show dlC (dlP (tCf M value k) s k e 24) s k (j + 1) = tset (dlC (dlP (tCf M value k) s k e 24) s k j) 1 (38 + 124 * s + (3 + j)) (4 ^ (dlC (dlP (tCf M value k) s k e 24) s k j 4 j) % 2039) from by rw [dlC, if_pos (by omega)]] at ih | rw [show dlC (dlP (tCf M value k) s k e 24) s k (j + 1) = tset (dlC (dlP (tCf M value k) s k e 24) s k j) 1 (38 + 124 * s + (3 + j)) 0 from by rw [dlC, if_neg (by omega)]] at ih
          exact ih
  have L2 : ∀ p, 0 ≤ p → p ≤ 24 → V E cX3_deals "SecretVaultModel" mX3_deals (pN fun r h' => r = (dlN (tCf M value k) s k e 24) ∧ h' = twO E A (dlM M s value k e) h) noX X (twO E A (dlP (tCf M value k) s k e p) h) 0 0 39 [some (.ref (A 0)), some (.int (nI s)), some (.int (nI value)), some (.int (nI k)), some (.int (nI e)), some (.int (nI (dlN (tCf M value k) s k e p))), some (.int (nI (p + 1)))] [] := by
    refine g_for _ 0 24 ?_ ?_
    · refine g_iload6 dX3_deals_39 ?_
      refine g_bipush (nI 24) dX3_deals_41 (by decide) ?_
      first | refine g_icmpN_gt (tgt := 99) dX3_deals_43 (by decide) (by first | omega | exact hB _ _) (by first | omega | exact hB _ _) (fun c_43 => ?_) (fun c_43 => ?_) | refine g_icmp_gt (tgt := 99) dX3_deals_43 (by decide) (fun c_43 => ?_) (fun c_43 => ?_)
      · refine g_iconst (nI 0) dX3_deals_99 (by decide) ?_
        refine g_istore6 dX3_deals_100 (by decide) ?_
        exact L3 0 (by omega) (by omega)
      · omega
    · intro p h0 hp ih
      have hBr : twB (tRem (dlP (tCf M value k) s k e p) s (p + 1) 3) := twB_rem (twB_dlP hBc he)
      have eg : ∀ i, 0 < i → i < 38 → tRem (dlP (tCf M value k) s k e p) s (p + 1) 3 1 i = M 1 i := fun i h0 hi => by rw [tRem_g _ _ _ _ _ hi, dlP_g _ _ _ _ _ _ hi, tCf_g _ _ _ _ h0]
      have e4 : tRem (dlP (tCf M value k) s k e p) s (p + 1) 3 4 = (tCf M value k) 4 := by rw [tRem_n _ _ _ _ _ (by decide), dlP_n _ _ _ _ _ _ (by decide)]
      have ew := eg (1 + (p + 1 - 1) / 3) (by omega) (by omega)
      have hww := hWt ((p + 1 - 1) / 3) (by omega)
      have hP3 : (p + 1 - 1) / 3 < 8 := by omega
      refine g_iload6 dX3_deals_39 ?_
      refine g_bipush (nI 24) dX3_deals_41 (by decide) ?_
      first | refine g_icmpN_gt (tgt := 99) dX3_deals_43 (by decide) (by first | omega | exact hB _ _) (by first | omega | exact hB _ _) (fun c_43 => ?_) (fun c_43 => ?_) | refine g_icmp_gt (tgt := 99) dX3_deals_43 (by decide) (fun c_43 => ?_) (fun c_43 => ?_)
      · omega
      · first | refine g_aload0 dX3_deals_46 ?_ | refine g_aloadQ0 dX3_deals_46 ?_ | refine g_aloadN0 dX3_deals_46 ?_
        refine g_iload1 dX3_deals_47 ?_
        refine g_iload6 dX3_deals_48 ?_
        refine g_V2v0 (ctX3_removes hA _ _ _ (by omega) (by omega)) kX3_removes q2250 tw_0 rfl rfl (by decide) ⟨rfl, rfl⟩ ⟨Nat.zero_le _, Nat.zero_le _⟩ (Nat.le_of_ble_eq_true rfl) dX3_deals_50 (fun h_50 p_50 => ?_)
        subst p_50
        first | refine g_aload0 dX3_deals_53 ?_ | refine g_aloadQ0 dX3_deals_53 ?_ | refine g_aloadN0 dX3_deals_53 ?_
        refine g_iload6 dX3_deals_54 ?_
        refine g_S1n0 (ctX3_owner _ (by omega)) kX3_owner q2254 (by decide) ⟨rfl, rfl⟩ ⟨Nat.zero_le _, Nat.zero_le _⟩ (Nat.le_of_ble_eq_true rfl) dX3_deals_56 (fun r_56 h_56 p_56 => ?_)
        obtain ⟨rfl, rfl⟩ := p_56
        refine g_V1n0 (ctX3_isPresent hA _ _ hBr (by omega)) kX3_isPresent q2204 tw_0 rfl rfl (by decide) ⟨rfl, rfl⟩ ⟨Nat.zero_le _, Nat.zero_le _⟩ (Nat.le_of_ble_eq_true rfl) dX3_deals_59 (fun r_59 h_59 p_59 => ?_)
        obtain ⟨hr_59, hi_59, rfl⟩ := p_59
        first | refine g_ifN_eq (tgt := 93) dX3_deals_62 (by decide) (by first | omega | exact hB _ _) (fun c_62 => ?_) (fun c_62 => ?_) | refine g_if_eq (tgt := 93) dX3_deals_62 (by decide) (fun c_62 => ?_) (fun c_62 => ?_)
        · first | refine g_iincN6 1 dX3_deals_93 (by decide) (by decide) ?_ | refine g_iinc6 _ dX3_deals_93 rfl (by decide) ?_
          refine g_goto (tgt := 39) dX3_deals_96 (by decide) ?_
          first | rw [show dlP (tCf M value k) s k e (p + 1) = tShare (tRem (dlP (tCf M value k) s k e p) s (p + 1) 3) s (p + 1) (poD (tRem (dlP (tCf M value k) s k e p) s (p + 1) 3 4) (p + 1) k 0) e from by rw [dlP, if_pos (by omega)], show dlN (tCf M value k) s k e (p + 1) = dlN (tCf M value k) s k e p + 1 from by rw [dlN, if_pos (by omega)]] at ih | rw [show dlP (tCf M value k) s k e (p + 1) = tRem (dlP (tCf M value k) s k e p) s (p + 1) 3 from by rw [dlP, if_neg (by omega)], show dlN (tCf M value k) s k e (p + 1) = dlN (tCf M value k) s k e p + 0 from by rw [dlN, if_neg (by omega)]] at ih
          exact ih
        · first | refine g_aload0 dX3_deals_65 ?_ | refine g_aloadQ0 dX3_deals_65 ?_ | refine g_aloadN0 dX3_deals_65 ?_
          refine g_iload6 dX3_deals_66 ?_
          refine g_V1n0 (ctX3_isUsed hA _ _ (by omega) (by omega)) kX3_isUsed q2257 tw_0 rfl rfl (by decide) ⟨rfl, rfl⟩ ⟨Nat.zero_le _, Nat.zero_le _⟩ (Nat.le_of_ble_eq_true rfl) dX3_deals_68 (fun r_68 h_68 p_68 => ?_)
          obtain ⟨hr_68, hi_68, rfl⟩ := p_68
          first | refine g_ifN_eq (tgt := 93) dX3_deals_71 (by decide) (by first | omega | exact hB _ _) (fun c_71 => ?_) (fun c_71 => ?_) | refine g_if_eq (tgt := 93) dX3_deals_71 (by decide) (fun c_71 => ?_) (fun c_71 => ?_)
          · first | refine g_iincN6 1 dX3_deals_93 (by decide) (by decide) ?_ | refine g_iinc6 _ dX3_deals_93 rfl (by decide) ?_
            refine g_goto (tgt := 39) dX3_deals_96 (by decide) ?_
            first | rw [show dlP (tCf M value k) s k e (p + 1) = tShare (tRem (dlP (tCf M value k) s k e p) s (p + 1) 3) s (p + 1) (poD (tRem (dlP (tCf M value k) s k e p) s (p + 1) 3 4) (p + 1) k 0) e from by rw [dlP, if_pos (by omega)], show dlN (tCf M value k) s k e (p + 1) = dlN (tCf M value k) s k e p + 1 from by rw [dlN, if_pos (by omega)]] at ih | rw [show dlP (tCf M value k) s k e (p + 1) = tRem (dlP (tCf M value k) s k e p) s (p + 1) 3 from by rw [dlP, if_neg (by omega)], show dlN (tCf M value k) s k e (p + 1) = dlN (tCf M value k) s k e p + 0 from by rw [dlN, if_neg (by omega)]] at ih
            exact ih
          · first | refine g_aload0 dX3_deals_74 ?_ | refine g_aloadQ0 dX3_deals_74 ?_ | refine g_aloadN0 dX3_deals_74 ?_
            refine g_iload1 dX3_deals_75 ?_
            refine g_iload6 dX3_deals_76 ?_
            first | refine g_aload0 dX3_deals_78 ?_ | refine g_aloadQ0 dX3_deals_78 ?_ | refine g_aloadN0 dX3_deals_78 ?_
            refine g_iload3 dX3_deals_79 ?_
            refine g_iload6 dX3_deals_80 ?_
            refine g_V2n0 (ctX3_polynomial hA _ _ _ (by omega) (by omega) (fun j hj => by rw [e4]; have := hcf j hj; omega)) kX3_polynomial q2261 tw_0 rfl rfl (by decide) ⟨rfl, rfl⟩ ⟨Nat.zero_le _, Nat.zero_le _⟩ (Nat.le_of_ble_eq_true rfl) dX3_deals_82 (fun r_82 h_82 p_82 => ?_)
            obtain ⟨rfl, rfl⟩ := p_82
            refine g_iload4 dX3_deals_85 ?_
            refine g_V4v0 (ctX3_setsShare hA _ _ _ _ _ (by omega) (by omega)) kX3_setsShare q2265 tw_0 rfl rfl (by decide) ⟨rfl, rfl⟩ ⟨Nat.zero_le _, Nat.zero_le _⟩ (Nat.le_of_ble_eq_true rfl) dX3_deals_87 (fun h_87 p_87 => ?_)
            subst p_87
            first | refine g_iincN5 1 dX3_deals_90 (by decide) (by decide) ?_ | refine g_iinc5 _ dX3_deals_90 rfl (by decide) ?_
            first | refine g_iincN6 1 dX3_deals_93 (by decide) (by decide) ?_ | refine g_iinc6 _ dX3_deals_93 rfl (by decide) ?_
            refine g_goto (tgt := 39) dX3_deals_96 (by decide) ?_
            first | rw [show dlP (tCf M value k) s k e (p + 1) = tShare (tRem (dlP (tCf M value k) s k e p) s (p + 1) 3) s (p + 1) (poD (tRem (dlP (tCf M value k) s k e p) s (p + 1) 3 4) (p + 1) k 0) e from by rw [dlP, if_pos (by omega)], show dlN (tCf M value k) s k e (p + 1) = dlN (tCf M value k) s k e p + 1 from by rw [dlN, if_pos (by omega)]] at ih | rw [show dlP (tCf M value k) s k e (p + 1) = tRem (dlP (tCf M value k) s k e p) s (p + 1) 3 from by rw [dlP, if_neg (by omega)], show dlN (tCf M value k) s k e (p + 1) = dlN (tCf M value k) s k e p + 0 from by rw [dlN, if_neg (by omega)]] at ih
            exact ih
  have L1 : ∀ j, 1 ≤ j → j ≤ k → V E cX3_deals "SecretVaultModel" mX3_deals (pN fun r h' => r = (dlN (tCf M value k) s k e 24) ∧ h' = twO E A (dlM M s value k e) h) noX X (twO E A (tCf M value j) h) 0 0 10 [some (.ref (A 0)), some (.int (nI s)), some (.int (nI value)), some (.int (nI k)), some (.int (nI e)), some (.int (nI j)), none] [] := by
    refine g_for _ 1 k ?_ ?_
    · refine g_iload5 dX3_deals_10 ?_
      refine g_iload3 dX3_deals_12 ?_
      first | refine g_icmpN_ge (tgt := 33) dX3_deals_13 (by decide) (by first | omega | exact hB _ _) (by first | omega | exact hB _ _) (fun c_13 => ?_) (fun c_13 => ?_) | refine g_icmp_ge (tgt := 33) dX3_deals_13 (by decide) (fun c_13 => ?_) (fun c_13 => ?_)
      · refine g_iconst (nI 0) dX3_deals_33 (by decide) ?_
        refine g_istore5 dX3_deals_34 (by decide) ?_
        refine g_iconst (nI 1) dX3_deals_36 (by decide) ?_
        refine g_istore6 dX3_deals_37 (by decide) ?_
        exact L2 0 (by omega) (by omega)
      · omega
    · intro j h0 hj ih
      refine g_iload5 dX3_deals_10 ?_
      refine g_iload3 dX3_deals_12 ?_
      first | refine g_icmpN_ge (tgt := 33) dX3_deals_13 (by decide) (by first | omega | exact hB _ _) (by first | omega | exact hB _ _) (fun c_13 => ?_) (fun c_13 => ?_) | refine g_icmp_ge (tgt := 33) dX3_deals_13 (by decide) (fun c_13 => ?_) (fun c_13 => ?_)
      · omega
      · first | refine g_aload0 dX3_deals_16 ?_ | refine g_aloadQ0 dX3_deals_16 ?_ | refine g_aloadN0 dX3_deals_16 ?_
        refine t_get4 hA q2102 dX3_deals_17 ?_
        refine g_iload5 dX3_deals_20 ?_
        first | refine g_aload0 dX3_deals_22 ?_ | refine g_aloadQ0 dX3_deals_22 ?_ | refine g_aloadN0 dX3_deals_22 ?_
        refine g_V0n0 (ctX3_drawn hA _) kX3_drawn q2181 tw_0 rfl rfl (by decide) ⟨rfl, rfl⟩ ⟨Nat.zero_le _, Nat.zero_le _⟩ (Nat.le_of_ble_eq_true rfl) dX3_deals_23 (fun r_23 h_23 p_23 => ?_)
        obtain ⟨rfl, rfl⟩ := p_23
        refine t_ast4 hA (by first | omega | exact hB _ _) dX3_deals_26 ?_
        first | refine g_iincN5 1 dX3_deals_27 (by decide) (by decide) ?_ | refine g_iinc5 _ dX3_deals_27 rfl (by decide) ?_
        refine g_goto (tgt := 10) dX3_deals_30 (by decide) ?_
        rw [tCf_s _ _ _ h0]
        exact ih
  first | refine g_aload0 dX3_deals_0 ?_ | refine g_aloadQ0 dX3_deals_0 ?_ | refine g_aloadN0 dX3_deals_0 ?_
  refine t_get4 hA q2102 dX3_deals_1 ?_
  refine g_iconst (nI 0) dX3_deals_4 (by decide) ?_
  refine g_iload2 dX3_deals_5 ?_
  refine t_ast4 hA (by first | omega | exact hB _ _) dX3_deals_6 ?_
  refine g_iconst (nI 1) dX3_deals_7 (by decide) ?_
  refine g_istore5 dX3_deals_8 (by decide) ?_
  rw [tCf_1]
  exact L1 1 (by omega) (by omega)
