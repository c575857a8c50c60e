/-! THE TWIN: contracts of its small methods -/
set_option maxRecDepth 100000
theorem g_for (F : Nat → Prop) (a N : Nat) (hN : F N) (hs : ∀ i, a ≤ i → i < N → F (i + 1) → F i) : ∀ i, a ≤ i → i ≤ N → F i := by
  intro i h0 hi
  obtain ⟨j, rfl⟩ : ∃ j, N = i + j := ⟨N - i, by omega⟩
  clear hi
  induction j generalizing i with
  | zero => exact hN
  | succ j ih => exact hs i h0 (by omega) (ih (i + 1) (by omega) (by rw [show i + 1 + j = i + (j + 1) by omega]; exact hN) (by rw [show i + 1 + j = i + (j + 1) by omega]; exact hs))
theorem g_ford (F : Nat → Prop) (a : Nat) (h0 : F a) (hs : ∀ i, a ≤ i → F i → F (i + 1)) : ∀ i, a ≤ i → F i := by
  intro i hi
  obtain ⟨j, rfl⟩ : ∃ j, i = a + j := ⟨i - a, by omega⟩
  induction j with
  | zero => exact h0
  | succ j ih => exact hs (a + j) (by omega) (ih (by omega))
def inF (v lo hi : Nat) : Nat := if sg lo ≤ sg v ∧ sg v ≤ sg hi then 1 else 0
theorem inF_n {v lo hi : Nat} (hv : v < 4294967296) (h1 : lo < 2147483648) (h2 : hi < 2147483648) : inF v lo hi = if lo ≤ v ∧ v ≤ hi then 1 else 0 := by
  unfold inF sg
  rw [if_pos h1, if_pos h2]
  split <;> split <;> (try split) <;> first | rfl | omega
theorem in_iff {v lo hi r : Nat} (hv : v < 4294967296) (hlo : lo < 4294967296) (hhi : hi < 4294967296) (c : (r = 1 ∧ ¬ nI v < nI lo ∧ ¬ nI hi < nI v) ∨ (r = 0 ∧ (nI v < nI lo ∨ nI hi < nI v))) : r = 1 ↔ sg lo ≤ sg v ∧ sg v ≤ sg hi := by
  rw [nI_ltS hv hlo, nI_ltS hhi hv] at c
  omega
def twB (M : TW) : Prop := ∀ k i, M k i < 4294967296
theorem twB_set {M : TW} {k i x : Nat} (h : twB M) (hx : x < 4294967296) : twB (tset M k i x) := by
  intro b j
  unfold tset
  split
  · unfold nup
    split
    · exact hx
    · exact h _ _
  · exact h _ _
def gOf (g : Nat → Nat) (s w : Nat) : Nat := g (38 + 124 * s + w)
def gSh (g : Nat → Nat) (s x c : Nat) : Nat := g (38 + 124 * s + (52 + 3 * (x - 1) + c))
def tRem (M : TW) (s x : Nat) : Nat → TW
  | 0 => M
  | k + 1 => tset (tRem M s x k) 1 (38 + 124 * s + (52 + 3 * (x - 1) + k)) 0
def tShare (M : TW) (s x v e : Nat) : TW := tset (tset (tset M 1 (38 + 124 * s + (52 + 3 * (x - 1))) 1) 1 (38 + 124 * s + (52 + 3 * (x - 1) + 1)) v) 1 (38 + 124 * s + (52 + 3 * (x - 1) + 2)) e
/-- the events while they are shifted: the places above 18 + k are done -/
def tHap (M : TW) (k : Nat) : TW := fun b => if b = 1 then (fun j => if 18 + k < j ∧ j ≤ 37 then M 1 (j - 1) else M 1 j) else M b
def tEv (M : TW) (c : Nat) : TW := fun b => if b = 1 then (fun j => if 18 < j ∧ j ≤ 37 then M 1 (j - 1) else if j = 18 then c else if j = 17 then M 1 17 + (if M 1 17 < 20 then 1 else 0) else M 1 j) else M b
theorem tHap_top (M : TW) : tHap M 19 = M := by
  funext b j
  unfold tHap
  split
  · rename_i hb
    subst hb
    dsimp only
    rw [if_neg (by omega)]
  · rfl
theorem tHap_step (M : TW) (k : Nat) (hk : k < 19) : tset (tHap M (k + 1)) 1 (18 + (k + 1)) (tHap M (k + 1) 1 (18 + (k + 1) - 1)) = tHap M k := by
  funext b j
  unfold tset nup tHap
  by_cases hb : b = 1
  · subst hb
    simp only [if_true]
    by_cases hj : j = 18 + (k + 1)
    · subst hj
      rw [if_pos rfl, if_neg (by omega), if_pos (by omega)]
    · rw [if_neg hj]
      by_cases h1 : 18 + (k + 1) < j ∧ j ≤ 37
      · rw [if_pos h1, if_pos (by omega)]
      · rw [if_neg h1, if_neg (by omega)]
  · simp only [if_neg hb]
theorem tEv_eq (M : TW) (c : Nat) (d : Nat) (hd : d = if M 1 17 < 20 then 1 else 0) : tset (tset (tHap M 0) 1 18 c) 1 17 (M 1 17 + d) = tEv M c := by
  subst hd
  funext b j
  unfold tset nup tHap tEv
  by_cases hb : b = 1
  · subst hb
    simp only [if_true]
    by_cases h17 : j = 17
    · subst h17
      simp
    · rw [if_neg h17]
      by_cases h18 : j = 18
      · subst h18
        simp
      · rw [if_neg h18]
        by_cases h1 : 18 < j ∧ j ≤ 37
        · rw [if_pos (by omega), if_pos h1]
        · rw [if_neg (by omega), if_neg h1, if_neg h18, if_neg h17]
  · simp only [if_neg hb]
theorem pw_odd {m v sq l T : Nat} (h : v * sq ^ l % m = T) (ho : l % 2 = 1) : (v * sq % m) * ((sq * sq % m) ^ (l / 2 ^ 1)) % m = T := by
  rw [← h]
  obtain ⟨k, rfl⟩ : ∃ k, l = 2 * k + 1 := ⟨l / 2, by omega⟩
  rw [show (2 * k + 1) / 2 ^ 1 = k by omega]
  rw [Nat.mul_mod, Nat.mod_mod, ← Nat.pow_mod, ← Nat.mul_mod]
  congr 1
  rw [Nat.pow_add, Nat.pow_mul, Nat.pow_one, Nat.pow_two]
  rw [Nat.mul_comm ((sq * sq) ^ k) sq, ← Nat.mul_assoc]
theorem pw_even {m v sq l T : Nat} (h : v * sq ^ l % m = T) (ho : ¬ l % 2 = 1) : v * ((sq * sq % m) ^ (l / 2 ^ 1)) % m = T := by
  rw [← h]
  obtain ⟨k, rfl⟩ : ∃ k, l = 2 * k := ⟨l / 2, by omega⟩
  rw [show (2 * k) / 2 ^ 1 = k by omega]
  rw [Nat.mul_mod, ← Nat.pow_mod, ← Nat.mul_mod]
  congr 1
  rw [Nat.pow_mul, Nat.pow_two]
theorem pw_init (base n m : Nat) (hm : 1 < m) : 1 * (base % m) ^ n % m = base ^ n % m := by
  rw [Nat.one_mul, ← Nat.pow_mod]
def zN (z : Nat) : Nat := (z * 1103515245 + 12345) % 4294967296

abbrev mX3_in : GM := (yX3_in, 3, (some .boolean), [], { frames := 0, cells := 0, slots := 0, locals := 0 }, 255)
theorem kX3_in : gCs cX3_in mX3_in 3 := ⟨q2194, q90, q2195, ⟨by decide +kernel, by decide +kernel, by decide +kernel⟩, rfl⟩
set_option maxHeartbeats 400000 in
theorem ctX3_inS {E : GE} {h : AH} (v lo hi : Nat) (hv : v < 4294967296) (hlo : lo < 4294967296) (hhi : hi < 4294967296) : Ct E cX3_in mX3_in [.int (nI v), .int (nI lo), .int (nI hi)] (h) (pN fun r h' => r < 2 ∧ (r = 1 ↔ sg lo ≤ sg v ∧ sg v ≤ sg hi) ∧ h' = h) noX := by
  refine g_enter (own := "SecretVaultModel") [some (.int (nI v)), some (.int (nI lo)), some (.int (nI hi))] (by decide +kernel) rfl rfl (Nat.le_of_ble_eq_true rfl) rfl rfl (fun X => ?_)
  refine g_iload0 dX3_in_0 ?_
  refine g_iload1 dX3_in_1 ?_
  first | refine g_icmpN_lt (tgt := 14) dX3_in_2 (by decide) (by omega) (by omega) (fun c_2 => ?_) (fun c_2 => ?_) | refine g_icmp_lt (tgt := 14) dX3_in_2 (by decide) (fun c_2 => ?_) (fun c_2 => ?_)
  · refine g_iconst (nI 0) dX3_in_14 (by decide) ?_
    exact g_zret dX3_in_15 rfl (nar_zb (by omega)) ⟨_, rfl, by omega, in_iff hv hlo hhi (by first | exact Or.inl ⟨rfl, c_2, c_7⟩ | exact Or.inr ⟨rfl, Or.inr c_7⟩ | exact Or.inr ⟨rfl, Or.inl c_2⟩), rfl⟩
  · refine g_iload0 dX3_in_5 ?_
    refine g_iload2 dX3_in_6 ?_
    first | refine g_icmpN_gt (tgt := 14) dX3_in_7 (by decide) (by omega) (by omega) (fun c_7 => ?_) (fun c_7 => ?_) | refine g_icmp_gt (tgt := 14) dX3_in_7 (by decide) (fun c_7 => ?_) (fun c_7 => ?_)
    · refine g_iconst (nI 0) dX3_in_14 (by decide) ?_
      exact g_zret dX3_in_15 rfl (nar_zb (by omega)) ⟨_, rfl, by omega, in_iff hv hlo hhi (by first | exact Or.inl ⟨rfl, c_2, c_7⟩ | exact Or.inr ⟨rfl, Or.inr c_7⟩ | exact Or.inr ⟨rfl, Or.inl c_2⟩), rfl⟩
    · refine g_iconst (nI 1) dX3_in_10 (by decide) ?_
      refine g_goto (tgt := 15) dX3_in_11 (by decide) ?_
      exact g_zret dX3_in_15 rfl (nar_zb (by omega)) ⟨_, rfl, by omega, in_iff hv hlo hhi (by first | exact Or.inl ⟨rfl, c_2, c_7⟩ | exact Or.inr ⟨rfl, Or.inr c_7⟩ | exact Or.inr ⟨rfl, Or.inl c_2⟩), rfl⟩
theorem ctX3_in {E : GE} {h : AH} (v lo hi : Nat) (hv : v < 4294967296) (hlo : lo < 2147483648) (hhi : hi < 2147483648) : Ct E cX3_in mX3_in [.int (nI v), .int (nI lo), .int (nI hi)] h (pN fun r h' => r < 2 ∧ (r = 1 ↔ lo ≤ v ∧ v ≤ hi) ∧ h' = h) noX := by
  have e : (sg lo ≤ sg v ∧ sg v ≤ sg hi) ↔ (lo ≤ v ∧ v ≤ hi) := by
    unfold sg
    rw [if_pos hlo, if_pos hhi]
    split <;> omega
  have c := ctX3_inS (E := E) (h := h) v lo hi hv (by omega) (by omega)
  simp only [e] at c
  exact c
abbrev mX3_isMember : GM := (yX3_isMember, 1, (some .boolean), [], { frames := 1, cells := 0, slots := 0, locals := 22 }, 255)
theorem kX3_isMember : gCs cX3_isMember mX3_isMember 1 := ⟨q2191, q90, q2192, ⟨by decide +kernel, by decide +kernel, by decide +kernel⟩, rfl⟩
set_option maxHeartbeats 400000 in
theorem ctX3_isMember {E : GE} {h : AH} (v : Nat) (hv : v < 4294967296) : Ct E cX3_isMember mX3_isMember [.int (nI v)] (h) (pN fun r h' => r < 2 ∧ (r = 1 ↔ v ≤ 7) ∧ h' = h) noX := by
  refine g_enter (own := "SecretVaultModel") [some (.int (nI v))] (by decide +kernel) rfl rfl (Nat.le_of_ble_eq_true rfl) rfl rfl (fun X => ?_)
  refine g_iload0 dX3_isMember_0 ?_
  refine g_iconst (nI 0) dX3_isMember_1 (by decide) ?_
  refine g_bipush (nI 7) dX3_isMember_2 (by decide) ?_
  refine g_S3n0 (ctX3_in _ _ _ (by omega) (by omega) (by omega)) kX3_in q2193 (by decide) ⟨rfl, rfl⟩ ⟨Nat.zero_le _, Nat.zero_le _⟩ (Nat.le_of_ble_eq_true rfl) dX3_isMember_4 (fun r_4 h_4 p_4 => ?_)
  obtain ⟨hr_4, hi_4, rfl⟩ := p_4
  exact g_zret dX3_isMember_7 rfl (nar_zb (by omega)) ⟨_, rfl, by omega, by omega, rfl⟩
abbrev mX3_isSlot : GM := (yX3_isSlot, 1, (some .boolean), [], { frames := 1, cells := 0, slots := 0, locals := 22 }, 255)
theorem kX3_isSlot : gCs cX3_isSlot mX3_isSlot 1 := ⟨q2236, q90, q2237, ⟨by decide +kernel, by decide +kernel, by decide +kernel⟩, rfl⟩
set_option maxHeartbeats 400000 in
theorem ctX3_isSlot {E : GE} {h : AH} (v : Nat) (hv : v < 4294967296) : Ct E cX3_isSlot mX3_isSlot [.int (nI v)] (h) (pN fun r h' => r < 2 ∧ (r = 1 ↔ v ≤ 3) ∧ h' = h) noX := by
  refine g_enter (own := "SecretVaultModel") [some (.int (nI v))] (by decide +kernel) rfl rfl (Nat.le_of_ble_eq_true rfl) rfl rfl (fun X => ?_)
  refine g_iload0 dX3_isSlot_0 ?_
  refine g_iconst (nI 0) dX3_isSlot_1 (by decide) ?_
  refine g_iconst (nI 3) dX3_isSlot_2 (by decide) ?_
  refine g_S3n0 (ctX3_in _ _ _ (by omega) (by omega) (by omega)) kX3_in q2193 (by decide) ⟨rfl, rfl⟩ ⟨Nat.zero_le _, Nat.zero_le _⟩ (Nat.le_of_ble_eq_true rfl) dX3_isSlot_3 (fun r_3 h_3 p_3 => ?_)
  obtain ⟨hr_3, hi_3, rfl⟩ := p_3
  exact g_zret dX3_isSlot_6 rfl (nar_zb (by omega)) ⟨_, rfl, by omega, by omega, rfl⟩
abbrev mX3_isSet : GM := (yX3_isSet, 1, (some .boolean), [], { frames := 1, cells := 0, slots := 0, locals := 22 }, 255)
theorem kX3_isSet : gCs cX3_isSet mX3_isSet 1 := ⟨q2290, q90, q2291, ⟨by decide +kernel, by decide +kernel, by decide +kernel⟩, rfl⟩
set_option maxHeartbeats 400000 in
theorem ctX3_isSet {E : GE} {h : AH} (v : Nat) (hv : v < 4294967296) : Ct E cX3_isSet mX3_isSet [.int (nI v)] (h) (pN fun r h' => r < 2 ∧ (r = 1 ↔ v ≤ 255) ∧ h' = h) noX := by
  refine g_enter (own := "SecretVaultModel") [some (.int (nI v))] (by decide +kernel) rfl rfl (Nat.le_of_ble_eq_true rfl) rfl rfl (fun X => ?_)
  refine g_iload0 dX3_isSet_0 ?_
  refine g_iconst (nI 0) dX3_isSet_1 (by decide) ?_
  refine g_sipush (nI 255) dX3_isSet_2 (by decide) ?_
  refine g_S3n0 (ctX3_in _ _ _ (by omega) (by omega) (by omega)) kX3_in q2193 (by decide) ⟨rfl, rfl⟩ ⟨Nat.zero_le _, Nat.zero_le _⟩ (Nat.le_of_ble_eq_true rfl) dX3_isSet_5 (fun r_5 h_5 p_5 => ?_)
  obtain ⟨hr_5, hi_5, rfl⟩ := p_5
  exact g_zret dX3_isSet_8 rfl (nar_zb (by omega)) ⟨_, rfl, by omega, by omega, rfl⟩
abbrev mX3_isPlace : GM := (yX3_isPlace, 1, (some .boolean), [], { frames := 1, cells := 0, slots := 0, locals := 22 }, 255)
theorem kX3_isPlace : gCs cX3_isPlace mX3_isPlace 1 := ⟨q2387, q90, q2388, ⟨by decide +kernel, by decide +kernel, by decide +kernel⟩, rfl⟩
set_option maxHeartbeats 400000 in
theorem ctX3_isPlace {E : GE} {h : AH} (v : Nat) (hv : v < 4294967296) : Ct E cX3_isPlace mX3_isPlace [.int (nI v)] (h) (pN fun r h' => r < 2 ∧ (r = 1 ↔ 1 ≤ v ∧ v ≤ 24) ∧ h' = h) noX := by
  refine g_enter (own := "SecretVaultModel") [some (.int (nI v))] (by decide +kernel) rfl rfl (Nat.le_of_ble_eq_true rfl) rfl rfl (fun X => ?_)
  refine g_iload0 dX3_isPlace_0 ?_
  refine g_iconst (nI 1) dX3_isPlace_1 (by decide) ?_
  refine g_bipush (nI 24) dX3_isPlace_2 (by decide) ?_
  refine g_S3n0 (ctX3_in _ _ _ (by omega) (by omega) (by omega)) kX3_in q2193 (by decide) ⟨rfl, rfl⟩ ⟨Nat.zero_le _, Nat.zero_le _⟩ (Nat.le_of_ble_eq_true rfl) dX3_isPlace_4 (fun r_4 h_4 p_4 => ?_)
  obtain ⟨hr_4, hi_4, rfl⟩ := p_4
  exact g_zret dX3_isPlace_7 rfl (nar_zb (by omega)) ⟨_, rfl, by omega, by omega, rfl⟩
abbrev mX3_thrown : GM := (yX3_thrown, 1, (some .int), [], { frames := 0, cells := 0, slots := 0, locals := 0 }, 255)
theorem kX3_thrown : gCv cX3_thrown mX3_thrown 0 := ⟨q2166, q2167, q90, q2168, ⟨by decide +kernel, by decide +kernel, by decide +kernel⟩, rfl⟩
set_option maxHeartbeats 400000 in
theorem ctX3_thrown {E : GE} {h : AH} {A : Nat → Nat} (hA : twA A) (M : TW)   : Ct E cX3_thrown mX3_thrown [.ref (A 0)] (twO E A M h) (pN fun r h' => r = (M 0 0) ∧ h' = twO E A M h) noX := by
  refine g_enter (own := "SecretVaultModel") [some (.ref (A 0))] (by decide +kernel) rfl rfl (Nat.le_of_ble_eq_true rfl) rfl rfl (fun X => ?_)
  first | refine g_aload0 dX3_thrown_0 ?_ | refine g_aloadQ0 dX3_thrown_0 ?_ | refine g_aloadN0 dX3_thrown_0 ?_
  refine t_get0 hA q2098 dX3_thrown_1 ?_
  exact g_iret dX3_thrown_4 rfl ⟨_, rfl, rfl, rfl⟩
abbrev mX3_fails : GM := (yX3_fails, 2, (some .int), [], { frames := 0, cells := 0, slots := 0, locals := 0 }, 255)
theorem kX3_fails : gCv cX3_fails mX3_fails 1 := ⟨q2198, qs26, q90, q2199, ⟨by decide +kernel, by decide +kernel, by decide +kernel⟩, rfl⟩
set_option maxHeartbeats 400000 in
theorem ctX3_fails {E : GE} {h : AH} {A : Nat → Nat} (hA : twA A) (M : TW) (c : Nat)  : Ct E cX3_fails mX3_fails [.ref (A 0), .int (nI c)] (twO E A M h) (pN fun r h' => r = (0) ∧ h' = twO E A (tset M 0 0 c) h) noX := by
  refine g_enter (own := "SecretVaultModel") [some (.ref (A 0)), some (.int (nI c))] (by decide +kernel) rfl rfl (Nat.le_of_ble_eq_true rfl) rfl rfl (fun X => ?_)
  first | refine g_aload0 dX3_fails_0 ?_ | refine g_aloadQ0 dX3_fails_0 ?_ | refine g_aloadN0 dX3_fails_0 ?_
  refine g_iload1 dX3_fails_1 ?_
  refine t_put0 hA q2098 dX3_fails_2 ?_
  refine g_iconst (nI 0) dX3_fails_5 (by decide) ?_
  exact g_iret dX3_fails_6 rfl ⟨_, rfl, rfl, rfl⟩
abbrev mX3_done : GM := (yX3_done, 2, (some .int), [], { frames := 0, cells := 0, slots := 0, locals := 0 }, 255)
theorem kX3_done : gCv cX3_done mX3_done 1 := ⟨q2175, qs24, q90, q2176, ⟨by decide +kernel, by decide +kernel, by decide +kernel⟩, rfl⟩
set_option maxHeartbeats 400000 in
theorem ctX3_done {E : GE} {h : AH} {A : Nat → Nat} (hA : twA A) (M : TW) (v : Nat)  : Ct E cX3_done mX3_done [.ref (A 0), .int (nI v)] (twO E A M h) (pN fun r h' => r = (v) ∧ h' = twO E A (tset M 0 0 0) h) noX := by
  refine g_enter (own := "SecretVaultModel") [some (.ref (A 0)), some (.int (nI v))] (by decide +kernel) rfl rfl (Nat.le_of_ble_eq_true rfl) rfl rfl (fun X => ?_)
  first | refine g_aload0 dX3_done_0 ?_ | refine g_aloadQ0 dX3_done_0 ?_ | refine g_aloadN0 dX3_done_0 ?_
  refine g_iconst (nI 0) dX3_done_1 (by decide) ?_
  refine t_put0 hA q2098 dX3_done_2 ?_
  refine g_iload1 dX3_done_5 ?_
  exact g_iret dX3_done_6 rfl ⟨_, rfl, rfl, rfl⟩
abbrev mX3_of : GM := (yX3_of, 3, (some .int), [], { frames := 0, cells := 0, slots := 0, locals := 0 }, 255)
theorem kX3_of : gCv cX3_of mX3_of 2 := ⟨q2222, qs30, q90, q2223, ⟨by decide +kernel, by decide +kernel, by decide +kernel⟩, rfl⟩
set_option maxHeartbeats 400000 in
theorem ctX3_of {E : GE} {h : AH} {A : Nat → Nat} (hA : twA A) (M : TW) (s w : Nat) (hs : s < 4) (hw : w < 124) : Ct E cX3_of mX3_of [.ref (A 0), .int (nI s), .int (nI w)] (twO E A M h) (pN fun r h' => r = (gOf (M 1) s w) ∧ h' = twO E A M h) noX := by
  refine g_enter (own := "SecretVaultModel") [some (.ref (A 0)), some (.int (nI s)), some (.int (nI w))] (by decide +kernel) rfl rfl (Nat.le_of_ble_eq_true rfl) rfl rfl (fun X => ?_)
  first | refine g_aload0 dX3_of_0 ?_ | refine g_aloadQ0 dX3_of_0 ?_ | refine g_aloadN0 dX3_of_0 ?_
  refine t_get1 hA q2099 dX3_of_1 ?_
  refine g_bipush (nI 38) dX3_of_4 (by decide) ?_
  refine g_bipush (nI 124) dX3_of_6 (by decide) ?_
  refine g_iload1 dX3_of_8 ?_
  first | refine g_imulN dX3_of_9 ?_ | refine g_imul dX3_of_9 ?_
  first | refine g_iaddN dX3_of_10 ?_ | refine g_iadd dX3_of_10 ?_
  refine g_iload2 dX3_of_11 ?_
  first | refine g_iaddN dX3_of_12 ?_ | refine g_iadd dX3_of_12 ?_
  refine t_ald1 hA (by omega) dX3_of_13 ?_
  exact g_iret dX3_of_14 rfl ⟨_, rfl, rfl, rfl⟩
abbrev mX3_sets : GM := (yX3_sets, 4, none, [], { frames := 0, cells := 0, slots := 0, locals := 0 }, 255)
theorem kX3_sets : gCv cX3_sets mX3_sets 3 := ⟨q2244, qs33, q90, q2245, ⟨by decide +kernel, by decide +kernel, by decide +kernel⟩, rfl⟩
set_option maxHeartbeats 400000 in
theorem ctX3_sets {E : GE} {h : AH} {A : Nat → Nat} (hA : twA A) (M : TW) (s w v : Nat) (hs : s < 4) (hw : w < 124) : Ct E cX3_sets mX3_sets [.ref (A 0), .int (nI s), .int (nI w), .int (nI v)] (twO E A M h) (pV fun h' => h' = twO E A (tset M 1 (38 + 124 * s + w) v) h) noX := by
  refine g_enter (own := "SecretVaultModel") [some (.ref (A 0)), some (.int (nI s)), some (.int (nI w)), some (.int (nI v))] (by decide +kernel) rfl rfl (Nat.le_of_ble_eq_true rfl) rfl rfl (fun X => ?_)
  first | refine g_aload0 dX3_sets_0 ?_ | refine g_aloadQ0 dX3_sets_0 ?_ | refine g_aloadN0 dX3_sets_0 ?_
  refine t_get1 hA q2099 dX3_sets_1 ?_
  refine g_bipush (nI 38) dX3_sets_4 (by decide) ?_
  refine g_bipush (nI 124) dX3_sets_6 (by decide) ?_
  refine g_iload1 dX3_sets_8 ?_
  first | refine g_imulN dX3_sets_9 ?_ | refine g_imul dX3_sets_9 ?_
  first | refine g_iaddN dX3_sets_10 ?_ | refine g_iadd dX3_sets_10 ?_
  refine g_iload2 dX3_sets_11 ?_
  first | refine g_iaddN dX3_sets_12 ?_ | refine g_iadd dX3_sets_12 ?_
  refine g_iload3 dX3_sets_13 ?_
  refine t_ast1 hA (by omega) dX3_sets_14 ?_
  exact g_vret dX3_sets_15 rfl ⟨rfl, rfl⟩
abbrev mX3_shareOf : GM := (yX3_shareOf, 4, (some .int), [], { frames := 1, cells := 0, slots := 0, locals := 22 }, 255)
theorem kX3_shareOf : gCv cX3_shareOf mX3_shareOf 3 := ⟨q2218, qs29, q90, q2219, ⟨by decide +kernel, by decide +kernel, by decide +kernel⟩, rfl⟩
set_option maxHeartbeats 400000 in
theorem ctX3_shareOf {E : GE} {h : AH} {A : Nat → Nat} (hA : twA A) (M : TW) (s x c : Nat) (hs : s < 4) (hx : 1 ≤ x ∧ x ≤ 24) (hc : c < 3) : Ct E cX3_shareOf mX3_shareOf [.ref (A 0), .int (nI s), .int (nI x), .int (nI c)] (twO E A M h) (pN fun r h' => r = (gSh (M 1) s x c) ∧ h' = twO E A M h) noX := by
  refine g_enter (own := "SecretVaultModel") [some (.ref (A 0)), some (.int (nI s)), some (.int (nI x)), some (.int (nI c))] (by decide +kernel) rfl rfl (Nat.le_of_ble_eq_true rfl) rfl rfl (fun X => ?_)
  first | refine g_aload0 dX3_shareOf_0 ?_ | refine g_aloadQ0 dX3_shareOf_0 ?_ | refine g_aloadN0 dX3_shareOf_0 ?_
  refine g_iload1 dX3_shareOf_1 ?_
  refine g_bipush (nI 52) dX3_shareOf_2 (by decide) ?_
  refine g_iconst (nI 3) dX3_shareOf_4 (by decide) ?_
  refine g_iload2 dX3_shareOf_5 ?_
  refine g_iconst (nI 1) dX3_shareOf_6 (by decide) ?_
  first | refine g_isubN dX3_shareOf_7 (by omega) ?_ | refine g_isub dX3_shareOf_7 ?_
  first | refine g_imulN dX3_shareOf_8 ?_ | refine g_imul dX3_shareOf_8 ?_
  first | refine g_iaddN dX3_shareOf_9 ?_ | refine g_iadd dX3_shareOf_9 ?_
  refine g_iload3 dX3_shareOf_10 ?_
  first | refine g_iaddN dX3_shareOf_11 ?_ | refine g_iadd dX3_shareOf_11 ?_
  refine g_V2n0 (ctX3_of hA _ _ _ (by omega) (by omega)) kX3_of q2220 tw_0 rfl rfl (by decide) ⟨rfl, rfl⟩ ⟨Nat.zero_le _, Nat.zero_le _⟩ (Nat.le_of_ble_eq_true rfl) dX3_shareOf_12 (fun r_12 h_12 p_12 => ?_)
  obtain ⟨rfl, rfl⟩ := p_12
  exact g_iret dX3_shareOf_15 rfl ⟨_, rfl, rfl, rfl⟩
abbrev mX3_setsShare : GM := (yX3_setsShare, 5, none, [], { frames := 1, cells := 0, slots := 0, locals := 23 }, 255)
theorem kX3_setsShare : gCv cX3_setsShare mX3_setsShare 4 := ⟨q2267, qs38, q90, q2268, ⟨by decide +kernel, by decide +kernel, by decide +kernel⟩, rfl⟩
set_option maxHeartbeats 400000 in
theorem ctX3_setsShare {E : GE} {h : AH} {A : Nat → Nat} (hA : twA A) (M : TW) (s x v e : Nat) (hs : s < 4) (hx : 1 ≤ x ∧ x ≤ 24) : Ct E cX3_setsShare mX3_setsShare [.ref (A 0), .int (nI s), .int (nI x), .int (nI v), .int (nI e)] (twO E A M h) (pV fun h' => h' = twO E A (tShare M s x v e) h) noX := by
  refine g_enter (own := "SecretVaultModel") [some (.ref (A 0)), some (.int (nI s)), some (.int (nI x)), some (.int (nI v)), some (.int (nI e))] (by decide +kernel) rfl rfl (Nat.le_of_ble_eq_true rfl) rfl rfl (fun X => ?_)
  first | refine g_aload0 dX3_setsShare_0 ?_ | refine g_aloadQ0 dX3_setsShare_0 ?_ | refine g_aloadN0 dX3_setsShare_0 ?_
  refine g_iload1 dX3_setsShare_1 ?_
  refine g_bipush (nI 52) dX3_setsShare_2 (by decide) ?_
  refine g_iconst (nI 3) dX3_setsShare_4 (by decide) ?_
  refine g_iload2 dX3_setsShare_5 ?_
  refine g_iconst (nI 1) dX3_setsShare_6 (by decide) ?_
  first | refine g_isubN dX3_setsShare_7 (by omega) ?_ | refine g_isub dX3_setsShare_7 ?_
  first | refine g_imulN dX3_setsShare_8 ?_ | refine g_imul dX3_setsShare_8 ?_
  first | refine g_iaddN dX3_setsShare_9 ?_ | refine g_iadd dX3_setsShare_9 ?_
  refine g_iconst (nI 1) dX3_setsShare_10 (by decide) ?_
  refine g_V3v0 (ctX3_sets hA _ _ _ _ (by omega) (by omega)) kX3_sets q2242 tw_0 rfl rfl (by decide) ⟨rfl, rfl⟩ ⟨Nat.zero_le _, Nat.zero_le _⟩ (Nat.le_of_ble_eq_true rfl) dX3_setsShare_11 (fun h_11 p_11 => ?_)
  subst p_11
  first | refine g_aload0 dX3_setsShare_14 ?_ | refine g_aloadQ0 dX3_setsShare_14 ?_ | refine g_aloadN0 dX3_setsShare_14 ?_
  refine g_iload1 dX3_setsShare_15 ?_
  refine g_bipush (nI 52) dX3_setsShare_16 (by decide) ?_
  refine g_iconst (nI 3) dX3_setsShare_18 (by decide) ?_
  refine g_iload2 dX3_setsShare_19 ?_
  refine g_iconst (nI 1) dX3_setsShare_20 (by decide) ?_
  first | refine g_isubN dX3_setsShare_21 (by omega) ?_ | refine g_isub dX3_setsShare_21 ?_
  first | refine g_imulN dX3_setsShare_22 ?_ | refine g_imul dX3_setsShare_22 ?_
  first | refine g_iaddN dX3_setsShare_23 ?_ | refine g_iadd dX3_setsShare_23 ?_
  refine g_iconst (nI 1) dX3_setsShare_24 (by decide) ?_
  first | refine g_iaddN dX3_setsShare_25 ?_ | refine g_iadd dX3_setsShare_25 ?_
  refine g_iload3 dX3_setsShare_26 ?_
  refine g_V3v0 (ctX3_sets hA _ _ _ _ (by omega) (by omega)) kX3_sets q2242 tw_0 rfl rfl (by decide) ⟨rfl, rfl⟩ ⟨Nat.zero_le _, Nat.zero_le _⟩ (Nat.le_of_ble_eq_true rfl) dX3_setsShare_27 (fun h_27 p_27 => ?_)
  subst p_27
  first | refine g_aload0 dX3_setsShare_30 ?_ | refine g_aloadQ0 dX3_setsShare_30 ?_ | refine g_aloadN0 dX3_setsShare_30 ?_
  refine g_iload1 dX3_setsShare_31 ?_
  refine g_bipush (nI 52) dX3_setsShare_32 (by decide) ?_
  refine g_iconst (nI 3) dX3_setsShare_34 (by decide) ?_
  refine g_iload2 dX3_setsShare_35 ?_
  refine g_iconst (nI 1) dX3_setsShare_36 (by decide) ?_
  first | refine g_isubN dX3_setsShare_37 (by omega) ?_ | refine g_isub dX3_setsShare_37 ?_
  first | refine g_imulN dX3_setsShare_38 ?_ | refine g_imul dX3_setsShare_38 ?_
  first | refine g_iaddN dX3_setsShare_39 ?_ | refine g_iadd dX3_setsShare_39 ?_
  refine g_iconst (nI 2) dX3_setsShare_40 (by decide) ?_
  first | refine g_iaddN dX3_setsShare_41 ?_ | refine g_iadd dX3_setsShare_41 ?_
  refine g_iload4 dX3_setsShare_42 ?_
  refine g_V3v0 (ctX3_sets hA _ _ _ _ (by omega) (by omega)) kX3_sets q2242 tw_0 rfl rfl (by decide) ⟨rfl, rfl⟩ ⟨Nat.zero_le _, Nat.zero_le _⟩ (Nat.le_of_ble_eq_true rfl) dX3_setsShare_44 (fun h_44 p_44 => ?_)
  subst p_44
  exact g_vret dX3_setsShare_47 rfl ⟨rfl, rfl⟩
abbrev mX3_removes : GM := (yX3_removes, 4, none, [], { frames := 1, cells := 0, slots := 0, locals := 23 }, 255)
theorem kX3_removes : gCv cX3_removes mX3_removes 2 := ⟨q2252, qs35, q90, q2253, ⟨by decide +kernel, by decide +kernel, by decide +kernel⟩, rfl⟩
set_option maxHeartbeats 400000 in
theorem ctX3_removes {E : GE} {h : AH} {A : Nat → Nat} (hA : twA A) (M : TW) (s x : Nat) (hs : s < 4) (hx : 1 ≤ x ∧ x ≤ 24) : Ct E cX3_removes mX3_removes [.ref (A 0), .int (nI s), .int (nI x)] (twO E A M h) (pV fun h' => h' = twO E A (tRem M s x 3) h) noX := by
  refine g_enter (own := "SecretVaultModel") [some (.ref (A 0)), some (.int (nI s)), some (.int (nI x)), none] (by decide +kernel) rfl rfl (Nat.le_of_ble_eq_true rfl) rfl rfl (fun X => ?_)
  have L : ∀ i, 0 ≤ i → i ≤ 3 → V E cX3_removes "SecretVaultModel" mX3_removes (pV fun h' => h' = twO E A (tRem M s x 3) h) noX X (twO E A (tRem M s x i) h) 0 0 2 [some (.ref (A 0)), some (.int (nI s)), some (.int (nI x)), some (.int (nI i))] [] := by
    refine g_for _ 0 3 ?_ ?_
    · refine g_iload3 dX3_removes_2 ?_
      refine g_iconst (nI 3) dX3_removes_3 (by decide) ?_
      first | refine g_icmpN_ge (tgt := 29) dX3_removes_4 (by decide) (by omega) (by omega) (fun c_4 => ?_) (fun c_4 => ?_) | refine g_icmp_ge (tgt := 29) dX3_removes_4 (by decide) (fun c_4 => ?_) (fun c_4 => ?_)
      · exact g_vret dX3_removes_29 rfl ⟨rfl, rfl⟩
      · omega
    · intro i h0 hi ih
      refine g_iload3 dX3_removes_2 ?_
      refine g_iconst (nI 3) dX3_removes_3 (by decide) ?_
      first | refine g_icmpN_ge (tgt := 29) dX3_removes_4 (by decide) (by omega) (by omega) (fun c_4 => ?_) (fun c_4 => ?_) | refine g_icmp_ge (tgt := 29) dX3_removes_4 (by decide) (fun c_4 => ?_) (fun c_4 => ?_)
      · omega
      · first | refine g_aload0 dX3_removes_7 ?_ | refine g_aloadQ0 dX3_removes_7 ?_ | refine g_aloadN0 dX3_removes_7 ?_
        refine g_iload1 dX3_removes_8 ?_
        refine g_bipush (nI 52) dX3_removes_9 (by decide) ?_
        refine g_iconst (nI 3) dX3_removes_11 (by decide) ?_
        refine g_iload2 dX3_removes_12 ?_
        refine g_iconst (nI 1) dX3_removes_13 (by decide) ?_
        first | refine g_isubN dX3_removes_14 (by omega) ?_ | refine g_isub dX3_removes_14 ?_
        first | refine g_imulN dX3_removes_15 ?_ | refine g_imul dX3_removes_15 ?_
        first | refine g_iaddN dX3_removes_16 ?_ | refine g_iadd dX3_removes_16 ?_
        refine g_iload3 dX3_removes_17 ?_
        first | refine g_iaddN dX3_removes_18 ?_ | refine g_iadd dX3_removes_18 ?_
        refine g_iconst (nI 0) dX3_removes_19 (by decide) ?_
        refine g_V3v0 (ctX3_sets hA _ _ _ _ (by omega) (by omega)) kX3_sets q2242 tw_0 rfl rfl (by decide) ⟨rfl, rfl⟩ ⟨Nat.zero_le _, Nat.zero_le _⟩ (Nat.le_of_ble_eq_true rfl) dX3_removes_20 (fun h_20 p_20 => ?_)
        subst p_20
        first | refine g_iincN3 1 dX3_removes_23 (by decide) (by decide) ?_ | refine g_iinc3 _ dX3_removes_23 rfl (by decide) ?_
        refine g_goto (tgt := 2) dX3_removes_26 (by decide) ?_
        exact ih
  refine g_iconst (nI 0) dX3_removes_0 (by decide) ?_
  refine g_istore3 dX3_removes_1 (by decide) ?_
  exact L 0 (by omega) (by omega)
abbrev mX3_hasShare : GM := (yX3_hasShare, 3, (some .boolean), [], { frames := 2, cells := 0, slots := 0, locals := 45 }, 255)
theorem kX3_hasShare : gCv cX3_hasShare mX3_hasShare 2 := ⟨q2214, qs28, q90, q2215, ⟨by decide +kernel, by decide +kernel, by decide +kernel⟩, rfl⟩
set_option maxHeartbeats 400000 in
theorem ctX3_hasShare {E : GE} {h : AH} {A : Nat → Nat} (hA : twA A) (M : TW) (s x : Nat) (hB : twB M) (hs : s < 4) (hx : 1 ≤ x ∧ x ≤ 24) : Ct E cX3_hasShare mX3_hasShare [.ref (A 0), .int (nI s), .int (nI x)] (twO E A M h) (pN fun r h' => r < 2 ∧ (r = 1 ↔ gSh (M 1) s x 0 = 1) ∧ h' = twO E A M h) noX := by
  refine g_enter (own := "SecretVaultModel") [some (.ref (A 0)), some (.int (nI s)), some (.int (nI x))] (by decide +kernel) rfl rfl (Nat.le_of_ble_eq_true rfl) rfl rfl (fun X => ?_)
  first | refine g_aload0 dX3_hasShare_0 ?_ | refine g_aloadQ0 dX3_hasShare_0 ?_ | refine g_aloadN0 dX3_hasShare_0 ?_
  refine g_iload1 dX3_hasShare_1 ?_
  refine g_iload2 dX3_hasShare_2 ?_
  refine g_iconst (nI 0) dX3_hasShare_3 (by decide) ?_
  refine g_V3n0 (ctX3_shareOf hA _ _ _ _ (by omega) (by omega) (by omega)) kX3_shareOf q2216 tw_0 rfl rfl (by decide) ⟨rfl, rfl⟩ ⟨Nat.zero_le _, Nat.zero_le _⟩ (Nat.le_of_ble_eq_true rfl) dX3_hasShare_4 (fun r_4 h_4 p_4 => ?_)
  obtain ⟨rfl, rfl⟩ := p_4
  refine g_iconst (nI 1) dX3_hasShare_7 (by decide) ?_
  first | refine g_icmpN_ne (tgt := 15) dX3_hasShare_8 (by decide) (by first | omega | exact hB _ _) (by first | omega | exact hB _ _) (fun c_8 => ?_) (fun c_8 => ?_) | refine g_icmpU_ne (tgt := 15) dX3_hasShare_8 (by decide) (by first | omega | exact hB _ _) (by first | omega | exact hB _ _) (fun c_8 => ?_) (fun c_8 => ?_) | refine g_icmp_ne (tgt := 15) dX3_hasShare_8 (by decide) (fun c_8 => ?_) (fun c_8 => ?_)
  · refine g_iconst (nI 0) dX3_hasShare_15 (by decide) ?_
    exact g_zret dX3_hasShare_16 rfl (nar_zb (by first | omega | exact hB _ _)) ⟨_, rfl, by omega, by omega, rfl⟩
  · refine g_iconst (nI 1) dX3_hasShare_11 (by decide) ?_
    refine g_goto (tgt := 16) dX3_hasShare_12 (by decide) ?_
    exact g_zret dX3_hasShare_16 rfl (nar_zb (by first | omega | exact hB _ _)) ⟨_, rfl, by omega, by omega, rfl⟩
abbrev mX3_owner : GM := (yX3_owner, 1, (some .int), [], { frames := 0, cells := 0, slots := 0, locals := 0 }, 255)
theorem kX3_owner : gCs cX3_owner mX3_owner 1 := ⟨q2255, q90, q2256, ⟨by decide +kernel, by decide +kernel, by decide +kernel⟩, rfl⟩
set_option maxHeartbeats 400000 in
theorem ctX3_owner {E : GE} {h : AH} (x : Nat) (hx : 1 ≤ x ∧ x < 2147483648) : Ct E cX3_owner mX3_owner [.int (nI x)] (h) (pN fun r h' => r = ((x - 1) / 3) ∧ h' = h) noX := by
  refine g_enter (own := "SecretVaultModel") [some (.int (nI x))] (by decide +kernel) rfl rfl (Nat.le_of_ble_eq_true rfl) rfl rfl (fun X => ?_)
  refine g_iload0 dX3_owner_0 ?_
  refine g_iconst (nI 1) dX3_owner_1 (by decide) ?_
  first | refine g_isubN dX3_owner_2 (by omega) ?_ | refine g_isub dX3_owner_2 ?_
  refine g_iconst (nI 3) dX3_owner_3 (by decide) ?_
  refine g_idivN dX3_owner_4 (by omega) (by omega) (by omega) ?_
  exact g_iret dX3_owner_5 rfl ⟨_, rfl, rfl, rfl⟩
abbrev mX3_isUsed : GM := (yX3_isUsed, 2, (some .boolean), [], { frames := 1, cells := 0, slots := 0, locals := 20 }, 255)
theorem kX3_isUsed : gCv cX3_isUsed mX3_isUsed 1 := ⟨q2259, qs36, q90, q2260, ⟨by decide +kernel, by decide +kernel, by decide +kernel⟩, rfl⟩
set_option maxHeartbeats 400000 in
theorem ctX3_isUsed {E : GE} {h : AH} {A : Nat → Nat} (hA : twA A) (M : TW) (x : Nat) (hx : 1 ≤ x ∧ x ≤ 24) (hW : M 1 (1 + (x - 1) / 3) < 2147483648) : Ct E cX3_isUsed mX3_isUsed [.ref (A 0), .int (nI x)] (twO E A M h) (pN fun r h' => r < 2 ∧ (r = 1 ↔ (x - 1) % 3 < M 1 (1 + (x - 1) / 3)) ∧ h' = twO E A M h) noX := by
  refine g_enter (own := "SecretVaultModel") [some (.ref (A 0)), some (.int (nI x))] (by decide +kernel) rfl rfl (Nat.le_of_ble_eq_true rfl) rfl rfl (fun X => ?_)
  refine g_iload1 dX3_isUsed_0 ?_
  refine g_iconst (nI 1) dX3_isUsed_1 (by decide) ?_
  first | refine g_isubN dX3_isUsed_2 (by omega) ?_ | refine g_isub dX3_isUsed_2 ?_
  refine g_iconst (nI 3) dX3_isUsed_3 (by decide) ?_
  refine g_iremN dX3_isUsed_4 (by omega) (by omega) (by omega) ?_
  first | refine g_aload0 dX3_isUsed_5 ?_ | refine g_aloadQ0 dX3_isUsed_5 ?_ | refine g_aloadN0 dX3_isUsed_5 ?_
  refine t_get1 hA q2099 dX3_isUsed_6 ?_
  refine g_iconst (nI 1) dX3_isUsed_9 (by decide) ?_
  refine g_iload1 dX3_isUsed_10 ?_
  refine g_S1n0 (ctX3_owner _ (by omega)) kX3_owner q2254 (by decide) ⟨rfl, rfl⟩ ⟨Nat.zero_le _, Nat.zero_le _⟩ (Nat.le_of_ble_eq_true rfl) dX3_isUsed_11 (fun r_11 h_11 p_11 => ?_)
  obtain ⟨rfl, rfl⟩ := p_11
  first | refine g_iaddN dX3_isUsed_14 ?_ | refine g_iadd dX3_isUsed_14 ?_
  refine t_ald1 hA (by omega) dX3_isUsed_15 ?_
  first | refine g_icmpN_ge (tgt := 23) dX3_isUsed_16 (by decide) (by omega) (by omega) (fun c_16 => ?_) (fun c_16 => ?_) | refine g_icmp_ge (tgt := 23) dX3_isUsed_16 (by decide) (fun c_16 => ?_) (fun c_16 => ?_)
  · refine g_iconst (nI 0) dX3_isUsed_23 (by decide) ?_
    exact g_zret dX3_isUsed_24 rfl (nar_zb (by omega)) ⟨_, rfl, by omega, by omega, rfl⟩
  · refine g_iconst (nI 1) dX3_isUsed_19 (by decide) ?_
    refine g_goto (tgt := 24) dX3_isUsed_20 (by decide) ?_
    exact g_zret dX3_isUsed_24 rfl (nar_zb (by omega)) ⟨_, rfl, by omega, by omega, rfl⟩
abbrev mX3_isPresent : GM := (yX3_isPresent, 2, (some .boolean), [], { frames := 0, cells := 0, slots := 0, locals := 0 }, 255)
theorem kX3_isPresent : gCv cX3_isPresent mX3_isPresent 1 := ⟨q2206, qs27, q90, q2207, ⟨by decide +kernel, by decide +kernel, by decide +kernel⟩, rfl⟩
set_option maxHeartbeats 400000 in
theorem ctX3_isPresent {E : GE} {h : AH} {A : Nat → Nat} (hA : twA A) (M : TW) (m : Nat) (hB : twB M) (hm : m < 8) : Ct E cX3_isPresent mX3_isPresent [.ref (A 0), .int (nI m)] (twO E A M h) (pN fun r h' => r < 2 ∧ (r = 1 ↔ M 1 (9 + m) = 1) ∧ h' = twO E A M h) noX := by
  refine g_enter (own := "SecretVaultModel") [some (.ref (A 0)), some (.int (nI m))] (by decide +kernel) rfl rfl (Nat.le_of_ble_eq_true rfl) rfl rfl (fun X => ?_)
  first | refine g_aload0 dX3_isPresent_0 ?_ | refine g_aloadQ0 dX3_isPresent_0 ?_ | refine g_aloadN0 dX3_isPresent_0 ?_
  refine t_get1 hA q2099 dX3_isPresent_1 ?_
  refine g_bipush (nI 9) dX3_isPresent_4 (by decide) ?_
  refine g_iload1 dX3_isPresent_6 ?_
  first | refine g_iaddN dX3_isPresent_7 ?_ | refine g_iadd dX3_isPresent_7 ?_
  refine t_ald1 hA (by first | omega | exact hB _ _) dX3_isPresent_8 ?_
  refine g_iconst (nI 1) dX3_isPresent_9 (by decide) ?_
  first | refine g_icmpN_ne (tgt := 17) dX3_isPresent_10 (by decide) (by first | omega | exact hB _ _) (by first | omega | exact hB _ _) (fun c_10 => ?_) (fun c_10 => ?_) | refine g_icmpU_ne (tgt := 17) dX3_isPresent_10 (by decide) (by first | omega | exact hB _ _) (by first | omega | exact hB _ _) (fun c_10 => ?_) (fun c_10 => ?_) | refine g_icmp_ne (tgt := 17) dX3_isPresent_10 (by decide) (fun c_10 => ?_) (fun c_10 => ?_)
  · refine g_iconst (nI 0) dX3_isPresent_17 (by decide) ?_
    exact g_zret dX3_isPresent_18 rfl (nar_zb (by first | omega | exact hB _ _)) ⟨_, rfl, by omega, by omega, rfl⟩
  · refine g_iconst (nI 1) dX3_isPresent_13 (by decide) ?_
    refine g_goto (tgt := 18) dX3_isPresent_14 (by decide) ?_
    exact g_zret dX3_isPresent_18 rfl (nar_zb (by first | omega | exact hB _ _)) ⟨_, rfl, by omega, by omega, rfl⟩
abbrev mX3_happens : GM := (yX3_happens, 3, none, [], { frames := 0, cells := 0, slots := 0, locals := 0 }, 255)
theorem kX3_happens : gCv cX3_happens mX3_happens 1 := ⟨q2271, qs39, q90, q2272, ⟨by decide +kernel, by decide +kernel, by decide +kernel⟩, rfl⟩
set_option maxHeartbeats 400000 in
theorem ctX3_happens {E : GE} {h : AH} {A : Nat → Nat} (hA : twA A) (M : TW) (c : Nat) (hE : M 1 17 ≤ 20) : Ct E cX3_happens mX3_happens [.ref (A 0), .int (nI c)] (twO E A M h) (pV fun h' => h' = twO E A (tEv M c) h) noX := by
  refine g_enter (own := "SecretVaultModel") [some (.ref (A 0)), some (.int (nI c)), none] (by decide +kernel) rfl rfl (Nat.le_of_ble_eq_true rfl) rfl rfl (fun X => ?_)
  have L : ∀ i, 0 ≤ i → i ≤ 19 → V E cX3_happens "SecretVaultModel" mX3_happens (pV fun h' => h' = twO E A (tEv M c) h) noX X (twO E A (tHap M i) h) 0 0 3 [some (.ref (A 0)), some (.int (nI c)), some (.int (nI i))] [] := by
    intro i h0
    refine g_ford (fun i => i ≤ 19 → V E cX3_happens "SecretVaultModel" mX3_happens (pV fun h' => h' = twO E A (tEv M c) h) noX X (twO E A (tHap M i) h) 0 0 3 [some (.ref (A 0)), some (.int (nI c)), some (.int (nI i))] []) 0 ?_ ?_ i h0
    · intro _
      refine g_iload2 dX3_happens_3 ?_
      first | refine g_ifN_le (tgt := 33) dX3_happens_4 (by decide) (by omega) (fun c_4 => ?_) (fun c_4 => ?_) | refine g_if_le (tgt := 33) dX3_happens_4 (by decide) (fun c_4 => ?_) (fun c_4 => ?_)
      · have e17 : tset (tHap M 0) 1 18 c 1 17 = M 1 17 := rfl
        first | refine g_aload0 dX3_happens_33 ?_ | refine g_aloadQ0 dX3_happens_33 ?_ | refine g_aloadN0 dX3_happens_33 ?_
        refine t_get1 hA q2099 dX3_happens_34 ?_
        refine g_bipush (nI 18) dX3_happens_37 (by decide) ?_
        refine g_iload1 dX3_happens_39 ?_
        refine t_ast1 hA (by omega) dX3_happens_40 ?_
        first | refine g_aload0 dX3_happens_41 ?_ | refine g_aloadQ0 dX3_happens_41 ?_ | refine g_aloadN0 dX3_happens_41 ?_
        refine t_get1 hA q2099 dX3_happens_42 ?_
        refine g_bipush (nI 17) dX3_happens_45 (by decide) ?_
        refine g_dup2 dX3_happens_47 rfl rfl ?_
        refine t_ald1 hA (by omega) dX3_happens_48 ?_
        first | refine g_aload0 dX3_happens_49 ?_ | refine g_aloadQ0 dX3_happens_49 ?_ | refine g_aloadN0 dX3_happens_49 ?_
        refine t_get1 hA q2099 dX3_happens_50 ?_
        refine g_bipush (nI 17) dX3_happens_53 (by decide) ?_
        refine t_ald1 hA (by omega) dX3_happens_55 ?_
        refine g_bipush (nI 20) dX3_happens_56 (by decide) ?_
        first | refine g_icmpN_ge (tgt := 65) dX3_happens_58 (by decide) (by omega) (by omega) (fun c_58 => ?_) (fun c_58 => ?_) | refine g_icmp_ge (tgt := 65) dX3_happens_58 (by decide) (fun c_58 => ?_) (fun c_58 => ?_)
        · refine g_iconst (nI 0) dX3_happens_65 (by decide) ?_
          first | refine g_iaddN dX3_happens_66 ?_ | refine g_iadd dX3_happens_66 ?_
          refine t_ast1 hA (by omega) dX3_happens_67 ?_
          exact g_vret dX3_happens_68 rfl ⟨rfl, by rw [e17]; exact congrArg (fun m => twO E A m h) (tEv_eq M c _ (by first | rw [if_pos (by omega)] | rw [if_neg (by omega)]))⟩
        · refine g_iconst (nI 1) dX3_happens_61 (by decide) ?_
          refine g_goto (tgt := 66) dX3_happens_62 (by decide) ?_
          first | refine g_iaddN dX3_happens_66 ?_ | refine g_iadd dX3_happens_66 ?_
          refine t_ast1 hA (by omega) dX3_happens_67 ?_
          exact g_vret dX3_happens_68 rfl ⟨rfl, by rw [e17]; exact congrArg (fun m => twO E A m h) (tEv_eq M c _ (by first | rw [if_pos (by omega)] | rw [if_neg (by omega)]))⟩
      · omega
    · intro i h0 ih hi
      refine g_iload2 dX3_happens_3 ?_
      first | refine g_ifN_le (tgt := 33) dX3_happens_4 (by decide) (by omega) (fun c_4 => ?_) (fun c_4 => ?_) | refine g_if_le (tgt := 33) dX3_happens_4 (by decide) (fun c_4 => ?_) (fun c_4 => ?_)
      · omega
      · first | refine g_aload0 dX3_happens_7 ?_ | refine g_aloadQ0 dX3_happens_7 ?_ | refine g_aloadN0 dX3_happens_7 ?_
        refine t_get1 hA q2099 dX3_happens_8 ?_
        refine g_bipush (nI 18) dX3_happens_11 (by decide) ?_
        refine g_iload2 dX3_happens_13 ?_
        first | refine g_iaddN dX3_happens_14 ?_ | refine g_iadd dX3_happens_14 ?_
        first | refine g_aload0 dX3_happens_15 ?_ | refine g_aloadQ0 dX3_happens_15 ?_ | refine g_aloadN0 dX3_happens_15 ?_
        refine t_get1 hA q2099 dX3_happens_16 ?_
        refine g_bipush (nI 18) dX3_happens_19 (by decide) ?_
        refine g_iload2 dX3_happens_21 ?_
        first | refine g_iaddN dX3_happens_22 ?_ | refine g_iadd dX3_happens_22 ?_
        refine g_iconst (nI 1) dX3_happens_23 (by decide) ?_
        first | refine g_isubN dX3_happens_24 (by omega) ?_ | refine g_isub dX3_happens_24 ?_
        refine t_ald1 hA (by omega) dX3_happens_25 ?_
        refine t_ast1 hA (by omega) dX3_happens_26 ?_
        first | refine g_iincM2 1 dX3_happens_27 (by decide) (by omega) (by decide) ?_ | refine g_iinc2 _ dX3_happens_27 rfl (by decide) ?_
        refine g_goto (tgt := 3) dX3_happens_30 (by decide) ?_
        have e := tHap_step M i (by omega)
        rw [e]
        exact ih (by omega)
  refine g_bipush (nI 19) dX3_happens_0 (by decide) ?_
  refine g_istore2 dX3_happens_2 (by decide) ?_
  have h := L 19 (by omega) (by omega)
  rw [tHap_top] at h
  exact h
abbrev mX3_power : GM := (yX3_power, 6, (some .int), [], { frames := 0, cells := 0, slots := 0, locals := 0 }, 255)
theorem kX3_power : gCs cX3_power mX3_power 3 := ⟨q2229, q90, q2230, ⟨by decide +kernel, by decide +kernel, by decide +kernel⟩, rfl⟩
set_option maxHeartbeats 400000 in
theorem ctX3_power {E : GE} {h : AH} (base n m : Nat) (hb : base < 2147483648) (hn : n < 2147483648) (hm : 1 < m ∧ m < 46341) : Ct E cX3_power mX3_power [.int (nI base), .int (nI n), .int (nI m)] (h) (pN fun r h' => r = (base ^ n % m) ∧ h' = h) noX := by
  refine g_enter (own := "SecretVaultModel") [some (.int (nI base)), some (.int (nI n)), some (.int (nI m)), none, none, none] (by decide +kernel) rfl rfl (Nat.le_of_ble_eq_true rfl) rfl rfl (fun X => ?_)
  have L : ∀ l v sq : Nat, v < m → sq < m → l < 2147483648 → v * sq ^ l % m = base ^ n % m → V E cX3_power "SecretVaultModel" mX3_power (pN fun r h' => r = (base ^ n % m) ∧ h' = h) noX X (h) 0 0 10 [some (.int (nI base)), some (.int (nI n)), some (.int (nI m)), some (.int (nI v)), some (.int (nI sq)), some (.int (nI l))] [] := by
    intro l
    induction l using Nat.strongRecOn with
    | ind l ih =>
      intro v sq hv hq hl he
      have h1 : v * sq ≤ 46340 * 46340 := Nat.mul_le_mul (by omega) (by omega)
      have h2 : sq * sq ≤ 46340 * 46340 := Nat.mul_le_mul (by omega) (by omega)
      refine g_iload5 dX3_power_10 ?_
      first | refine g_ifN_le (tgt := 52) dX3_power_12 (by decide) (by omega) (fun c_12 => ?_) (fun c_12 => ?_) | refine g_if_le (tgt := 52) dX3_power_12 (by decide) (fun c_12 => ?_) (fun c_12 => ?_)
      · refine g_iload3 dX3_power_52 ?_
        exact g_iret dX3_power_53 rfl ⟨_, rfl, by rcases c_12 with c | c <;> first | omega | (subst c; rw [← he]; simp [Nat.mod_eq_of_lt hv]), rfl⟩
      · refine g_iload5 dX3_power_15 ?_
        refine g_iconst (nI 1) dX3_power_17 (by decide) ?_
        refine g_iand1 dX3_power_18 (by omega) ?_
        refine g_iconst (nI 1) dX3_power_19 (by decide) ?_
        first | refine g_icmpN_ne (tgt := 32) dX3_power_20 (by decide) (by omega) (by omega) (fun c_20 => ?_) (fun c_20 => ?_) | refine g_icmpU_ne (tgt := 32) dX3_power_20 (by decide) (by omega) (by omega) (fun c_20 => ?_) (fun c_20 => ?_) | refine g_icmp_ne (tgt := 32) dX3_power_20 (by decide) (fun c_20 => ?_) (fun c_20 => ?_)
        · refine g_iload3 dX3_power_32 ?_
          refine g_istore3 dX3_power_33 (by decide) ?_
          refine g_iload4 dX3_power_34 ?_
          refine g_iload4 dX3_power_36 ?_
          first | refine g_imulN dX3_power_38 ?_ | refine g_imul dX3_power_38 ?_
          refine g_iload2 dX3_power_39 ?_
          refine g_iremN dX3_power_40 (by omega) (by omega) (by omega) ?_
          refine g_istore4 dX3_power_41 (by decide) ?_
          refine g_iload5 dX3_power_43 ?_
          refine g_iconst (nI 1) dX3_power_45 (by decide) ?_
          refine g_ishrN dX3_power_46 (by omega) (by omega) ?_
          refine g_istore5 dX3_power_47 (by decide) ?_
          refine g_goto (tgt := 10) dX3_power_49 (by decide) ?_
          first | exact ih _ (by omega) _ _ (Nat.mod_lt _ (by omega)) (Nat.mod_lt _ (by omega)) (by omega) (pw_odd he c_20) | exact ih _ (by omega) _ _ (by omega) (Nat.mod_lt _ (by omega)) (by omega) (pw_even he c_20)
        · refine g_iload3 dX3_power_23 ?_
          refine g_iload4 dX3_power_24 ?_
          first | refine g_imulN dX3_power_26 ?_ | refine g_imul dX3_power_26 ?_
          refine g_iload2 dX3_power_27 ?_
          refine g_iremN dX3_power_28 (by omega) (by omega) (by omega) ?_
          refine g_goto (tgt := 33) dX3_power_29 (by decide) ?_
          refine g_istore3 dX3_power_33 (by decide) ?_
          refine g_iload4 dX3_power_34 ?_
          refine g_iload4 dX3_power_36 ?_
          first | refine g_imulN dX3_power_38 ?_ | refine g_imul dX3_power_38 ?_
          refine g_iload2 dX3_power_39 ?_
          refine g_iremN dX3_power_40 (by omega) (by omega) (by omega) ?_
          refine g_istore4 dX3_power_41 (by decide) ?_
          refine g_iload5 dX3_power_43 ?_
          refine g_iconst (nI 1) dX3_power_45 (by decide) ?_
          refine g_ishrN dX3_power_46 (by omega) (by omega) ?_
          refine g_istore5 dX3_power_47 (by decide) ?_
          refine g_goto (tgt := 10) dX3_power_49 (by decide) ?_
          first | exact ih _ (by omega) _ _ (Nat.mod_lt _ (by omega)) (Nat.mod_lt _ (by omega)) (by omega) (pw_odd he c_20) | exact ih _ (by omega) _ _ (by omega) (Nat.mod_lt _ (by omega)) (by omega) (pw_even he c_20)
  refine g_iconst (nI 1) dX3_power_0 (by decide) ?_
  refine g_istore3 dX3_power_1 (by decide) ?_
  refine g_iload0 dX3_power_2 ?_
  refine g_iload2 dX3_power_3 ?_
  refine g_iremN dX3_power_4 (by omega) (by omega) (by omega) ?_
  refine g_istore4 dX3_power_5 (by decide) ?_
  refine g_iload1 dX3_power_7 ?_
  refine g_istore5 dX3_power_8 (by decide) ?_
  exact L _ _ _ (by omega) (Nat.mod_lt _ (by omega)) (by omega) (pw_init base n m (by omega))
abbrev mX3_inverse : GM := (yX3_inverse, 1, (some .int), [], { frames := 1, cells := 0, slots := 0, locals := 25 }, 255)
theorem kX3_inverse : gCs cX3_inverse mX3_inverse 1 := ⟨q2340, q90, q2341, ⟨by decide +kernel, by decide +kernel, by decide +kernel⟩, rfl⟩
set_option maxHeartbeats 400000 in
theorem ctX3_inverse {E : GE} {h : AH} (v : Nat) (hv : v < 2147483648) : Ct E cX3_inverse mX3_inverse [.int (nI v)] (h) (pN fun r h' => r = (v ^ 1017 % 1019) ∧ h' = h) noX := by
  refine g_enter (own := "SecretVaultModel") [some (.int (nI v))] (by decide +kernel) rfl rfl (Nat.le_of_ble_eq_true rfl) rfl rfl (fun X => ?_)
  refine g_iload0 dX3_inverse_0 ?_
  refine g_sipush (nI 1017) dX3_inverse_1 (by decide) ?_
  refine g_sipush (nI 1019) dX3_inverse_4 (by decide) ?_
  refine g_S3n0 (ctX3_power _ _ _ (by omega) (by omega) (by omega)) kX3_power q2228 (by decide) ⟨rfl, rfl⟩ ⟨Nat.zero_le _, Nat.zero_le _⟩ (Nat.le_of_ble_eq_true rfl) dX3_inverse_7 (fun r_7 h_7 p_7 => ?_)
  obtain ⟨rfl, rfl⟩ := p_7
  exact g_iret dX3_inverse_10 rfl ⟨_, rfl, rfl, rfl⟩
abbrev mX3_drawn : GM := (yX3_drawn, 1, (some .int), [], { frames := 0, cells := 0, slots := 0, locals := 0 }, 255)
theorem kX3_drawn : gCv cX3_drawn mX3_drawn 0 := ⟨q2183, qs25, q90, q2184, ⟨by decide +kernel, by decide +kernel, by decide +kernel⟩, rfl⟩
set_option maxHeartbeats 400000 in
theorem ctX3_drawn {E : GE} {h : AH} {A : Nat → Nat} (hA : twA A) (M : TW)   : Ct E cX3_drawn mX3_drawn [.ref (A 0)] (twO E A M h) (pN fun r h' => r = (zN (M 1 0) / 2 ^ 16 % 1019) ∧ h' = twO E A (tset M 1 0 (zN (M 1 0))) h) noX := by
  refine g_enter (own := "SecretVaultModel") [some (.ref (A 0))] (by decide +kernel) rfl rfl (Nat.le_of_ble_eq_true rfl) rfl rfl (fun X => ?_)
  first | refine g_aload0 dX3_drawn_0 ?_ | refine g_aloadQ0 dX3_drawn_0 ?_ | refine g_aloadN0 dX3_drawn_0 ?_
  refine t_get1 hA q2099 dX3_drawn_1 ?_
  refine g_iconst (nI 0) dX3_drawn_4 (by decide) ?_
  first | refine g_aload0 dX3_drawn_5 ?_ | refine g_aloadQ0 dX3_drawn_5 ?_ | refine g_aloadN0 dX3_drawn_5 ?_
  refine t_get1 hA q2099 dX3_drawn_6 ?_
  refine g_iconst (nI 0) dX3_drawn_9 (by decide) ?_
  refine t_ald1 hA (by omega) dX3_drawn_10 ?_
  refine g_ldcN 1103515245 q2185 (by decide) dX3_drawn_11 ?_
  first | refine g_imulN dX3_drawn_13 ?_ | refine g_imul dX3_drawn_13 ?_
  refine g_sipush (nI 12345) dX3_drawn_14 (by decide) ?_
  first | refine g_iaddN dX3_drawn_17 ?_ | refine g_iadd dX3_drawn_17 ?_
  refine g_top (congrArg Value.int (nI_mod _).symm) ?_
  rw [show (M 1 0 * 1103515245 + 12345) % 4294967296 = zN (M 1 0) from rfl]
  refine t_ast1 hA (by omega) dX3_drawn_18 ?_
  first | refine g_aload0 dX3_drawn_19 ?_ | refine g_aloadQ0 dX3_drawn_19 ?_ | refine g_aloadN0 dX3_drawn_19 ?_
  refine t_get1 hA q2099 dX3_drawn_20 ?_
  refine g_iconst (nI 0) dX3_drawn_23 (by decide) ?_
  refine t_ald1 hA (by omega) dX3_drawn_24 ?_
  rw [tset_ss]
  have hz : zN (M 1 0) < 4294967296 := Nat.mod_lt _ (by decide)
  refine g_bipush (nI 16) dX3_drawn_25 (by decide) ?_
  refine g_iushrN dX3_drawn_27 (by omega) (by omega) ?_
  refine g_sipush (nI 1019) dX3_drawn_28 (by decide) ?_
  refine g_iremN dX3_drawn_31 (by omega) (by omega) (by omega) ?_
  exact g_iret dX3_drawn_32 rfl ⟨_, rfl, rfl, rfl⟩
abbrev mX3_seed : GM := (yX3_seed, 3, (some .int), [], { frames := 1, cells := 0, slots := 0, locals := 21 }, 255)
theorem kX3_seed : gCv cX3_seed mX3_seed 1 := ⟨q2170, q2171, q90, q2172, ⟨by decide +kernel, by decide +kernel, by decide +kernel⟩, rfl⟩
set_option maxHeartbeats 400000 in
theorem ctX3_seed {E : GE} {h : AH} {A : Nat → Nat} (hA : twA A) (M : TW) (z : Nat)  : Ct E cX3_seed mX3_seed [.ref (A 0), .int (nI z)] (twO E A M h) (pN fun r h' => r = (M 1 0) ∧ h' = twO E A (tset (tset M 1 0 z) 0 0 0) h) noX := by
  refine g_enter (own := "SecretVaultModel") [some (.ref (A 0)), some (.int (nI z)), none] (by decide +kernel) rfl rfl (Nat.le_of_ble_eq_true rfl) rfl rfl (fun X => ?_)
  first | refine g_aload0 dX3_seed_0 ?_ | refine g_aloadQ0 dX3_seed_0 ?_ | refine g_aloadN0 dX3_seed_0 ?_
  refine t_get1 hA q2099 dX3_seed_1 ?_
  refine g_iconst (nI 0) dX3_seed_4 (by decide) ?_
  refine t_ald1 hA (by omega) dX3_seed_5 ?_
  refine g_istore2 dX3_seed_6 (by decide) ?_
  first | refine g_aload0 dX3_seed_7 ?_ | refine g_aloadQ0 dX3_seed_7 ?_ | refine g_aloadN0 dX3_seed_7 ?_
  refine t_get1 hA q2099 dX3_seed_8 ?_
  refine g_iconst (nI 0) dX3_seed_11 (by decide) ?_
  refine g_iload1 dX3_seed_12 ?_
  refine t_ast1 hA (by omega) dX3_seed_13 ?_
  first | refine g_aload0 dX3_seed_14 ?_ | refine g_aloadQ0 dX3_seed_14 ?_ | refine g_aloadN0 dX3_seed_14 ?_
  refine g_iload2 dX3_seed_15 ?_
  refine g_V1n0 (ctX3_done hA _ _) kX3_done q2173 tw_0 rfl rfl (by decide) ⟨rfl, rfl⟩ ⟨Nat.zero_le _, Nat.zero_le _⟩ (Nat.le_of_ble_eq_true rfl) dX3_seed_16 (fun r_16 h_16 p_16 => ?_)
  obtain ⟨rfl, rfl⟩ := p_16
  exact g_iret dX3_seed_19 rfl ⟨_, rfl, rfl, rfl⟩
abbrev mX3_draw : GM := (yX3_draw, 1, (some .int), [], { frames := 1, cells := 0, slots := 0, locals := 21 }, 255)
theorem kX3_draw : gCv cX3_draw mX3_draw 0 := ⟨q2178, q2179, q90, q2180, ⟨by decide +kernel, by decide +kernel, by decide +kernel⟩, rfl⟩
set_option maxHeartbeats 400000 in
theorem ctX3_draw {E : GE} {h : AH} {A : Nat → Nat} (hA : twA A) (M : TW)   : Ct E cX3_draw mX3_draw [.ref (A 0)] (twO E A M h) (pN fun r h' => r = (zN (M 1 0) / 2 ^ 16 % 1019) ∧ h' = twO E A (tset (tset M 1 0 (zN (M 1 0))) 0 0 0) h) noX := by
  refine g_enter (own := "SecretVaultModel") [some (.ref (A 0))] (by decide +kernel) rfl rfl (Nat.le_of_ble_eq_true rfl) rfl rfl (fun X => ?_)
  first | refine g_aload0 dX3_draw_0 ?_ | refine g_aloadQ0 dX3_draw_0 ?_ | refine g_aloadN0 dX3_draw_0 ?_
  first | refine g_aload0 dX3_draw_1 ?_ | refine g_aloadQ0 dX3_draw_1 ?_ | refine g_aloadN0 dX3_draw_1 ?_
  refine g_V0n0 (ctX3_drawn hA _) kX3_drawn q2181 tw_0 rfl rfl (by decide) ⟨rfl, rfl⟩ ⟨Nat.zero_le _, Nat.zero_le _⟩ (Nat.le_of_ble_eq_true rfl) dX3_draw_2 (fun r_2 h_2 p_2 => ?_)
  obtain ⟨rfl, rfl⟩ := p_2
  refine g_V1n0 (ctX3_done hA _ _) kX3_done q2173 tw_0 rfl rfl (by decide) ⟨rfl, rfl⟩ ⟨Nat.zero_le _, Nat.zero_le _⟩ (Nat.le_of_ble_eq_true rfl) dX3_draw_5 (fun r_5 h_5 p_5 => ?_)
  obtain ⟨rfl, rfl⟩ := p_5
  exact g_iret dX3_draw_8 rfl ⟨_, rfl, rfl, rfl⟩
