/-! THE TWIN: what is appended, shares that are read, a secret's numbers -/
set_option maxRecDepth 100000
/-- the i-th byte of four, the highest first -/
def apB (p i : Nat) : Nat := p / 2 ^ (24 - 8 * i) % 256
def apN (p : Nat) : Nat → Nat
  | 0 => 0
  | i + 1 => apN p i + (if apB p i = 0 then 0 else 1)
/-- 1: the first i bytes may be appended -/
def apO (p : Nat) : Nat → Nat
  | 0 => 1
  | i + 1 => if apO p i = 1 ∧ (apB p i = 0 ∨ (33 ≤ apB p i ∧ apB p i ≤ 126)) then 1 else 0
def tTa (M : TW) (p : Nat) : Nat → TW
  | 0 => M
  | i + 1 => if apB p i = 0 then tTa M p i else tset (tset (tTa M p i) 14 (tTa M p i 0 15) (apB p i)) 0 15 (tTa M p i 0 15 + 1)
theorem apN_mono (p i n : Nat) : apN p i ≤ apN p (i + n) := by
  induction n with
  | zero => exact Nat.le_refl _
  | succ n ih =>
    show _ ≤ apN p (i + n + 1)
    rw [apN]
    omega
theorem apN_le (p i : Nat) : apN p i ≤ i := by
  induction i with
  | zero => exact Nat.le_refl _
  | succ i ih =>
    rw [apN]
    split <;> omega
theorem apO_down (p i n : Nat) (h : ¬ apO p i = 1) : ¬ apO p (i + n) = 1 := by
  induction n with
  | zero => exact h
  | succ n ih =>
    show ¬ apO p (i + n + 1) = 1
    rw [apO, if_neg (fun z => ih z.1)]
    decide
theorem tTa_15 (M : TW) (p i : Nat) : tTa M p i 0 15 = M 0 15 + apN p i := by
  induction i with
  | zero => rfl
  | succ i ih =>
    rw [tTa, apN]
    split
    · exact ih
    · rw [tset_ss, ih]
      omega
theorem apB_lt (p i : Nat) : apB p i < 256 := Nat.mod_lt _ (by decide)
/-- the sign at a place of a tape; 0 behind its end -/
def hrF (t : Nat → Nat) (n x : Nat) : Nat := if x < n then t x else 0
/-- digits read from f on: how many, the number -/
def rnS (t : Nat → Nat) (n f : Nat) : Nat → Nat → Nat → Nat × Nat
  | 0, k, v => (k, v)
  | u + 1, k, v => if (48 ≤ hrF t n (f + k) ∧ hrF t n (f + k) ≤ 57) ∧ (k = 0 ∨ 0 < v) then rnS t n f u (k + 1) (10 * v + hrF t n (f + k) - 48) else (k, v)
def rnK (t : Nat → Nat) (n f : Nat) : Nat := (rnS t n f 4 0 0).1
def rnV (t : Nat → Nat) (n f : Nat) : Nat := (rnS t n f 4 0 0).2
abbrev rnOk (t : Nat → Nat) (n f lo hi : Nat) : Prop := ¬ rnK t n f = 0 ∧ lo ≤ rnV t n f ∧ rnV t n f ≤ hi
def rnA (t : Nat → Nat) (n f lo hi : Nat) : Nat := if rnOk t n f lo hi then f + rnK t n f else f
def tRN (M : TW) (v a : Nat) : TW := fun b => if b = 0 then (fun i => if i = 18 then v else if i = 17 then a else M 0 i) else M b
theorem tRN_v (M : TW) (v a v' : Nat) : tset (tRN M v a) 0 18 v' = tRN M v' a := by
  funext b i
  unfold tset tRN nup
  by_cases h : b = 0
  · subst h
    simp only [if_true]
    by_cases h1 : i = 18
    · rw [if_pos h1, if_pos h1]
    · rw [if_neg h1, if_neg h1, if_neg h1]
  · simp only [if_neg h]
theorem tRN_a (M : TW) (v a a' : Nat) : tset (tRN M v a) 0 17 a' = tRN M v a' := by
  funext b i
  unfold tset tRN nup
  by_cases h : b = 0
  · subst h
    simp only [if_true]
    by_cases h1 : i = 17
    · subst h1
      simp
    · rw [if_neg h1]
      simp only [if_neg h1]
  · simp only [if_neg h]
theorem tRN_0 (M : TW) : tset M 0 18 0 = tRN M 0 (M 0 17) := by
  funext b i
  unfold tset tRN nup
  by_cases h : b = 0
  · subst h
    simp only [if_true]
    by_cases h1 : i = 18
    · rw [if_pos h1, if_pos h1]
    · rw [if_neg h1, if_neg h1]
      by_cases h2 : i = 17
      · subst h2
        simp
      · rw [if_neg h2]
  · simp only [if_neg h]
/-- what the tape must be: not longer than it may, its signs printable -/
def tpW (M : TW) : Prop := M 0 15 ≤ 40 ∧ ∀ i, i < M 0 15 → 33 ≤ M 14 i ∧ M 14 i ≤ 126
theorem hrF_lt {M : TW} (h : tpW M) (x : Nat) : hrF (M 14) (M 0 15) x ≤ 126 := by
  unfold hrF
  split
  · exact (h.2 _ (by assumption)).2
  · omega
abbrev mX3_append : GM := (yX3_append, 5, (some .int), [], { frames := 1, cells := 0, slots := 0, locals := 22 }, 255)
theorem kX3_append : gCv cX3_append mX3_append 1 := ⟨q2413, q2414, q90, q2415, ⟨by decide +kernel, by decide +kernel, by decide +kernel⟩, rfl⟩
def xc_append (M : TW) (p : Nat) : Nat := if ¬ apO p 4 = 1 then 1 else if 40 < M 0 15 + apN p 4 then 2 else 0
def xv_append (M : TW) (p : Nat) : Nat := M 0 15 + apN p 4
def xm_append (M : TW) (p : Nat) : TW := if apO p 4 = 1 ∧ M 0 15 + apN p 4 ≤ 40 then tTa M p 4 else M
set_option maxHeartbeats 400000 in
theorem ctX3_append {E : GE} {h : AH} {A : Nat → Nat} (hA : twA A) (M : TW) (p : Nat) (hp : p < 4294967296) (hT : tpW M) : Ct E cX3_append mX3_append [.ref (A 0), .int (nI p)] (twO E A M h) (pN fun r h' => tEnd E A h (xc_append M p ) (xv_append M p ) (xm_append M p ) r h') noX := by
  refine g_enter (own := "SecretVaultModel") [some (.ref (A 0)), some (.int (nI p)), none, none, none] (by decide +kernel) rfl rfl (Nat.le_of_ble_eq_true rfl) rfl rfl (fun X => ?_)
  have hT1 := hT.1
  have hNm : ∀ i, i ≤ 4 → apN p i ≤ apN p 4 := fun i hi => by have z := apN_mono p i (4 - i); rwa [show i + (4 - i) = 4 by omega] at z
  have h44 := apN_le p 4
  have K0 : ∀ o, apO p 4 = 1 → M 0 15 + apN p 4 ≤ 40 → V E cX3_append "SecretVaultModel" mX3_append (pN fun r h' => tEnd E A h (xc_append M p ) (xv_append M p ) (xm_append M p ) r h') noX X (twO E A (tTa M p 4) h) 0 0 80 [some (.ref (A 0)), some (.int (nI (p))), some (.int (nI (apN p 4))), some (.int (nI 0 + Int32.ofInt (-8))), o] [] := by
    intro o hO hT
    have e := tTa_15 M p 4
    refine g_iload3 dX3_append_80 ?_
    first | refine g_ifN_lt (tgt := 126) dX3_append_81 (by decide) (by first | omega | exact hB _ _ | (split <;> omega)) (fun c_81 => ?_) (fun c_81 => ?_) | refine g_if_lt (tgt := 126) dX3_append_81 (by decide) (fun c_81 => ?_) (fun c_81 => ?_)
    · first | refine g_aload0 dX3_append_126 ?_ | refine g_aloadQ0 dX3_append_126 ?_ | refine g_aloadN0 dX3_append_126 ?_
      first | refine g_aload0 dX3_append_127 ?_ | refine g_aloadQ0 dX3_append_127 ?_ | refine g_aloadN0 dX3_append_127 ?_
      refine t_get15 hA q2112 dX3_append_128 ?_
      refine g_V1n0 (ctX3_done hA _ _) kX3_done q2173 tw_0 rfl rfl (by decide) ⟨rfl, rfl⟩ ⟨Nat.zero_le _, Nat.zero_le _⟩ (Nat.le_of_ble_eq_true rfl) dX3_append_131 (fun r_131 h_131 p_131 => ?_)
      obtain ⟨rfl, rfl⟩ := p_131
      exact g_iret dX3_append_134 rfl ⟨_, rfl, t_done (by unfold xc_append; (repeat' split) <;> omega) (by unfold xv_append; exact e) (by unfold xm_append; rw [if_pos (by omega)]; exact tSame.rf)⟩
    · exact absurd (by decide) c_81
  have K : ∀ i, 0 ≤ i → i ≤ 3 → apO p 4 = 1 → M 0 15 + apN p 4 ≤ 40 → ∀ o, V E cX3_append "SecretVaultModel" mX3_append (pN fun r h' => tEnd E A h (xc_append M p ) (xv_append M p ) (xm_append M p ) r h') noX X (twO E A (tTa M p i) h) 0 0 80 [some (.ref (A 0)), some (.int (nI (p))), some (.int (nI (apN p 4))), some (.int (nI (24 - 8 * i))), o] [] := by
    intro i h0 h1 hO hT
    refine g_for (fun i => i ≤ 3 → ∀ o, V E cX3_append "SecretVaultModel" mX3_append (pN fun r h' => tEnd E A h (xc_append M p ) (xv_append M p ) (xm_append M p ) r h') noX X (twO E A (tTa M p i) h) 0 0 80 [some (.ref (A 0)), some (.int (nI (p))), some (.int (nI (apN p 4))), some (.int (nI (24 - 8 * i))), o] []) 0 4 ?_ ?_ i h0 (by omega) h1
    · intro z; omega
    · intro i h0 hi ih h3 o
      have hb := apB_lt p i
      have hdv : p / 2 ^ (24 - 8 * i) < 4294967296 := Nat.lt_of_le_of_lt (Nat.div_le_self _ _) hp
      have e15 := tTa_15 M p i
      have hm1 := hNm (i + 1) (by omega)
      have hn1 : apN p (i + 1) = apN p i + (if apB p i = 0 then 0 else 1) := rfl
      refine g_iload3 dX3_append_80 ?_
      first | refine g_ifN_lt (tgt := 126) dX3_append_81 (by decide) (by first | omega | exact hdv) (fun c_81 => ?_) (fun c_81 => ?_) | refine g_if_lt (tgt := 126) dX3_append_81 (by decide) (fun c_81 => ?_) (fun c_81 => ?_)
      · omega
      · refine g_iload1 dX3_append_84 ?_
        refine g_iload3 dX3_append_85 ?_
        refine g_iushrN dX3_append_86 (by first | omega | exact hdv) (by first | omega | exact hdv) ?_
        refine g_sipush (nI 255) dX3_append_87 (by decide) ?_
        refine g_iand255 dX3_append_90 (by first | omega | exact hdv) ?_
        refine g_istore4 dX3_append_91 (by decide) ?_
        refine g_iload4 dX3_append_93 ?_
        rw [show p / 2 ^ (24 - 8 * i) % 256 = apB p i from rfl]
        first | refine g_ifN_eq (tgt := 120) dX3_append_95 (by decide) (by first | omega | exact hdv) (fun c_95 => ?_) (fun c_95 => ?_) | refine g_if_eq (tgt := 120) dX3_append_95 (by decide) (fun c_95 => ?_) (fun c_95 => ?_)
        · first | (have e2 : tTa M p (i + 1) = tTa M p i := by rw [tTa, if_pos (by assumption)]) | (have e2 : tTa M p (i + 1) = tset (tset (tTa M p i) 14 (tTa M p i 0 15) (apB p i)) 0 15 (tTa M p i 0 15 + 1) := by rw [tTa, if_neg (by assumption)])
          by_cases h33 : i = 3
          · subst h33
            refine g_iinc3 _ dX3_append_120 rfl (by decide) ?_
            refine g_goto (tgt := 80) dX3_append_123 (by decide) ?_
            have h9 := K0 (some (.int (nI (apB p 3)))) hO hT
            rw [e2] at h9
            exact h9
          · refine g_iincM3 8 dX3_append_120 (by decide) (by omega) (by decide) ?_
            refine g_goto (tgt := 80) dX3_append_123 (by decide) ?_
            have h9 := ih (by omega) (some (.int (nI (apB p i))))
            rw [e2, show 24 - 8 * (i + 1) = 24 - 8 * i - 8 by omega] at h9
            exact h9
        · rw [if_neg c_95] at hn1
          first | refine g_aload0 dX3_append_98 ?_ | refine g_aloadQ0 dX3_append_98 ?_ | refine g_aloadN0 dX3_append_98 ?_
          refine t_get14 hA q2111 dX3_append_99 ?_
          first | refine g_aload0 dX3_append_102 ?_ | refine g_aloadQ0 dX3_append_102 ?_ | refine g_aloadN0 dX3_append_102 ?_
          refine t_get15 hA q2112 dX3_append_103 ?_
          refine g_iload4 dX3_append_106 ?_
          refine g_i2cN dX3_append_108 (by first | omega | exact hdv) ?_
          refine t_ast14 hA (by first | omega | exact hdv) (by first | omega | exact hdv) dX3_append_109 ?_
          first | refine g_aload0 dX3_append_110 ?_ | refine g_aloadQ0 dX3_append_110 ?_ | refine g_aloadN0 dX3_append_110 ?_
          refine g_dup dX3_append_111 rfl ?_
          refine t_get15 hA q2112 dX3_append_112 ?_
          refine g_iconst (nI 1) dX3_append_115 (by decide) ?_
          first | refine g_iaddN dX3_append_116 ?_ | refine g_iadd dX3_append_116 ?_
          refine t_put15 hA q2112 dX3_append_117 ?_
          first | (have e2 : tTa M p (i + 1) = tTa M p i := by rw [tTa, if_pos (by assumption)]) | (have e2 : tTa M p (i + 1) = tset (tset (tTa M p i) 14 (tTa M p i 0 15) (apB p i)) 0 15 (tTa M p i 0 15 + 1) := by rw [tTa, if_neg (by assumption)])
          by_cases h33 : i = 3
          · subst h33
            refine g_iinc3 _ dX3_append_120 rfl (by decide) ?_
            refine g_goto (tgt := 80) dX3_append_123 (by decide) ?_
            have h9 := K0 (some (.int (nI (apB p 3)))) hO hT
            rw [e2] at h9
            exact h9
          · refine g_iincM3 8 dX3_append_120 (by decide) (by omega) (by decide) ?_
            refine g_goto (tgt := 80) dX3_append_123 (by decide) ?_
            have h9 := ih (by omega) (some (.int (nI (apB p i))))
            rw [e2, show 24 - 8 * (i + 1) = 24 - 8 * i - 8 by omega] at h9
            exact h9
  have L0 : ∀ o, apO p 4 = 1 → V E cX3_append "SecretVaultModel" mX3_append (pN fun r h' => tEnd E A h (xc_append M p ) (xv_append M p ) (xm_append M p ) r h') noX X (twO E A M h) 0 0 5 [some (.ref (A 0)), some (.int (nI (p))), some (.int (nI (apN p (4)))), some (.int (nI 0 + Int32.ofInt (-8))), o] [] := by
    intro o hO
    refine g_iload3 dX3_append_5 ?_
    first | refine g_ifN_lt (tgt := 60) dX3_append_6 (by decide) (by first | omega | exact hB _ _ | (split <;> omega)) (fun c_6 => ?_) (fun c_6 => ?_) | refine g_if_lt (tgt := 60) dX3_append_6 (by decide) (fun c_6 => ?_) (fun c_6 => ?_)
    · first | refine g_aload0 dX3_append_60 ?_ | refine g_aloadQ0 dX3_append_60 ?_ | refine g_aloadN0 dX3_append_60 ?_
      refine t_get15 hA q2112 dX3_append_61 ?_
      refine g_iload2 dX3_append_64 ?_
      first | refine g_iaddN dX3_append_65 ?_ | refine g_iadd dX3_append_65 ?_
      refine g_bipush (nI 40) dX3_append_66 (by decide) ?_
      first | refine g_icmpN_le (tgt := 77) dX3_append_68 (by decide) (by first | omega | exact hB _ _ | (split <;> omega)) (by first | omega | exact hB _ _ | (split <;> omega)) (fun c_68 => ?_) (fun c_68 => ?_) | refine g_icmp_le (tgt := 77) dX3_append_68 (by decide) (fun c_68 => ?_) (fun c_68 => ?_)
      · refine g_bipush (nI 24) dX3_append_77 (by decide) ?_
        refine g_istore3 dX3_append_79 (by decide) ?_
        exact K 0 (by omega) (by omega) hO (by omega) _
      · first | refine g_aload0 dX3_append_71 ?_ | refine g_aloadQ0 dX3_append_71 ?_ | refine g_aloadN0 dX3_append_71 ?_
        refine g_iconst (nI 2) dX3_append_72 (by decide) ?_
        refine g_V1n0 (ctX3_fails hA _ _) kX3_fails q2196 tw_0 rfl rfl (by decide) ⟨rfl, rfl⟩ ⟨Nat.zero_le _, Nat.zero_le _⟩ (Nat.le_of_ble_eq_true rfl) dX3_append_73 (fun r_73 h_73 p_73 => ?_)
        obtain ⟨rfl, rfl⟩ := p_73
        exact g_iret dX3_append_76 rfl ⟨_, rfl, t_fails (by unfold xc_append; (repeat' split) <;> omega) (by decide) (by unfold xm_append; rw [if_neg (by omega)]; exact tSame.rf)⟩
    · exact absurd (by decide) c_6
  have L : ∀ i, 0 ≤ i → i ≤ 3 → apO p i = 1 → ∀ o, V E cX3_append "SecretVaultModel" mX3_append (pN fun r h' => tEnd E A h (xc_append M p ) (xv_append M p ) (xm_append M p ) r h') noX X (twO E A M h) 0 0 5 [some (.ref (A 0)), some (.int (nI (p))), some (.int (nI (apN p (i)))), some (.int (nI (24 - 8 * i))), o] [] := by
    intro i h0 h1
    refine g_for (fun i => i ≤ 3 → apO p i = 1 → ∀ o, V E cX3_append "SecretVaultModel" mX3_append (pN fun r h' => tEnd E A h (xc_append M p ) (xv_append M p ) (xm_append M p ) r h') noX X (twO E A M h) 0 0 5 [some (.ref (A 0)), some (.int (nI (p))), some (.int (nI (apN p (i)))), some (.int (nI (24 - 8 * i))), o] []) 0 4 ?_ ?_ i h0 (by omega) h1
    · intro z; omega
    · intro i h0 hi ih h3 hO o
      have hb := apB_lt p i
      have hdv : p / 2 ^ (24 - 8 * i) < 4294967296 := Nat.lt_of_le_of_lt (Nat.div_le_self _ _) hp
      have hn1 : apN p (i + 1) = apN p i + (if apB p i = 0 then 0 else 1) := rfl
      have ho1 : apO p (i + 1) = if apO p i = 1 ∧ (apB p i = 0 ∨ (33 ≤ apB p i ∧ apB p i ≤ 126)) then 1 else 0 := rfl
      have hod := apO_down p (i + 1) (3 - i)
      rw [show i + 1 + (3 - i) = 4 by omega] at hod
      refine g_iload3 dX3_append_5 ?_
      first | refine g_ifN_lt (tgt := 60) dX3_append_6 (by decide) (by first | omega | exact hdv) (fun c_6 => ?_) (fun c_6 => ?_) | refine g_if_lt (tgt := 60) dX3_append_6 (by decide) (fun c_6 => ?_) (fun c_6 => ?_)
      · omega
      · refine g_iload1 dX3_append_9 ?_
        refine g_iload3 dX3_append_10 ?_
        refine g_iushrN dX3_append_11 (by first | omega | exact hdv) (by first | omega | exact hdv) ?_
        refine g_sipush (nI 255) dX3_append_12 (by decide) ?_
        refine g_iand255 dX3_append_15 (by first | omega | exact hdv) ?_
        refine g_istore4 dX3_append_16 (by decide) ?_
        refine g_iload4 dX3_append_18 ?_
        rw [show p / 2 ^ (24 - 8 * i) % 256 = apB p i from rfl]
        first | refine g_ifN_eq (tgt := 41) dX3_append_20 (by decide) (by first | omega | exact hdv) (fun c_20 => ?_) (fun c_20 => ?_) | refine g_if_eq (tgt := 41) dX3_append_20 (by decide) (fun c_20 => ?_) (fun c_20 => ?_)
        · refine g_iload2 dX3_append_41 ?_
          refine g_iload4 dX3_append_42 ?_
          first | refine g_ifN_eq (tgt := 51) dX3_append_44 (by decide) (by first | omega | exact hdv) (fun c_44 => ?_) (fun c_44 => ?_) | refine g_if_eq (tgt := 51) dX3_append_44 (by decide) (fun c_44 => ?_) (fun c_44 => ?_)
          · refine g_iconst (nI 0) dX3_append_51 (by decide) ?_
            first | refine g_iaddN dX3_append_52 ?_ | refine g_iadd dX3_append_52 ?_
            refine g_istore2 dX3_append_53 (by decide) ?_
            rw [if_pos (by omega)] at ho1
            first | rw [if_pos (by assumption)] at hn1 | rw [if_neg (by assumption)] at hn1
            by_cases h33 : i = 3
            · subst h33
              refine g_iinc3 _ dX3_append_54 rfl (by decide) ?_
              refine g_goto (tgt := 5) dX3_append_57 (by decide) ?_
              have h9 := L0 (some (.int (nI (apB p 3)))) ho1
              rw [hn1] at h9
              exact h9
            · refine g_iincM3 8 dX3_append_54 (by decide) (by omega) (by decide) ?_
              refine g_goto (tgt := 5) dX3_append_57 (by decide) ?_
              have h9 := ih (by omega) ho1 (some (.int (nI (apB p i))))
              rw [hn1, show 24 - 8 * (i + 1) = 24 - 8 * i - 8 by omega] at h9
              exact h9
          · omega
        · refine g_iload4 dX3_append_23 ?_
          refine g_bipush (nI 33) dX3_append_25 (by decide) ?_
          refine g_bipush (nI 126) dX3_append_27 (by decide) ?_
          refine g_S3n0 (ctX3_in _ _ _ (by omega) (by omega) (by omega)) kX3_in q2193 (by decide) ⟨rfl, rfl⟩ ⟨Nat.zero_le _, Nat.zero_le _⟩ (Nat.le_of_ble_eq_true rfl) dX3_append_29 (fun r_29 h_29 p_29 => ?_)
          obtain ⟨hr_29, hi_29, rfl⟩ := p_29
          first | refine g_ifN_ne (tgt := 41) dX3_append_32 (by decide) (by first | omega | exact hdv) (fun c_32 => ?_) (fun c_32 => ?_) | refine g_if_ne (tgt := 41) dX3_append_32 (by decide) (fun c_32 => ?_) (fun c_32 => ?_)
          · refine g_iload2 dX3_append_41 ?_
            refine g_iload4 dX3_append_42 ?_
            first | refine g_ifN_eq (tgt := 51) dX3_append_44 (by decide) (by first | omega | exact hdv) (fun c_44 => ?_) (fun c_44 => ?_) | refine g_if_eq (tgt := 51) dX3_append_44 (by decide) (fun c_44 => ?_) (fun c_44 => ?_)
            · omega
            · refine g_iconst (nI 1) dX3_append_47 (by decide) ?_
              refine g_goto (tgt := 52) dX3_append_48 (by decide) ?_
              first | refine g_iaddN dX3_append_52 ?_ | refine g_iadd dX3_append_52 ?_
              refine g_istore2 dX3_append_53 (by decide) ?_
              rw [if_pos (by omega)] at ho1
              first | rw [if_pos (by assumption)] at hn1 | rw [if_neg (by assumption)] at hn1
              by_cases h33 : i = 3
              · subst h33
                refine g_iinc3 _ dX3_append_54 rfl (by decide) ?_
                refine g_goto (tgt := 5) dX3_append_57 (by decide) ?_
                have h9 := L0 (some (.int (nI (apB p 3)))) ho1
                rw [hn1] at h9
                exact h9
              · refine g_iincM3 8 dX3_append_54 (by decide) (by omega) (by decide) ?_
                refine g_goto (tgt := 5) dX3_append_57 (by decide) ?_
                have h9 := ih (by omega) ho1 (some (.int (nI (apB p i))))
                rw [hn1, show 24 - 8 * (i + 1) = 24 - 8 * i - 8 by omega] at h9
                exact h9
          · first | refine g_aload0 dX3_append_35 ?_ | refine g_aloadQ0 dX3_append_35 ?_ | refine g_aloadN0 dX3_append_35 ?_
            refine g_iconst (nI 1) dX3_append_36 (by decide) ?_
            refine g_V1n0 (ctX3_fails hA _ _) kX3_fails q2196 tw_0 rfl rfl (by decide) ⟨rfl, rfl⟩ ⟨Nat.zero_le _, Nat.zero_le _⟩ (Nat.le_of_ble_eq_true rfl) dX3_append_37 (fun r_37 h_37 p_37 => ?_)
            obtain ⟨rfl, rfl⟩ := p_37
            exact g_iret dX3_append_40 rfl ⟨_, rfl, t_fails (by rw [if_neg (by omega)] at ho1; unfold xc_append; rw [if_pos (hod (by omega))]) (by decide) (by unfold xm_append; rw [if_neg (by rw [if_neg (by omega)] at ho1; have := hod (by omega); omega)]; exact tSame.rf)⟩
  refine g_iconst (nI 0) dX3_append_0 (by decide) ?_
  refine g_istore2 dX3_append_1 (by decide) ?_
  refine g_bipush (nI 24) dX3_append_2 (by decide) ?_
  refine g_istore3 dX3_append_4 (by decide) ?_
  exact L 0 (by omega) (by omega) rfl _
abbrev mX3_here : GM := (yX3_here, 1, (some .int), [], { frames := 0, cells := 0, slots := 0, locals := 0 }, 255)
theorem kX3_here : gCv cX3_here mX3_here 0 := ⟨q2430, qs60, q90, q2431, ⟨by decide +kernel, by decide +kernel, by decide +kernel⟩, rfl⟩
set_option maxHeartbeats 400000 in
theorem ctX3_here {E : GE} {h : AH} {A : Nat → Nat} (hA : twA A) (M : TW)  (hT : tpW M) (h17 : M 0 17 < 2147483648) : Ct E cX3_here mX3_here [.ref (A 0)] (twO E A M h) (pN fun r h' => r = (hrF (M 14) (M 0 15) (M 0 17)) ∧ h' = twO E A M h) noX := by
  refine g_enter (own := "SecretVaultModel") [some (.ref (A 0))] (by decide +kernel) rfl rfl (Nat.le_of_ble_eq_true rfl) rfl rfl (fun X => ?_)
  have hT1 := hT.1
  first | refine g_aload0 dX3_here_0 ?_ | refine g_aloadQ0 dX3_here_0 ?_ | refine g_aloadN0 dX3_here_0 ?_
  refine t_get17 hA q2114 dX3_here_1 ?_
  first | refine g_aload0 dX3_here_4 ?_ | refine g_aloadQ0 dX3_here_4 ?_ | refine g_aloadN0 dX3_here_4 ?_
  refine t_get15 hA q2112 dX3_here_5 ?_
  first | refine g_icmpN_ge (tgt := 23) dX3_here_8 (by decide) (by omega) (by omega) (fun c_8 => ?_) (fun c_8 => ?_) | refine g_icmp_ge (tgt := 23) dX3_here_8 (by decide) (fun c_8 => ?_) (fun c_8 => ?_)
  · refine g_iconst (nI 0) dX3_here_23 (by decide) ?_
    exact g_iret dX3_here_24 rfl ⟨_, rfl, by unfold hrF; first | exact (if_pos (by omega)).symm | exact (if_neg (by omega)).symm, rfl⟩
  · first | refine g_aload0 dX3_here_11 ?_ | refine g_aloadQ0 dX3_here_11 ?_ | refine g_aloadN0 dX3_here_11 ?_
    refine t_get14 hA q2111 dX3_here_12 ?_
    first | refine g_aload0 dX3_here_15 ?_ | refine g_aloadQ0 dX3_here_15 ?_ | refine g_aloadN0 dX3_here_15 ?_
    refine t_get17 hA q2114 dX3_here_16 ?_
    refine t_ald14 hA (by omega) dX3_here_19 ?_
    refine g_goto (tgt := 24) dX3_here_20 (by decide) ?_
    exact g_iret dX3_here_24 rfl ⟨_, rfl, by unfold hrF; first | exact (if_pos (by omega)).symm | exact (if_neg (by omega)).symm, rfl⟩
abbrev mX3_eats : GM := (yX3_eats, 3, (some .boolean), [], { frames := 1, cells := 0, slots := 0, locals := 20 }, 255)
theorem kX3_eats : gCv cX3_eats mX3_eats 1 := ⟨q2434, qs61, q90, q2435, ⟨by decide +kernel, by decide +kernel, by decide +kernel⟩, rfl⟩
set_option maxHeartbeats 400000 in
theorem ctX3_eats {E : GE} {h : AH} {A : Nat → Nat} (hA : twA A) (M : TW) (c : Nat) (hT : tpW M) (h17 : M 0 17 < 2147483648) (hc : c < 4294967296) : Ct E cX3_eats mX3_eats [.ref (A 0), .int (nI c)] (twO E A M h) (pN fun r h' => r < 2 ∧ (r = 1 ↔ M 0 17 < M 0 15 ∧ M 14 (M 0 17) = c) ∧ h' = twO E A (tset M 0 17 (M 0 17 + r)) h) noX := by
  refine g_enter (own := "SecretVaultModel") [some (.ref (A 0)), some (.int (nI c)), none] (by decide +kernel) rfl rfl (Nat.le_of_ble_eq_true rfl) rfl rfl (fun X => ?_)
  have hT1 := hT.1
  first | refine g_aload0 dX3_eats_0 ?_ | refine g_aloadQ0 dX3_eats_0 ?_ | refine g_aloadN0 dX3_eats_0 ?_
  refine t_get17 hA q2114 dX3_eats_1 ?_
  first | refine g_aload0 dX3_eats_4 ?_ | refine g_aloadQ0 dX3_eats_4 ?_ | refine g_aloadN0 dX3_eats_4 ?_
  refine t_get15 hA q2112 dX3_eats_5 ?_
  first | refine g_icmpN_ge (tgt := 23) dX3_eats_8 (by decide) (by omega) (by omega) (fun c_8 => ?_) (fun c_8 => ?_) | refine g_icmp_ge (tgt := 23) dX3_eats_8 (by decide) (fun c_8 => ?_) (fun c_8 => ?_)
  · refine g_iconst (nI 0) dX3_eats_23 (by decide) ?_
    refine g_istore2 dX3_eats_24 (by decide) ?_
    first | refine g_aload0 dX3_eats_25 ?_ | refine g_aloadQ0 dX3_eats_25 ?_ | refine g_aloadN0 dX3_eats_25 ?_
    refine g_dup dX3_eats_26 rfl ?_
    refine t_get17 hA q2114 dX3_eats_27 ?_
    refine g_iload2 dX3_eats_30 ?_
    first | refine g_ifN_eq (tgt := 38) dX3_eats_31 (by decide) (by omega) (fun c_31 => ?_) (fun c_31 => ?_) | refine g_if_eq (tgt := 38) dX3_eats_31 (by decide) (fun c_31 => ?_) (fun c_31 => ?_)
    · refine g_iconst (nI 0) dX3_eats_38 (by decide) ?_
      first | refine g_iaddN dX3_eats_39 ?_ | refine g_iadd dX3_eats_39 ?_
      refine t_put17 hA q2114 dX3_eats_40 ?_
      refine g_iload2 dX3_eats_43 ?_
      exact g_zret dX3_eats_44 rfl (nar_zb (by omega)) ⟨_, rfl, by omega, by omega, rfl⟩
    · omega
  · have ht := hT.2 (M 0 17) (by omega)
    have eh : hrF (M 14) (M 0 15) (M 0 17) = M 14 (M 0 17) := if_pos (by omega)
    first | refine g_aload0 dX3_eats_11 ?_ | refine g_aloadQ0 dX3_eats_11 ?_ | refine g_aloadN0 dX3_eats_11 ?_
    refine g_V0n0 (ctX3_here hA _ hT (by omega)) kX3_here q2428 tw_0 rfl rfl (by decide) ⟨rfl, rfl⟩ ⟨Nat.zero_le _, Nat.zero_le _⟩ (Nat.le_of_ble_eq_true rfl) dX3_eats_12 (fun r_12 h_12 p_12 => ?_)
    obtain ⟨rfl, rfl⟩ := p_12
    rw [eh]
    refine g_iload1 dX3_eats_15 ?_
    first | refine g_icmpN_ne (tgt := 23) dX3_eats_16 (by decide) (by omega) (by omega) (fun c_16 => ?_) (fun c_16 => ?_) | refine g_icmpU_ne (tgt := 23) dX3_eats_16 (by decide) (by omega) (by omega) (fun c_16 => ?_) (fun c_16 => ?_) | refine g_icmp_ne (tgt := 23) dX3_eats_16 (by decide) (fun c_16 => ?_) (fun c_16 => ?_)
    · refine g_iconst (nI 0) dX3_eats_23 (by decide) ?_
      refine g_istore2 dX3_eats_24 (by decide) ?_
      first | refine g_aload0 dX3_eats_25 ?_ | refine g_aloadQ0 dX3_eats_25 ?_ | refine g_aloadN0 dX3_eats_25 ?_
      refine g_dup dX3_eats_26 rfl ?_
      refine t_get17 hA q2114 dX3_eats_27 ?_
      refine g_iload2 dX3_eats_30 ?_
      first | refine g_ifN_eq (tgt := 38) dX3_eats_31 (by decide) (by omega) (fun c_31 => ?_) (fun c_31 => ?_) | refine g_if_eq (tgt := 38) dX3_eats_31 (by decide) (fun c_31 => ?_) (fun c_31 => ?_)
      · refine g_iconst (nI 0) dX3_eats_38 (by decide) ?_
        first | refine g_iaddN dX3_eats_39 ?_ | refine g_iadd dX3_eats_39 ?_
        refine t_put17 hA q2114 dX3_eats_40 ?_
        refine g_iload2 dX3_eats_43 ?_
        exact g_zret dX3_eats_44 rfl (nar_zb (by omega)) ⟨_, rfl, by omega, by omega, rfl⟩
      · omega
    · refine g_iconst (nI 1) dX3_eats_19 (by decide) ?_
      refine g_goto (tgt := 24) dX3_eats_20 (by decide) ?_
      refine g_istore2 dX3_eats_24 (by decide) ?_
      first | refine g_aload0 dX3_eats_25 ?_ | refine g_aloadQ0 dX3_eats_25 ?_ | refine g_aloadN0 dX3_eats_25 ?_
      refine g_dup dX3_eats_26 rfl ?_
      refine t_get17 hA q2114 dX3_eats_27 ?_
      refine g_iload2 dX3_eats_30 ?_
      first | refine g_ifN_eq (tgt := 38) dX3_eats_31 (by decide) (by omega) (fun c_31 => ?_) (fun c_31 => ?_) | refine g_if_eq (tgt := 38) dX3_eats_31 (by decide) (fun c_31 => ?_) (fun c_31 => ?_)
      · omega
      · refine g_iconst (nI 1) dX3_eats_34 (by decide) ?_
        refine g_goto (tgt := 39) dX3_eats_35 (by decide) ?_
        first | refine g_iaddN dX3_eats_39 ?_ | refine g_iadd dX3_eats_39 ?_
        refine t_put17 hA q2114 dX3_eats_40 ?_
        refine g_iload2 dX3_eats_43 ?_
        exact g_zret dX3_eats_44 rfl (nar_zb (by omega)) ⟨_, rfl, by omega, by omega, rfl⟩
abbrev mX3_readsNumber : GM := (yX3_readsNumber, 4, (some .boolean), [], { frames := 1, cells := 0, slots := 0, locals := 22 }, 255)
theorem kX3_readsNumber : gCv cX3_readsNumber mX3_readsNumber 2 := ⟨q2426, qs59, q90, q2427, ⟨by decide +kernel, by decide +kernel, by decide +kernel⟩, rfl⟩
set_option maxHeartbeats 400000 in
theorem ctX3_readsNumber {E : GE} {h : AH} {A : Nat → Nat} (hA : twA A) (M : TW) (lo hi : Nat) (hT : tpW M) (h17 : M 0 17 ≤ M 0 15) (hlo : lo < 2147483648) (hhi : hi < 2147483648) : Ct E cX3_readsNumber mX3_readsNumber [.ref (A 0), .int (nI lo), .int (nI hi)] (twO E A M h) (pN fun r h' => r < 2 ∧ (r = 1 ↔ rnOk (M 14) (M 0 15) (M 0 17) lo hi) ∧ h' = twO E A (tRN M (rnV (M 14) (M 0 15) (M 0 17)) (rnA (M 14) (M 0 15) (M 0 17) lo hi)) h) noX := by
  refine g_enter (own := "SecretVaultModel") [some (.ref (A 0)), some (.int (nI lo)), some (.int (nI hi)), none] (by decide +kernel) rfl rfl (Nat.le_of_ble_eq_true rfl) rfl rfl (fun X => ?_)
  have hT1 := hT.1
  have X1 : ∀ k v, k ≤ 4 → v < 10000 → rnK (M 14) (M 0 15) (M 0 17) = k → rnV (M 14) (M 0 15) (M 0 17) = v → V E cX3_readsNumber "SecretVaultModel" mX3_readsNumber (pN fun r h' => r < 2 ∧ (r = 1 ↔ rnOk (M 14) (M 0 15) (M 0 17) lo hi) ∧ h' = twO E A (tRN M (rnV (M 14) (M 0 15) (M 0 17)) (rnA (M 14) (M 0 15) (M 0 17) lo hi)) h) noX X (twO E A (tRN M v (M 0 17 + k)) h) 0 0 81 [some (.ref (A 0)), some (.int (nI (lo))), some (.int (nI (hi))), some (.int (nI (M 0 17)))] [] := by
    intro k v hk hv eK eV
    have e17 : tRN M v (M 0 17 + k) 0 17 = M 0 17 + k := rfl
    have e18 : tRN M v (M 0 17 + k) 0 18 = v := rfl
    have eO : rnOk (M 14) (M 0 15) (M 0 17) lo hi ↔ ¬ k = 0 ∧ lo ≤ v ∧ v ≤ hi := by unfold rnOk; rw [eK, eV]
    have eA1 : rnOk (M 14) (M 0 15) (M 0 17) lo hi → rnA (M 14) (M 0 15) (M 0 17) lo hi = M 0 17 + k := fun z => by unfold rnA; rw [if_pos z, eK]
    have eA0 : ¬ rnOk (M 14) (M 0 15) (M 0 17) lo hi → rnA (M 14) (M 0 15) (M 0 17) lo hi = M 0 17 := fun z => by unfold rnA; rw [if_neg z]
    first | refine g_aload0 dX3_readsNumber_81 ?_ | refine g_aloadQ0 dX3_readsNumber_81 ?_ | refine g_aloadN0 dX3_readsNumber_81 ?_
    refine t_get17 hA q2114 dX3_readsNumber_82 ?_
    refine g_iload3 dX3_readsNumber_85 ?_
    first | refine g_icmpN_ne (tgt := 91) dX3_readsNumber_86 (by decide) (by omega) (by omega) (fun c_86 => ?_) (fun c_86 => ?_) | refine g_icmpU_ne (tgt := 91) dX3_readsNumber_86 (by decide) (by omega) (by omega) (fun c_86 => ?_) (fun c_86 => ?_) | refine g_icmp_ne (tgt := 91) dX3_readsNumber_86 (by decide) (fun c_86 => ?_) (fun c_86 => ?_)
    · first | refine g_aload0 dX3_readsNumber_91 ?_ | refine g_aloadQ0 dX3_readsNumber_91 ?_ | refine g_aloadN0 dX3_readsNumber_91 ?_
      refine t_get18 hA q2115 dX3_readsNumber_92 ?_
      refine g_iload1 dX3_readsNumber_95 ?_
      refine g_iload2 dX3_readsNumber_96 ?_
      refine g_S3n0 (ctX3_in _ _ _ (by omega) (by omega) (by omega)) kX3_in q2193 (by decide) ⟨rfl, rfl⟩ ⟨Nat.zero_le _, Nat.zero_le _⟩ (Nat.le_of_ble_eq_true rfl) dX3_readsNumber_97 (fun r_97 h_97 p_97 => ?_)
      obtain ⟨hr_97, hi_97, rfl⟩ := p_97
      first | refine g_ifN_ne (tgt := 110) dX3_readsNumber_100 (by decide) (by omega) (fun c_100 => ?_) (fun c_100 => ?_) | refine g_if_ne (tgt := 110) dX3_readsNumber_100 (by decide) (fun c_100 => ?_) (fun c_100 => ?_)
      · refine g_iconst (nI 1) dX3_readsNumber_110 (by decide) ?_
        exact g_zret dX3_readsNumber_111 rfl (nar_zb (by omega)) ⟨_, rfl, by omega, by rw [eO]; omega, by rw [eV]; first | (rw [eA1 (eO.mpr (by omega))]; done) | (rw [eA0 (fun z => by have := eO.mp z; omega)]; done) | (rw [eA0 (fun z => by have := eO.mp z; omega), show k = 0 by omega, Nat.add_zero]; done)⟩
      · first | refine g_aload0 dX3_readsNumber_103 ?_ | refine g_aloadQ0 dX3_readsNumber_103 ?_ | refine g_aloadN0 dX3_readsNumber_103 ?_
        refine g_iload3 dX3_readsNumber_104 ?_
        refine t_put17 hA q2114 dX3_readsNumber_105 ?_
        rw [tRN_a]
        refine g_iconst (nI 0) dX3_readsNumber_108 (by decide) ?_
        exact g_zret dX3_readsNumber_109 rfl (nar_zb (by omega)) ⟨_, rfl, by omega, by rw [eO]; omega, by rw [eV]; first | (rw [eA1 (eO.mpr (by omega))]; done) | (rw [eA0 (fun z => by have := eO.mp z; omega)]; done) | (rw [eA0 (fun z => by have := eO.mp z; omega), show k = 0 by omega, Nat.add_zero]; done)⟩
    · refine g_iconst (nI 0) dX3_readsNumber_89 (by decide) ?_
      exact g_zret dX3_readsNumber_90 rfl (nar_zb (by omega)) ⟨_, rfl, by omega, by rw [eO]; omega, by rw [eV]; first | (rw [eA1 (eO.mpr (by omega))]; done) | (rw [eA0 (fun z => by have := eO.mp z; omega)]; done) | (rw [eA0 (fun z => by have := eO.mp z; omega), show k = 0 by omega, Nat.add_zero]; done)⟩
  have L : ∀ u k v, k + u = 4 → v < 10 ^ k → M 0 17 + k ≤ M 0 15 → rnS (M 14) (M 0 15) (M 0 17) u k v = rnS (M 14) (M 0 15) (M 0 17) 4 0 0 → V E cX3_readsNumber "SecretVaultModel" mX3_readsNumber (pN fun r h' => r < 2 ∧ (r = 1 ↔ rnOk (M 14) (M 0 15) (M 0 17) lo hi) ∧ h' = twO E A (tRN M (rnV (M 14) (M 0 15) (M 0 17)) (rnA (M 14) (M 0 15) (M 0 17) lo hi)) h) noX X (twO E A (tRN M v (M 0 17 + k)) h) 0 0 10 [some (.ref (A 0)), some (.int (nI (lo))), some (.int (nI (hi))), some (.int (nI (M 0 17)))] [] := by
    intro u
    induction u with
    | zero =>
      intro k v hk hv hl he
      obtain rfl : k = 4 := by omega
      have e17 : tRN M v (M 0 17 + 4) 0 17 = M 0 17 + 4 := rfl
      first | refine g_aload0 dX3_readsNumber_10 ?_ | refine g_aloadQ0 dX3_readsNumber_10 ?_ | refine g_aloadN0 dX3_readsNumber_10 ?_
      refine t_get17 hA q2114 dX3_readsNumber_11 ?_
      refine g_iload3 dX3_readsNumber_14 ?_
      first | refine g_isubN dX3_readsNumber_15 (by omega) ?_ | refine g_isub dX3_readsNumber_15 ?_
      refine g_iconst (nI 4) dX3_readsNumber_16 (by decide) ?_
      first | refine g_icmpN_ge (tgt := 81) dX3_readsNumber_17 (by decide) (by omega) (by omega) (fun c_17 => ?_) (fun c_17 => ?_) | refine g_icmp_ge (tgt := 81) dX3_readsNumber_17 (by decide) (fun c_17 => ?_) (fun c_17 => ?_)
      · exact X1 4 v (by omega) (by omega) (by unfold rnK; rw [← he]; rfl) (by unfold rnV; rw [← he]; rfl)
      · omega
    | succ u ih =>
      intro k v hk hv hl he
      have hp : 10 ^ (k + 1) = 10 ^ k * 10 := Nat.pow_succ ..
      have hp4 : 10 ^ k ≤ 10 ^ 3 := Nat.pow_le_pow_right (by decide) (by omega)
      have e17 : tRN M v (M 0 17 + k) 0 17 = M 0 17 + k := rfl
      have e18 : tRN M v (M 0 17 + k) 0 18 = v := rfl
      have hh := hrF_lt hT (M 0 17 + k)
      have hin : 48 ≤ hrF (M 14) (M 0 15) (M 0 17 + k) → M 0 17 + k < M 0 15 := by intro z; unfold hrF at z; split at z <;> omega
      first | refine g_aload0 dX3_readsNumber_10 ?_ | refine g_aloadQ0 dX3_readsNumber_10 ?_ | refine g_aloadN0 dX3_readsNumber_10 ?_
      refine t_get17 hA q2114 dX3_readsNumber_11 ?_
      refine g_iload3 dX3_readsNumber_14 ?_
      first | refine g_isubN dX3_readsNumber_15 (by omega) ?_ | refine g_isub dX3_readsNumber_15 ?_
      refine g_iconst (nI 4) dX3_readsNumber_16 (by decide) ?_
      first | refine g_icmpN_ge (tgt := 81) dX3_readsNumber_17 (by decide) (by omega) (by omega) (fun c_17 => ?_) (fun c_17 => ?_) | refine g_icmp_ge (tgt := 81) dX3_readsNumber_17 (by decide) (fun c_17 => ?_) (fun c_17 => ?_)
      · omega
      · first | refine g_aload0 dX3_readsNumber_20 ?_ | refine g_aloadQ0 dX3_readsNumber_20 ?_ | refine g_aloadN0 dX3_readsNumber_20 ?_
        refine g_V0n0 (ctX3_here hA _ hT (by omega)) kX3_here q2428 tw_0 rfl rfl (by decide) ⟨rfl, rfl⟩ ⟨Nat.zero_le _, Nat.zero_le _⟩ (Nat.le_of_ble_eq_true rfl) dX3_readsNumber_21 (fun r_21 h_21 p_21 => ?_)
        obtain ⟨hi0_r, rfl⟩ := p_21
        have hi_21 : r_21 = hrF (M 14) (M 0 15) (M 0 17 + k) := hi0_r
        refine g_bipush (nI 48) dX3_readsNumber_24 (by decide) ?_
        refine g_bipush (nI 57) dX3_readsNumber_26 (by decide) ?_
        refine g_S3n0 (ctX3_in _ _ _ (by omega) (by omega) (by omega)) kX3_in q2193 (by decide) ⟨rfl, rfl⟩ ⟨Nat.zero_le _, Nat.zero_le _⟩ (Nat.le_of_ble_eq_true rfl) dX3_readsNumber_28 (fun r_28 h_28 p_28 => ?_)
        obtain ⟨hr_28, hi_28, rfl⟩ := p_28
        first | refine g_ifN_eq (tgt := 81) dX3_readsNumber_31 (by decide) (by omega) (fun c_31 => ?_) (fun c_31 => ?_) | refine g_if_eq (tgt := 81) dX3_readsNumber_31 (by decide) (fun c_31 => ?_) (fun c_31 => ?_)
        · rw [rnS, if_neg (by omega)] at he
          exact X1 k v (by omega) (by omega) (by unfold rnK; rw [← he]) (by unfold rnV; rw [← he])
        · first | refine g_aload0 dX3_readsNumber_34 ?_ | refine g_aloadQ0 dX3_readsNumber_34 ?_ | refine g_aloadN0 dX3_readsNumber_34 ?_
          refine t_get17 hA q2114 dX3_readsNumber_35 ?_
          refine g_iload3 dX3_readsNumber_38 ?_
          first | refine g_icmpN_eq (tgt := 49) dX3_readsNumber_39 (by decide) (by omega) (by omega) (fun c_39 => ?_) (fun c_39 => ?_) | refine g_icmpU_eq (tgt := 49) dX3_readsNumber_39 (by decide) (by omega) (by omega) (fun c_39 => ?_) (fun c_39 => ?_) | refine g_icmp_eq (tgt := 49) dX3_readsNumber_39 (by decide) (fun c_39 => ?_) (fun c_39 => ?_)
          · first | refine g_aload0 dX3_readsNumber_49 ?_ | refine g_aloadQ0 dX3_readsNumber_49 ?_ | refine g_aloadN0 dX3_readsNumber_49 ?_
            refine g_bipush (nI 10) dX3_readsNumber_50 (by decide) ?_
            first | refine g_aload0 dX3_readsNumber_52 ?_ | refine g_aloadQ0 dX3_readsNumber_52 ?_ | refine g_aloadN0 dX3_readsNumber_52 ?_
            refine t_get18 hA q2115 dX3_readsNumber_53 ?_
            first | refine g_imulN dX3_readsNumber_56 ?_ | refine g_imul dX3_readsNumber_56 ?_
            first | refine g_aload0 dX3_readsNumber_57 ?_ | refine g_aloadQ0 dX3_readsNumber_57 ?_ | refine g_aloadN0 dX3_readsNumber_57 ?_
            refine g_V0n0 (ctX3_here hA _ hT (by omega)) kX3_here q2428 tw_0 rfl rfl (by decide) ⟨rfl, rfl⟩ ⟨Nat.zero_le _, Nat.zero_le _⟩ (Nat.le_of_ble_eq_true rfl) dX3_readsNumber_58 (fun r_58 h_58 p_58 => ?_)
            obtain ⟨hi0_r, rfl⟩ := p_58
            have hi_58 : r_58 = hrF (M 14) (M 0 15) (M 0 17 + k) := hi0_r
            first | refine g_iaddN dX3_readsNumber_61 ?_ | refine g_iadd dX3_readsNumber_61 ?_
            refine g_bipush (nI 48) dX3_readsNumber_62 (by decide) ?_
            first | refine g_isubN dX3_readsNumber_64 (by omega) ?_ | refine g_isub dX3_readsNumber_64 ?_
            refine t_put18 hA q2115 dX3_readsNumber_65 ?_
            rw [tRN_v]
            first | refine g_aload0 dX3_readsNumber_68 ?_ | refine g_aloadQ0 dX3_readsNumber_68 ?_ | refine g_aloadN0 dX3_readsNumber_68 ?_
            refine g_dup dX3_readsNumber_69 rfl ?_
            refine t_get17 hA q2114 dX3_readsNumber_70 ?_
            refine g_iconst (nI 1) dX3_readsNumber_73 (by decide) ?_
            first | refine g_iaddN dX3_readsNumber_74 ?_ | refine g_iadd dX3_readsNumber_74 ?_
            refine t_put17 hA q2114 dX3_readsNumber_75 ?_
            rw [tRN_a]
            refine g_goto (tgt := 10) dX3_readsNumber_78 (by decide) ?_
            rw [rnS, if_pos (by omega)] at he
            have h9 := ih (k + 1) (10 * v + hrF (M 14) (M 0 15) (M 0 17 + k) - 48) (by omega) (by omega) (by omega) he
            rw [hi_58]
            exact h9
          · first | refine g_aload0 dX3_readsNumber_42 ?_ | refine g_aloadQ0 dX3_readsNumber_42 ?_ | refine g_aloadN0 dX3_readsNumber_42 ?_
            refine t_get18 hA q2115 dX3_readsNumber_43 ?_
            first | refine g_ifN_le (tgt := 81) dX3_readsNumber_46 (by decide) (by omega) (fun c_46 => ?_) (fun c_46 => ?_) | refine g_if_le (tgt := 81) dX3_readsNumber_46 (by decide) (fun c_46 => ?_) (fun c_46 => ?_)
            · rw [rnS, if_neg (by omega)] at he
              exact X1 k v (by omega) (by omega) (by unfold rnK; rw [← he]) (by unfold rnV; rw [← he])
            · first | refine g_aload0 dX3_readsNumber_49 ?_ | refine g_aloadQ0 dX3_readsNumber_49 ?_ | refine g_aloadN0 dX3_readsNumber_49 ?_
              refine g_bipush (nI 10) dX3_readsNumber_50 (by decide) ?_
              first | refine g_aload0 dX3_readsNumber_52 ?_ | refine g_aloadQ0 dX3_readsNumber_52 ?_ | refine g_aloadN0 dX3_readsNumber_52 ?_
              refine t_get18 hA q2115 dX3_readsNumber_53 ?_
              first | refine g_imulN dX3_readsNumber_56 ?_ | refine g_imul dX3_readsNumber_56 ?_
              first | refine g_aload0 dX3_readsNumber_57 ?_ | refine g_aloadQ0 dX3_readsNumber_57 ?_ | refine g_aloadN0 dX3_readsNumber_57 ?_
              refine g_V0n0 (ctX3_here hA _ hT (by omega)) kX3_here q2428 tw_0 rfl rfl (by decide) ⟨rfl, rfl⟩ ⟨Nat.zero_le _, Nat.zero_le _⟩ (Nat.le_of_ble_eq_true rfl) dX3_readsNumber_58 (fun r_58 h_58 p_58 => ?_)
              obtain ⟨hi0_r, rfl⟩ := p_58
              have hi_58 : r_58 = hrF (M 14) (M 0 15) (M 0 17 + k) := hi0_r
              first | refine g_iaddN dX3_readsNumber_61 ?_ | refine g_iadd dX3_readsNumber_61 ?_
              refine g_bipush (nI 48) dX3_readsNumber_62 (by decide) ?_
              first | refine g_isubN dX3_readsNumber_64 (by omega) ?_ | refine g_isub dX3_readsNumber_64 ?_
              refine t_put18 hA q2115 dX3_readsNumber_65 ?_
              rw [tRN_v]
              first | refine g_aload0 dX3_readsNumber_68 ?_ | refine g_aloadQ0 dX3_readsNumber_68 ?_ | refine g_aloadN0 dX3_readsNumber_68 ?_
              refine g_dup dX3_readsNumber_69 rfl ?_
              refine t_get17 hA q2114 dX3_readsNumber_70 ?_
              refine g_iconst (nI 1) dX3_readsNumber_73 (by decide) ?_
              first | refine g_iaddN dX3_readsNumber_74 ?_ | refine g_iadd dX3_readsNumber_74 ?_
              refine t_put17 hA q2114 dX3_readsNumber_75 ?_
              rw [tRN_a]
              refine g_goto (tgt := 10) dX3_readsNumber_78 (by decide) ?_
              rw [rnS, if_pos (by omega)] at he
              have h9 := ih (k + 1) (10 * v + hrF (M 14) (M 0 15) (M 0 17 + k) - 48) (by omega) (by omega) (by omega) he
              rw [hi_58]
              exact h9
  first | refine g_aload0 dX3_readsNumber_0 ?_ | refine g_aloadQ0 dX3_readsNumber_0 ?_ | refine g_aloadN0 dX3_readsNumber_0 ?_
  refine t_get17 hA q2114 dX3_readsNumber_1 ?_
  refine g_istore3 dX3_readsNumber_4 (by decide) ?_
  first | refine g_aload0 dX3_readsNumber_5 ?_ | refine g_aloadQ0 dX3_readsNumber_5 ?_ | refine g_aloadN0 dX3_readsNumber_5 ?_
  refine g_iconst (nI 0) dX3_readsNumber_6 (by decide) ?_
  refine t_put18 hA q2115 dX3_readsNumber_7 ?_
  rw [tRN_0]
  exact L 4 0 0 rfl (by decide) (by omega) rfl
