/-! THE TWIN: refresh, combine, agree, bad; texts -/
set_option maxRecDepth 100000
abbrev mX3_refresh : GM := (yX3_refresh, 7, (some .int), [], { frames := 3, cells := 0, slots := 0, locals := 67 }, 255)
theorem kX3_refresh : gCv cX3_refresh mX3_refresh 1 := ⟨q2282, q2283, q90, q2284, ⟨by decide +kernel, by decide +kernel, by decide +kernel⟩, rfl⟩
def xc_refresh (M : TW) (s : Nat) : Nat := if ¬ s ≤ 3 then 1 else if gOf (M 1) s 0 = 0 then 2 else 0
def xv_refresh (M : TW) (s : Nat) : Nat := rfN (tCf M 0 (gOf (M 1) s 1)) s (gOf (M 1) s 2) 24
def xm_refresh (M : TW) (s : Nat) : TW := if s ≤ 3 ∧ ¬ gOf (M 1) s 0 = 0 then tEv (rfM M s (gOf (M 1) s 1) (gOf (M 1) s 2)) (300 + s) else M
set_option maxHeartbeats 400000 in
theorem ctX3_refresh {E : GE} {h : AH} {A : Nat → Nat} (hA : twA A) (M : TW) (s : Nat) (hW : tWF M) (hs : s < 4294967296) : Ct E cX3_refresh mX3_refresh [.ref (A 0), .int (nI s)] (twO E A M h) (pN fun r h' => tEnd E A h (xc_refresh M s ) (xv_refresh M s ) (xm_refresh M s ) r h') noX := by
  refine g_enter (own := "SecretVaultModel") [some (.ref (A 0)), some (.int (nI s)), none, none, none, none, none] (by decide +kernel) rfl rfl (Nat.le_of_ble_eq_true rfl) rfl rfl (fun X => ?_)
  have hB := hW.1
  have hs17 : M 1 17 ≤ 20 := hW.2.2.2.1
  have L3 : ∀ j, 0 ≤ j → j ≤ (gOf (M 1) s 1) → s ≤ 3 → ¬ gOf (M 1) s 0 = 0 → V E cX3_refresh "SecretVaultModel" mX3_refresh (pN fun r h' => tEnd E A h (xc_refresh M s ) (xv_refresh M s ) (xm_refresh M s ) r h') noX X (twO E A (rfC (rfP (tCf M 0 (gOf (M 1) s 1)) s (gOf (M 1) s 1) (gOf (M 1) s 2) 24) s j) h) 0 0 155 [some (.ref (A 0)), some (.int (nI (s))), some (.int (nI (0))), some (.int (nI (gOf (M 1) s 1))), some (.int (nI (gOf (M 1) s 2))), some (.int (nI (rfN (tCf M 0 (gOf (M 1) s 1)) s (gOf (M 1) s 2) 24))), some (.int (nI (j)))] [] := by
    intro j h0 h1 hs3 hh
    have hsl := hW.2.2.2.2 s (by omega)
    obtain ⟨-, hk1, hk8, hep, hcm, -, hsh⟩ := hsl
    have hk1 := hk1 (by have := (hW.2.2.2.2 s (by omega)).1; omega)
    have eg : ∀ i, 0 < i → (tCf M 0 (gOf (M 1) s 1)) 1 i = M 1 i := fun i h0 => tCf_g _ _ _ _ h0
    have hcf : ∀ j, j < (gOf (M 1) s 1) → (tCf M 0 (gOf (M 1) s 1)) 4 j < 1019 := fun j hj => by
      show (if j < (gOf (M 1) s 1) then cfF (M 1 0) 0 j else M 4 j) < 1019
      rw [if_pos hj]; exact cfF_lt _ _ _ (by decide)
    refine g_for (fun j => V E cX3_refresh "SecretVaultModel" mX3_refresh (pN fun r h' => tEnd E A h (xc_refresh M s ) (xv_refresh M s ) (xm_refresh M s ) r h') noX X (twO E A (rfC (rfP (tCf M 0 (gOf (M 1) s 1)) s (gOf (M 1) s 1) (gOf (M 1) s 2) 24) s j) h) 0 0 155 [some (.ref (A 0)), some (.int (nI (s))), some (.int (nI (0))), some (.int (nI (gOf (M 1) s 1))), some (.int (nI (gOf (M 1) s 2))), some (.int (nI (rfN (tCf M 0 (gOf (M 1) s 1)) s (gOf (M 1) s 2) 24))), some (.int (nI (j)))] []) 0 (gOf (M 1) s 1) ?_ ?_ j h0 h1
    · refine g_iload6 dX3_refresh_155 ?_
      refine g_iload3 dX3_refresh_157 ?_
      first | refine g_icmpN_ge (tgt := 204) dX3_refresh_158 (by decide) (by first | omega | exact hB _ _ | exact hBp _ _) (by first | omega | exact hB _ _ | exact hBp _ _) (fun c_158 => ?_) (fun c_158 => ?_) | refine g_icmp_ge (tgt := 204) dX3_refresh_158 (by decide) (fun c_158 => ?_) (fun c_158 => ?_)
      · first | refine g_aload0 dX3_refresh_204 ?_ | refine g_aloadQ0 dX3_refresh_204 ?_ | refine g_aloadN0 dX3_refresh_204 ?_
        refine g_iload1 dX3_refresh_205 ?_
        refine g_iconst (nI 2) dX3_refresh_206 (by decide) ?_
        refine g_iload4 dX3_refresh_207 ?_
        refine g_iconst (nI 1) dX3_refresh_209 (by decide) ?_
        first | refine g_iaddN dX3_refresh_210 ?_ | refine g_iadd dX3_refresh_210 ?_
        refine g_V3v0 (ctX3_sets hA _ _ _ _ (by omega) (by omega)) kX3_sets q2242 tw_0 rfl rfl (by decide) ⟨rfl, rfl⟩ ⟨Nat.zero_le _, Nat.zero_le _⟩ (Nat.le_of_ble_eq_true rfl) dX3_refresh_211 (fun h_211 p_211 => ?_)
        subst p_211
        have hE : tset (rfC (rfP (tCf M 0 (gOf (M 1) s 1)) s (gOf (M 1) s 1) (gOf (M 1) s 2) 24) s (gOf (M 1) s 1)) 1 (38 + 124 * s + 2) ((gOf (M 1) s 2) + 1) 1 17 ≤ 20 := by rw [tset_sn _ _ _ (by omega), rfC_far _ _ _ _ (by omega), rfP_far _ _ _ _ _ _ (by omega), tCf_g _ _ _ _ (by decide)]; exact hs17
        first | refine g_aload0 dX3_refresh_214 ?_ | refine g_aloadQ0 dX3_refresh_214 ?_ | refine g_aloadN0 dX3_refresh_214 ?_
        refine g_sipush (nI 300) dX3_refresh_215 (by decide) ?_
        refine g_iload1 dX3_refresh_218 ?_
        first | refine g_iaddN dX3_refresh_219 ?_ | refine g_iadd dX3_refresh_219 ?_
        refine g_V1v0 (ctX3_happens hA _ _ hE) kX3_happens q2269 tw_0 rfl rfl (by decide) ⟨rfl, rfl⟩ ⟨Nat.zero_le _, Nat.zero_le _⟩ (Nat.le_of_ble_eq_true rfl) dX3_refresh_220 (fun h_220 p_220 => ?_)
        subst p_220
        first | refine g_aload0 dX3_refresh_223 ?_ | refine g_aloadQ0 dX3_refresh_223 ?_ | refine g_aloadN0 dX3_refresh_223 ?_
        refine g_iload5 dX3_refresh_224 ?_
        refine g_V1n0 (ctX3_done hA _ _) kX3_done q2173 tw_0 rfl rfl (by decide) ⟨rfl, rfl⟩ ⟨Nat.zero_le _, Nat.zero_le _⟩ (Nat.le_of_ble_eq_true rfl) dX3_refresh_226 (fun r_226 h_226 p_226 => ?_)
        obtain ⟨rfl, rfl⟩ := p_226
        exact g_iret dX3_refresh_229 rfl ⟨_, rfl, t_done (by unfold xc_refresh; (repeat' split) <;> omega) (by unfold xv_refresh; rfl) (by unfold xm_refresh; rw [if_pos (by omega)]; exact tSame.rf)⟩
      · omega
    · intro j h0 hj ih
      have e4 : rfC (rfP (tCf M 0 (gOf (M 1) s 1)) s (gOf (M 1) s 1) (gOf (M 1) s 2) 24) s j 4 j = (tCf M 0 (gOf (M 1) s 1)) 4 j := by rw [rfC_n _ _ _ _ (by decide), rfP_n _ _ _ _ _ _ (by decide)]
      have e7 : (rfP (tCf M 0 (gOf (M 1) s 1)) s (gOf (M 1) s 1) (gOf (M 1) s 2) 24) 4 j = (tCf M 0 (gOf (M 1) s 1)) 4 j := by rw [rfP_n _ _ _ _ _ _ (by decide)]
      have e5 : gOf (rfC (rfP (tCf M 0 (gOf (M 1) s 1)) s (gOf (M 1) s 1) (gOf (M 1) s 2) 24) s j 1) s (3 + j) = gOf ((rfP (tCf M 0 (gOf (M 1) s 1)) s (gOf (M 1) s 1) (gOf (M 1) s 2) 24) 1) s (3 + j) := by unfold gOf; rw [rfC_far _ _ _ _ (by omega)]
      have e6 : gOf ((rfP (tCf M 0 (gOf (M 1) s 1)) s (gOf (M 1) s 1) (gOf (M 1) s 2) 24) 1) s (3 + j) = gOf (M 1) s (3 + j) := by unfold gOf; rw [rfP_far _ _ _ _ _ _ (by omega), tCf_g _ _ _ _ (by omega)]
      have hcj := hcf j hj
      have hgj := hcm j (by omega)
      have p1 : gOf (rfC (rfP (tCf M 0 (gOf (M 1) s 1)) s (gOf (M 1) s 1) (gOf (M 1) s 2) 24) s j 1) s (3 + j) * (4 ^ (rfC (rfP (tCf M 0 (gOf (M 1) s 1)) s (gOf (M 1) s 1) (gOf (M 1) s 2) 24) s j 4 j) % 2039) ≤ 2038 * 2038 := Nat.mul_le_mul (by omega) (by have := Nat.mod_lt (4 ^ (rfC (rfP (tCf M 0 (gOf (M 1) s 1)) s (gOf (M 1) s 1) (gOf (M 1) s 2) 24) s j 4 j)) (show 0 < 2039 by decide); omega)
      refine g_iload6 dX3_refresh_155 ?_
      refine g_iload3 dX3_refresh_157 ?_
      first | refine g_icmpN_ge (tgt := 204) dX3_refresh_158 (by decide) (by first | omega | exact hB _ _ | exact hBp _ _) (by first | omega | exact hB _ _ | exact hBp _ _) (fun c_158 => ?_) (fun c_158 => ?_) | refine g_icmp_ge (tgt := 204) dX3_refresh_158 (by decide) (fun c_158 => ?_) (fun c_158 => ?_)
      · omega
      · first | refine g_aload0 dX3_refresh_161 ?_ | refine g_aloadQ0 dX3_refresh_161 ?_ | refine g_aloadN0 dX3_refresh_161 ?_
        refine g_iload1 dX3_refresh_162 ?_
        refine g_iconst (nI 3) dX3_refresh_163 (by decide) ?_
        refine g_iload6 dX3_refresh_164 ?_
        first | refine g_iaddN dX3_refresh_166 ?_ | refine g_iadd dX3_refresh_166 ?_
        first | refine g_aload0 dX3_refresh_167 ?_ | refine g_aloadQ0 dX3_refresh_167 ?_ | refine g_aloadN0 dX3_refresh_167 ?_
        refine g_iload1 dX3_refresh_168 ?_
        refine g_iconst (nI 3) dX3_refresh_169 (by decide) ?_
        refine g_iload6 dX3_refresh_170 ?_
        first | refine g_iaddN dX3_refresh_172 ?_ | refine g_iadd dX3_refresh_172 ?_
        refine g_V2n0 (ctX3_of hA _ _ _ (by omega) (by omega)) kX3_of q2220 tw_0 rfl rfl (by decide) ⟨rfl, rfl⟩ ⟨Nat.zero_le _, Nat.zero_le _⟩ (Nat.le_of_ble_eq_true rfl) dX3_refresh_173 (fun r_173 h_173 p_173 => ?_)
        obtain ⟨rfl, rfl⟩ := p_173
        refine g_iconst (nI 4) dX3_refresh_176 (by decide) ?_
        first | refine g_aload0 dX3_refresh_177 ?_ | refine g_aloadQ0 dX3_refresh_177 ?_ | refine g_aloadN0 dX3_refresh_177 ?_
        refine t_get4 hA q2102 dX3_refresh_178 ?_
        refine g_iload6 dX3_refresh_181 ?_
        refine t_ald4 hA (by first | omega | exact hB _ _ | exact hBp _ _) dX3_refresh_183 ?_
        refine g_sipush (nI 2039) dX3_refresh_184 (by decide) ?_
        refine g_S3n0 (ctX3_power _ _ _ (by omega) (by omega) (by omega)) kX3_power q2228 (by decide) ⟨rfl, rfl⟩ ⟨Nat.zero_le _, Nat.zero_le _⟩ (Nat.le_of_ble_eq_true rfl) dX3_refresh_187 (fun r_187 h_187 p_187 => ?_)
        obtain ⟨rfl, rfl⟩ := p_187
        first | refine g_imulN dX3_refresh_190 ?_ | refine g_imul dX3_refresh_190 ?_
        refine g_sipush (nI 2039) dX3_refresh_191 (by decide) ?_
        refine g_iremN dX3_refresh_194 (by first | omega | exact hB _ _ | exact hBp _ _) (by first | omega | exact hB _ _ | exact hBp _ _) (by first | omega | exact hB _ _ | exact hBp _ _) ?_
        refine g_V3v0 (ctX3_sets hA _ _ _ _ (by omega) (by omega)) kX3_sets q2242 tw_0 rfl rfl (by decide) ⟨rfl, rfl⟩ ⟨Nat.zero_le _, Nat.zero_le _⟩ (Nat.le_of_ble_eq_true rfl) dX3_refresh_195 (fun h_195 p_195 => ?_)
        subst p_195
        first | refine g_iincN6 1 dX3_refresh_198 (by decide) (by decide) ?_ | refine g_iinc6 _ dX3_refresh_198 rfl (by decide) ?_
        refine g_goto (tgt := 155) dX3_refresh_201 (by decide) ?_
        rw [show rfC (rfP (tCf M 0 (gOf (M 1) s 1)) s (gOf (M 1) s 1) (gOf (M 1) s 2) 24) s (j + 1) = tset (rfC (rfP (tCf M 0 (gOf (M 1) s 1)) s (gOf (M 1) s 1) (gOf (M 1) s 2) 24) s j) 1 (38 + 124 * s + (3 + j)) (gOf (rfC (rfP (tCf M 0 (gOf (M 1) s 1)) s (gOf (M 1) s 1) (gOf (M 1) s 2) 24) s j 1) s (3 + j) * (4 ^ (rfC (rfP (tCf M 0 (gOf (M 1) s 1)) s (gOf (M 1) s 1) (gOf (M 1) s 2) 24) s j 4 j) % 2039) % 2039) from by rw [rfC, e4, e5, e7]] at ih
        exact ih
  have L2 : ∀ p, 0 ≤ p → p ≤ 24 → s ≤ 3 → ¬ gOf (M 1) s 0 = 0 → V E cX3_refresh "SecretVaultModel" mX3_refresh (pN fun r h' => tEnd E A h (xc_refresh M s ) (xv_refresh M s ) (xm_refresh M s ) r h') noX X (twO E A (rfP (tCf M 0 (gOf (M 1) s 1)) s (gOf (M 1) s 1) (gOf (M 1) s 2) p) h) 0 0 70 [some (.ref (A 0)), some (.int (nI (s))), some (.int (nI (0))), some (.int (nI (gOf (M 1) s 1))), some (.int (nI (gOf (M 1) s 2))), some (.int (nI (rfN (tCf M 0 (gOf (M 1) s 1)) s (gOf (M 1) s 2) p))), some (.int (nI (p + 1)))] [] := by
    intro p h0 h1 hs3 hh
    have hsl := hW.2.2.2.2 s (by omega)
    obtain ⟨-, hk1, hk8, hep, hcm, -, hsh⟩ := hsl
    have hk1 := hk1 (by have := (hW.2.2.2.2 s (by omega)).1; omega)
    have eg : ∀ i, 0 < i → (tCf M 0 (gOf (M 1) s 1)) 1 i = M 1 i := fun i h0 => tCf_g _ _ _ _ h0
    have hcf : ∀ j, j < (gOf (M 1) s 1) → (tCf M 0 (gOf (M 1) s 1)) 4 j < 1019 := fun j hj => by
      show (if j < (gOf (M 1) s 1) then cfF (M 1 0) 0 j else M 4 j) < 1019
      rw [if_pos hj]; exact cfF_lt _ _ _ (by decide)
    refine g_for (fun p => V E cX3_refresh "SecretVaultModel" mX3_refresh (pN fun r h' => tEnd E A h (xc_refresh M s ) (xv_refresh M s ) (xm_refresh M s ) r h') noX X (twO E A (rfP (tCf M 0 (gOf (M 1) s 1)) s (gOf (M 1) s 1) (gOf (M 1) s 2) p) h) 0 0 70 [some (.ref (A 0)), some (.int (nI (s))), some (.int (nI (0))), some (.int (nI (gOf (M 1) s 1))), some (.int (nI (gOf (M 1) s 2))), some (.int (nI (rfN (tCf M 0 (gOf (M 1) s 1)) s (gOf (M 1) s 2) p))), some (.int (nI (p + 1)))] []) 0 24 ?_ ?_ p h0 h1
    · refine g_iload6 dX3_refresh_70 ?_
      refine g_bipush (nI 24) dX3_refresh_72 (by decide) ?_
      first | refine g_icmpN_gt (tgt := 152) dX3_refresh_74 (by decide) (by first | omega | exact hB _ _ | exact hBp _ _) (by first | omega | exact hB _ _ | exact hBp _ _) (fun c_74 => ?_) (fun c_74 => ?_) | refine g_icmp_gt (tgt := 152) dX3_refresh_74 (by decide) (fun c_74 => ?_) (fun c_74 => ?_)
      · refine g_iconst (nI 0) dX3_refresh_152 (by decide) ?_
        refine g_istore6 dX3_refresh_153 (by decide) ?_
        exact L3 0 (by omega) (by omega) hs3 hh
      · omega
    · intro p h0 hp ih
      have hBp : twB (rfP (tCf M 0 (gOf (M 1) s 1)) s (gOf (M 1) s 1) (gOf (M 1) s 2) p) := twB_rfP (twB_cf hB (by decide)) (by omega)
      have eq1 : ∀ c, c < 3 → gSh (rfP (tCf M 0 (gOf (M 1) s 1)) s (gOf (M 1) s 1) (gOf (M 1) s 2) p 1) s (p + 1) c = gSh ((tCf M 0 (gOf (M 1) s 1)) 1) s (p + 1) c := fun c hc => by unfold gSh; rw [rfP_far _ _ _ _ _ _ (by omega)]
      have q0 := eq1 0 (by decide)
      have q1 := eq1 1 (by decide)
      have q2 := eq1 2 (by decide)
      have q3 : gSh ((tCf M 0 (gOf (M 1) s 1)) 1) s (p + 1) 1 = gSh (M 1) s (p + 1) 1 := by unfold gSh; rw [tCf_g _ _ _ _ (by omega)]
      have q5 : gSh ((tCf M 0 (gOf (M 1) s 1)) 1) s (p + 1) 2 = gSh (M 1) s (p + 1) 2 := by unfold gSh; rw [tCf_g _ _ _ _ (by omega)]
      have hv := (hsh (p + 1) (by omega) (by omega)).2
      have ep : rfP (tCf M 0 (gOf (M 1) s 1)) s (gOf (M 1) s 1) (gOf (M 1) s 2) p 1 (9 + (p + 1 - 1) / 3) = (tCf M 0 (gOf (M 1) s 1)) 1 (9 + (p + 1 - 1) / 3) := rfP_far _ _ _ _ _ _ (by omega)
      have hP3 : (p + 1 - 1) / 3 < 8 := by omega
      have e4 : rfP (tCf M 0 (gOf (M 1) s 1)) s (gOf (M 1) s 1) (gOf (M 1) s 2) p 4 = (tCf M 0 (gOf (M 1) s 1)) 4 := rfP_n _ _ _ _ _ _ (by decide)
      have hpo := poD_lt ((tCf M 0 (gOf (M 1) s 1)) 4) (p + 1) (gOf (M 1) s 1) 0 (by decide)
      refine g_iload6 dX3_refresh_70 ?_
      refine g_bipush (nI 24) dX3_refresh_72 (by decide) ?_
      first | refine g_icmpN_gt (tgt := 152) dX3_refresh_74 (by decide) (by first | omega | exact hB _ _ | exact hBp _ _) (by first | omega | exact hB _ _ | exact hBp _ _) (fun c_74 => ?_) (fun c_74 => ?_) | refine g_icmp_gt (tgt := 152) dX3_refresh_74 (by decide) (fun c_74 => ?_) (fun c_74 => ?_)
      · omega
      · first | refine g_aload0 dX3_refresh_77 ?_ | refine g_aloadQ0 dX3_refresh_77 ?_ | refine g_aloadN0 dX3_refresh_77 ?_
        refine g_iload6 dX3_refresh_78 ?_
        refine g_S1n0 (ctX3_owner _ (by omega)) kX3_owner q2254 (by decide) ⟨rfl, rfl⟩ ⟨Nat.zero_le _, Nat.zero_le _⟩ (Nat.le_of_ble_eq_true rfl) dX3_refresh_80 (fun r_80 h_80 p_80 => ?_)
        obtain ⟨rfl, rfl⟩ := p_80
        refine g_V1n0 (ctX3_isPresent hA _ _ hBp (by omega)) kX3_isPresent q2204 tw_0 rfl rfl (by decide) ⟨rfl, rfl⟩ ⟨Nat.zero_le _, Nat.zero_le _⟩ (Nat.le_of_ble_eq_true rfl) dX3_refresh_83 (fun r_83 h_83 p_83 => ?_)
        obtain ⟨hr_83, hi_83, rfl⟩ := p_83
        first | refine g_ifN_eq (tgt := 146) dX3_refresh_86 (by decide) (by first | omega | exact hB _ _ | exact hBp _ _) (fun c_86 => ?_) (fun c_86 => ?_) | refine g_if_eq (tgt := 146) dX3_refresh_86 (by decide) (fun c_86 => ?_) (fun c_86 => ?_)
        · first | refine g_iincN6 1 dX3_refresh_146 (by decide) (by decide) ?_ | refine g_iinc6 _ dX3_refresh_146 rfl (by decide) ?_
          refine g_goto (tgt := 70) dX3_refresh_149 (by decide) ?_
          first | rw [show rfP (tCf M 0 (gOf (M 1) s 1)) s (gOf (M 1) s 1) (gOf (M 1) s 2) (p + 1) = tShare (rfP (tCf M 0 (gOf (M 1) s 1)) s (gOf (M 1) s 1) (gOf (M 1) s 2) p) s (p + 1) ((gSh (rfP (tCf M 0 (gOf (M 1) s 1)) s (gOf (M 1) s 1) (gOf (M 1) s 2) p 1) s (p + 1) 1 + poD ((tCf M 0 (gOf (M 1) s 1)) 4) (p + 1) (gOf (M 1) s 1) 0) % 1019) ((gOf (M 1) s 2) + 1) from by rw [rfP, if_pos (by omega), q1], show rfN (tCf M 0 (gOf (M 1) s 1)) s (gOf (M 1) s 2) (p + 1) = rfN (tCf M 0 (gOf (M 1) s 1)) s (gOf (M 1) s 2) p + 1 from by rw [rfN, if_pos (by omega)]] at ih | rw [show rfP (tCf M 0 (gOf (M 1) s 1)) s (gOf (M 1) s 1) (gOf (M 1) s 2) (p + 1) = rfP (tCf M 0 (gOf (M 1) s 1)) s (gOf (M 1) s 1) (gOf (M 1) s 2) p from by rw [rfP, if_neg (by omega)], show rfN (tCf M 0 (gOf (M 1) s 1)) s (gOf (M 1) s 2) (p + 1) = rfN (tCf M 0 (gOf (M 1) s 1)) s (gOf (M 1) s 2) p + 0 from by rw [rfN, if_neg (by omega)]] at ih
          exact ih
        · first | refine g_aload0 dX3_refresh_89 ?_ | refine g_aloadQ0 dX3_refresh_89 ?_ | refine g_aloadN0 dX3_refresh_89 ?_
          refine g_iload1 dX3_refresh_90 ?_
          refine g_iload6 dX3_refresh_91 ?_
          refine g_V2n0 (ctX3_hasShare hA _ _ _ hBp (by omega) (by omega)) kX3_hasShare q2212 tw_0 rfl rfl (by decide) ⟨rfl, rfl⟩ ⟨Nat.zero_le _, Nat.zero_le _⟩ (Nat.le_of_ble_eq_true rfl) dX3_refresh_93 (fun r_93 h_93 p_93 => ?_)
          obtain ⟨hr_93, hi_93, rfl⟩ := p_93
          first | refine g_ifN_eq (tgt := 146) dX3_refresh_96 (by decide) (by first | omega | exact hB _ _ | exact hBp _ _) (fun c_96 => ?_) (fun c_96 => ?_) | refine g_if_eq (tgt := 146) dX3_refresh_96 (by decide) (fun c_96 => ?_) (fun c_96 => ?_)
          · first | refine g_iincN6 1 dX3_refresh_146 (by decide) (by decide) ?_ | refine g_iinc6 _ dX3_refresh_146 rfl (by decide) ?_
            refine g_goto (tgt := 70) dX3_refresh_149 (by decide) ?_
            first | rw [show rfP (tCf M 0 (gOf (M 1) s 1)) s (gOf (M 1) s 1) (gOf (M 1) s 2) (p + 1) = tShare (rfP (tCf M 0 (gOf (M 1) s 1)) s (gOf (M 1) s 1) (gOf (M 1) s 2) p) s (p + 1) ((gSh (rfP (tCf M 0 (gOf (M 1) s 1)) s (gOf (M 1) s 1) (gOf (M 1) s 2) p 1) s (p + 1) 1 + poD ((tCf M 0 (gOf (M 1) s 1)) 4) (p + 1) (gOf (M 1) s 1) 0) % 1019) ((gOf (M 1) s 2) + 1) from by rw [rfP, if_pos (by omega), q1], show rfN (tCf M 0 (gOf (M 1) s 1)) s (gOf (M 1) s 2) (p + 1) = rfN (tCf M 0 (gOf (M 1) s 1)) s (gOf (M 1) s 2) p + 1 from by rw [rfN, if_pos (by omega)]] at ih | rw [show rfP (tCf M 0 (gOf (M 1) s 1)) s (gOf (M 1) s 1) (gOf (M 1) s 2) (p + 1) = rfP (tCf M 0 (gOf (M 1) s 1)) s (gOf (M 1) s 1) (gOf (M 1) s 2) p from by rw [rfP, if_neg (by omega)], show rfN (tCf M 0 (gOf (M 1) s 1)) s (gOf (M 1) s 2) (p + 1) = rfN (tCf M 0 (gOf (M 1) s 1)) s (gOf (M 1) s 2) p + 0 from by rw [rfN, if_neg (by omega)]] at ih
            exact ih
          · first | refine g_aload0 dX3_refresh_99 ?_ | refine g_aloadQ0 dX3_refresh_99 ?_ | refine g_aloadN0 dX3_refresh_99 ?_
            refine g_iload1 dX3_refresh_100 ?_
            refine g_iload6 dX3_refresh_101 ?_
            refine g_iconst (nI 2) dX3_refresh_103 (by decide) ?_
            refine g_V3n0 (ctX3_shareOf hA _ _ _ _ (by omega) (by omega) (by omega)) kX3_shareOf q2216 tw_0 rfl rfl (by decide) ⟨rfl, rfl⟩ ⟨Nat.zero_le _, Nat.zero_le _⟩ (Nat.le_of_ble_eq_true rfl) dX3_refresh_104 (fun r_104 h_104 p_104 => ?_)
            obtain ⟨rfl, rfl⟩ := p_104
            refine g_iload4 dX3_refresh_107 ?_
            first | refine g_icmpN_ne (tgt := 146) dX3_refresh_109 (by decide) (by first | omega | exact hB _ _ | exact hBp _ _) (by first | omega | exact hB _ _ | exact hBp _ _) (fun c_109 => ?_) (fun c_109 => ?_) | refine g_icmpU_ne (tgt := 146) dX3_refresh_109 (by decide) (by first | omega | exact hB _ _ | exact hBp _ _) (by first | omega | exact hB _ _ | exact hBp _ _) (fun c_109 => ?_) (fun c_109 => ?_) | refine g_icmp_ne (tgt := 146) dX3_refresh_109 (by decide) (fun c_109 => ?_) (fun c_109 => ?_)
            · first | refine g_iincN6 1 dX3_refresh_146 (by decide) (by decide) ?_ | refine g_iinc6 _ dX3_refresh_146 rfl (by decide) ?_
              refine g_goto (tgt := 70) dX3_refresh_149 (by decide) ?_
              first | rw [show rfP (tCf M 0 (gOf (M 1) s 1)) s (gOf (M 1) s 1) (gOf (M 1) s 2) (p + 1) = tShare (rfP (tCf M 0 (gOf (M 1) s 1)) s (gOf (M 1) s 1) (gOf (M 1) s 2) p) s (p + 1) ((gSh (rfP (tCf M 0 (gOf (M 1) s 1)) s (gOf (M 1) s 1) (gOf (M 1) s 2) p 1) s (p + 1) 1 + poD ((tCf M 0 (gOf (M 1) s 1)) 4) (p + 1) (gOf (M 1) s 1) 0) % 1019) ((gOf (M 1) s 2) + 1) from by rw [rfP, if_pos (by omega), q1], show rfN (tCf M 0 (gOf (M 1) s 1)) s (gOf (M 1) s 2) (p + 1) = rfN (tCf M 0 (gOf (M 1) s 1)) s (gOf (M 1) s 2) p + 1 from by rw [rfN, if_pos (by omega)]] at ih | rw [show rfP (tCf M 0 (gOf (M 1) s 1)) s (gOf (M 1) s 1) (gOf (M 1) s 2) (p + 1) = rfP (tCf M 0 (gOf (M 1) s 1)) s (gOf (M 1) s 1) (gOf (M 1) s 2) p from by rw [rfP, if_neg (by omega)], show rfN (tCf M 0 (gOf (M 1) s 1)) s (gOf (M 1) s 2) (p + 1) = rfN (tCf M 0 (gOf (M 1) s 1)) s (gOf (M 1) s 2) p + 0 from by rw [rfN, if_neg (by omega)]] at ih
              exact ih
            · first | refine g_aload0 dX3_refresh_112 ?_ | refine g_aloadQ0 dX3_refresh_112 ?_ | refine g_aloadN0 dX3_refresh_112 ?_
              refine g_iload1 dX3_refresh_113 ?_
              refine g_iload6 dX3_refresh_114 ?_
              first | refine g_aload0 dX3_refresh_116 ?_ | refine g_aloadQ0 dX3_refresh_116 ?_ | refine g_aloadN0 dX3_refresh_116 ?_
              refine g_iload1 dX3_refresh_117 ?_
              refine g_iload6 dX3_refresh_118 ?_
              refine g_iconst (nI 1) dX3_refresh_120 (by decide) ?_
              refine g_V3n0 (ctX3_shareOf hA _ _ _ _ (by omega) (by omega) (by omega)) kX3_shareOf q2216 tw_0 rfl rfl (by decide) ⟨rfl, rfl⟩ ⟨Nat.zero_le _, Nat.zero_le _⟩ (Nat.le_of_ble_eq_true rfl) dX3_refresh_121 (fun r_121 h_121 p_121 => ?_)
              obtain ⟨rfl, rfl⟩ := p_121
              first | refine g_aload0 dX3_refresh_124 ?_ | refine g_aloadQ0 dX3_refresh_124 ?_ | refine g_aloadN0 dX3_refresh_124 ?_
              refine g_iload3 dX3_refresh_125 ?_
              refine g_iload6 dX3_refresh_126 ?_
              refine g_V2n0 (ctX3_polynomial hA _ _ _ (by omega) (by omega) (fun j hj => by rw [e4]; have := hcf j hj; omega)) kX3_polynomial q2261 tw_0 rfl rfl (by decide) ⟨rfl, rfl⟩ ⟨Nat.zero_le _, Nat.zero_le _⟩ (Nat.le_of_ble_eq_true rfl) dX3_refresh_128 (fun r_128 h_128 p_128 => ?_)
              obtain ⟨rfl, rfl⟩ := p_128
              rw [e4]
              first | refine g_iaddN dX3_refresh_131 ?_ | refine g_iadd dX3_refresh_131 ?_
              refine g_sipush (nI 1019) dX3_refresh_132 (by decide) ?_
              refine g_iremN dX3_refresh_135 (by first | omega | exact hB _ _ | exact hBp _ _) (by first | omega | exact hB _ _ | exact hBp _ _) (by first | omega | exact hB _ _ | exact hBp _ _) ?_
              refine g_iload4 dX3_refresh_136 ?_
              refine g_iconst (nI 1) dX3_refresh_138 (by decide) ?_
              first | refine g_iaddN dX3_refresh_139 ?_ | refine g_iadd dX3_refresh_139 ?_
              refine g_V4v0 (ctX3_setsShare hA _ _ _ _ _ (by omega) (by omega)) kX3_setsShare q2265 tw_0 rfl rfl (by decide) ⟨rfl, rfl⟩ ⟨Nat.zero_le _, Nat.zero_le _⟩ (Nat.le_of_ble_eq_true rfl) dX3_refresh_140 (fun h_140 p_140 => ?_)
              subst p_140
              first | refine g_iincN5 1 dX3_refresh_143 (by decide) (by decide) ?_ | refine g_iinc5 _ dX3_refresh_143 rfl (by decide) ?_
              first | refine g_iincN6 1 dX3_refresh_146 (by decide) (by decide) ?_ | refine g_iinc6 _ dX3_refresh_146 rfl (by decide) ?_
              refine g_goto (tgt := 70) dX3_refresh_149 (by decide) ?_
              first | rw [show rfP (tCf M 0 (gOf (M 1) s 1)) s (gOf (M 1) s 1) (gOf (M 1) s 2) (p + 1) = tShare (rfP (tCf M 0 (gOf (M 1) s 1)) s (gOf (M 1) s 1) (gOf (M 1) s 2) p) s (p + 1) ((gSh (rfP (tCf M 0 (gOf (M 1) s 1)) s (gOf (M 1) s 1) (gOf (M 1) s 2) p 1) s (p + 1) 1 + poD ((tCf M 0 (gOf (M 1) s 1)) 4) (p + 1) (gOf (M 1) s 1) 0) % 1019) ((gOf (M 1) s 2) + 1) from by rw [rfP, if_pos (by omega), q1], show rfN (tCf M 0 (gOf (M 1) s 1)) s (gOf (M 1) s 2) (p + 1) = rfN (tCf M 0 (gOf (M 1) s 1)) s (gOf (M 1) s 2) p + 1 from by rw [rfN, if_pos (by omega)]] at ih | rw [show rfP (tCf M 0 (gOf (M 1) s 1)) s (gOf (M 1) s 1) (gOf (M 1) s 2) (p + 1) = rfP (tCf M 0 (gOf (M 1) s 1)) s (gOf (M 1) s 1) (gOf (M 1) s 2) p from by rw [rfP, if_neg (by omega)], show rfN (tCf M 0 (gOf (M 1) s 1)) s (gOf (M 1) s 2) (p + 1) = rfN (tCf M 0 (gOf (M 1) s 1)) s (gOf (M 1) s 2) p + 0 from by rw [rfN, if_neg (by omega)]] at ih
              exact ih
  have L1 : ∀ j, 1 ≤ j → j ≤ (gOf (M 1) s 1) → s ≤ 3 → ¬ gOf (M 1) s 0 = 0 → V E cX3_refresh "SecretVaultModel" mX3_refresh (pN fun r h' => tEnd E A h (xc_refresh M s ) (xv_refresh M s ) (xm_refresh M s ) r h') noX X (twO E A (tCf M 0 j) h) 0 0 41 [some (.ref (A 0)), some (.int (nI (s))), some (.int (nI (0))), some (.int (nI (gOf (M 1) s 1))), some (.int (nI (gOf (M 1) s 2))), some (.int (nI (j))), none] [] := by
    intro j h0 h1 hs3 hh
    have hsl := hW.2.2.2.2 s (by omega)
    obtain ⟨-, hk1, hk8, hep, hcm, -, hsh⟩ := hsl
    have hk1 := hk1 (by have := (hW.2.2.2.2 s (by omega)).1; omega)
    have eg : ∀ i, 0 < i → (tCf M 0 (gOf (M 1) s 1)) 1 i = M 1 i := fun i h0 => tCf_g _ _ _ _ h0
    have hcf : ∀ j, j < (gOf (M 1) s 1) → (tCf M 0 (gOf (M 1) s 1)) 4 j < 1019 := fun j hj => by
      show (if j < (gOf (M 1) s 1) then cfF (M 1 0) 0 j else M 4 j) < 1019
      rw [if_pos hj]; exact cfF_lt _ _ _ (by decide)
    refine g_for (fun j => V E cX3_refresh "SecretVaultModel" mX3_refresh (pN fun r h' => tEnd E A h (xc_refresh M s ) (xv_refresh M s ) (xm_refresh M s ) r h') noX X (twO E A (tCf M 0 j) h) 0 0 41 [some (.ref (A 0)), some (.int (nI (s))), some (.int (nI (0))), some (.int (nI (gOf (M 1) s 1))), some (.int (nI (gOf (M 1) s 2))), some (.int (nI (j))), none] []) 1 (gOf (M 1) s 1) ?_ ?_ j h0 h1
    · refine g_iload5 dX3_refresh_41 ?_
      refine g_iload3 dX3_refresh_43 ?_
      first | refine g_icmpN_ge (tgt := 64) dX3_refresh_44 (by decide) (by first | omega | exact hB _ _ | exact hBp _ _) (by first | omega | exact hB _ _ | exact hBp _ _) (fun c_44 => ?_) (fun c_44 => ?_) | refine g_icmp_ge (tgt := 64) dX3_refresh_44 (by decide) (fun c_44 => ?_) (fun c_44 => ?_)
      · refine g_iconst (nI 0) dX3_refresh_64 (by decide) ?_
        refine g_istore5 dX3_refresh_65 (by decide) ?_
        refine g_iconst (nI 1) dX3_refresh_67 (by decide) ?_
        refine g_istore6 dX3_refresh_68 (by decide) ?_
        exact L2 0 (by omega) (by omega) hs3 hh
      · omega
    · intro j h0 hj ih
      refine g_iload5 dX3_refresh_41 ?_
      refine g_iload3 dX3_refresh_43 ?_
      first | refine g_icmpN_ge (tgt := 64) dX3_refresh_44 (by decide) (by first | omega | exact hB _ _ | exact hBp _ _) (by first | omega | exact hB _ _ | exact hBp _ _) (fun c_44 => ?_) (fun c_44 => ?_) | refine g_icmp_ge (tgt := 64) dX3_refresh_44 (by decide) (fun c_44 => ?_) (fun c_44 => ?_)
      · omega
      · first | refine g_aload0 dX3_refresh_47 ?_ | refine g_aloadQ0 dX3_refresh_47 ?_ | refine g_aloadN0 dX3_refresh_47 ?_
        refine t_get4 hA q2102 dX3_refresh_48 ?_
        refine g_iload5 dX3_refresh_51 ?_
        first | refine g_aload0 dX3_refresh_53 ?_ | refine g_aloadQ0 dX3_refresh_53 ?_ | refine g_aloadN0 dX3_refresh_53 ?_
        refine g_V0n0 (ctX3_drawn hA _) kX3_drawn q2181 tw_0 rfl rfl (by decide) ⟨rfl, rfl⟩ ⟨Nat.zero_le _, Nat.zero_le _⟩ (Nat.le_of_ble_eq_true rfl) dX3_refresh_54 (fun r_54 h_54 p_54 => ?_)
        obtain ⟨rfl, rfl⟩ := p_54
        refine t_ast4 hA (by first | omega | exact hB _ _ | exact hBp _ _) dX3_refresh_57 ?_
        first | refine g_iincN5 1 dX3_refresh_58 (by decide) (by decide) ?_ | refine g_iinc5 _ dX3_refresh_58 rfl (by decide) ?_
        refine g_goto (tgt := 41) dX3_refresh_61 (by decide) ?_
        rw [tCf_s _ _ _ h0]
        exact ih
  first | refine g_aload0 dX3_refresh_0 ?_ | refine g_aloadQ0 dX3_refresh_0 ?_ | refine g_aloadN0 dX3_refresh_0 ?_
  refine g_iload1 dX3_refresh_1 ?_
  refine g_V1n0 (ctX3_lacks hA _ _ hB (by omega)) kX3_lacks q2277 tw_0 rfl rfl (by decide) ⟨rfl, rfl⟩ ⟨Nat.zero_le _, Nat.zero_le _⟩ (Nat.le_of_ble_eq_true rfl) dX3_refresh_2 (fun r_2 h_2 p_2 => ?_)
  obtain ⟨hi_2, rfl⟩ := p_2
  refine g_istore2 dX3_refresh_5 (by decide) ?_
  refine g_iload2 dX3_refresh_6 ?_
  first | refine g_ifN_eq (tgt := 16) dX3_refresh_7 (by decide) (by first | omega | exact hB _ _ | exact hBp _ _) (fun c_7 => ?_) (fun c_7 => ?_) | refine g_if_eq (tgt := 16) dX3_refresh_7 (by decide) (fun c_7 => ?_) (fun c_7 => ?_)
  · first | refine g_aload0 dX3_refresh_16 ?_ | refine g_aloadQ0 dX3_refresh_16 ?_ | refine g_aloadN0 dX3_refresh_16 ?_
    refine g_iload1 dX3_refresh_17 ?_
    refine g_iconst (nI 1) dX3_refresh_18 (by decide) ?_
    refine g_V2n0 (ctX3_of hA _ _ _ (by omega) (by omega)) kX3_of q2220 tw_0 rfl rfl (by decide) ⟨rfl, rfl⟩ ⟨Nat.zero_le _, Nat.zero_le _⟩ (Nat.le_of_ble_eq_true rfl) dX3_refresh_19 (fun r_19 h_19 p_19 => ?_)
    obtain ⟨rfl, rfl⟩ := p_19
    refine g_istore3 dX3_refresh_22 (by decide) ?_
    first | refine g_aload0 dX3_refresh_23 ?_ | refine g_aloadQ0 dX3_refresh_23 ?_ | refine g_aloadN0 dX3_refresh_23 ?_
    refine g_iload1 dX3_refresh_24 ?_
    refine g_iconst (nI 2) dX3_refresh_25 (by decide) ?_
    refine g_V2n0 (ctX3_of hA _ _ _ (by omega) (by omega)) kX3_of q2220 tw_0 rfl rfl (by decide) ⟨rfl, rfl⟩ ⟨Nat.zero_le _, Nat.zero_le _⟩ (Nat.le_of_ble_eq_true rfl) dX3_refresh_26 (fun r_26 h_26 p_26 => ?_)
    obtain ⟨rfl, rfl⟩ := p_26
    refine g_istore4 dX3_refresh_29 (by decide) ?_
    first | refine g_aload0 dX3_refresh_31 ?_ | refine g_aloadQ0 dX3_refresh_31 ?_ | refine g_aloadN0 dX3_refresh_31 ?_
    refine t_get4 hA q2102 dX3_refresh_32 ?_
    refine g_iconst (nI 0) dX3_refresh_35 (by decide) ?_
    refine g_iconst (nI 0) dX3_refresh_36 (by decide) ?_
    refine t_ast4 hA (by first | omega | exact hB _ _ | exact hBp _ _) dX3_refresh_37 ?_
    refine g_iconst (nI 1) dX3_refresh_38 (by decide) ?_
    refine g_istore5 dX3_refresh_39 (by decide) ?_
    obtain rfl : r_2 = 0 := by omega
    rw [tCf_1]
    exact L1 1 (by omega) ((hW.2.2.2.2 s (by omega)).2.1 (by have := (hW.2.2.2.2 s (by omega)).1; omega)) (by omega) (by omega)
  · first | refine g_aload0 dX3_refresh_10 ?_ | refine g_aloadQ0 dX3_refresh_10 ?_ | refine g_aloadN0 dX3_refresh_10 ?_
    refine g_iload2 dX3_refresh_11 ?_
    refine g_V1n0 (ctX3_fails hA _ _) kX3_fails q2196 tw_0 rfl rfl (by decide) ⟨rfl, rfl⟩ ⟨Nat.zero_le _, Nat.zero_le _⟩ (Nat.le_of_ble_eq_true rfl) dX3_refresh_12 (fun r_12 h_12 p_12 => ?_)
    obtain ⟨rfl, rfl⟩ := p_12
    exact g_iret dX3_refresh_15 rfl ⟨_, rfl, t_fails (by unfold xc_refresh; (repeat' split) <;> omega) (by omega) (by unfold xm_refresh; rw [if_neg (by omega)]; exact tSame.rf)⟩
abbrev mX3_combine : GM := (yX3_combine, 4, (some .int), [], { frames := 4, cells := 0, slots := 0, locals := 94 }, 255)
theorem kX3_combine : gCv cX3_combine mX3_combine 2 := ⟨q2359, q2360, q90, q2361, ⟨by decide +kernel, by decide +kernel, by decide +kernel⟩, rfl⟩
def xc_combine (M : TW) (s mem : Nat) : Nat := if ¬ s ≤ 3 then 1 else if ¬ mem ≤ 255 then 2 else if gOf (M 1) s 0 = 0 then 3 else if (tlL (M 1) s mem 0 24).length < gOf (M 1) s 1 then 4 else 0
def xv_combine (M : TW) (s mem : Nat) : Nat := vaS (M 1) s (tNd M (tlL (M 1) s mem 0 24) 5) (gOf (M 1) s 1) 0 (gOf (M 1) s 1)
def xm_combine (M : TW) (s mem : Nat) : TW := M
set_option maxHeartbeats 400000 in
theorem ctX3_combine {E : GE} {h : AH} {A : Nat → Nat} (hA : twA A) (M : TW) (s mem : Nat) (hW : tWF M) (hs : s < 4294967296) (hm : mem < 4294967296) : Ct E cX3_combine mX3_combine [.ref (A 0), .int (nI s), .int (nI mem)] (twO E A M h) (pN fun r h' => tEnd E A h (xc_combine M s mem ) (xv_combine M s mem ) (xm_combine M s mem ) r h') noX := by
  refine g_enter (own := "SecretVaultModel") [some (.ref (A 0)), some (.int (nI s)), some (.int (nI mem)), none] (by decide +kernel) rfl rfl (Nat.le_of_ble_eq_true rfl) rfl rfl (fun X => ?_)
  have hB := hW.1
  first | refine g_aload0 dX3_combine_0 ?_ | refine g_aloadQ0 dX3_combine_0 ?_ | refine g_aloadN0 dX3_combine_0 ?_
  refine g_iload1 dX3_combine_1 ?_
  refine g_iload2 dX3_combine_2 ?_
  refine g_V2n0 (ctX3_lacksSet hA _ _ _ hB (by omega) (by omega)) kX3_lacksSet q2362 tw_0 rfl rfl (by decide) ⟨rfl, rfl⟩ ⟨Nat.zero_le _, Nat.zero_le _⟩ (Nat.le_of_ble_eq_true rfl) dX3_combine_3 (fun r_3 h_3 p_3 => ?_)
  obtain ⟨hi_3, rfl⟩ := p_3
  refine g_istore3 dX3_combine_6 (by decide) ?_
  refine g_iload3 dX3_combine_7 ?_
  first | refine g_ifN_eq (tgt := 17) dX3_combine_8 (by decide) (by first | omega | exact hB _ _ | (split <;> omega)) (fun c_8 => ?_) (fun c_8 => ?_) | refine g_if_eq (tgt := 17) dX3_combine_8 (by decide) (fun c_8 => ?_) (fun c_8 => ?_)
  · obtain rfl : r_3 = 0 := by omega
    have hsl := hW.2.2.2.2 s (by omega)
    have hS := hsl.P
    have hk8 := hsl.2.2.1
    have hlen := tlL_len (M 1) s mem 0 24
    have e6 : tNd M (tlL (M 1) s mem 0 24) 0 6 = (tlL (M 1) s mem 0 24).length := rfl
    have e1 : gOf (tNd M (tlL (M 1) s mem 0 24) 1) s 1 = gOf (M 1) s 1 := rfl
    first | refine g_aload0 dX3_combine_17 ?_ | refine g_aloadQ0 dX3_combine_17 ?_ | refine g_aloadN0 dX3_combine_17 ?_
    refine g_iload1 dX3_combine_18 ?_
    refine g_iload2 dX3_combine_19 ?_
    refine g_iconst (nI 0) dX3_combine_20 (by decide) ?_
    refine g_V3v0 (ctX3_tellNodes hA _ _ _ _ hB (by omega) (by omega) (by omega) hS) kX3_tellNodes q2304 tw_0 rfl rfl (by decide) ⟨rfl, rfl⟩ ⟨Nat.zero_le _, Nat.zero_le _⟩ (Nat.le_of_ble_eq_true rfl) dX3_combine_21 (fun h_21 p_21 => ?_)
    subst p_21
    first | refine g_aload0 dX3_combine_24 ?_ | refine g_aloadQ0 dX3_combine_24 ?_ | refine g_aloadN0 dX3_combine_24 ?_
    refine t_get6 hA q2104 dX3_combine_25 ?_
    first | refine g_aload0 dX3_combine_28 ?_ | refine g_aloadQ0 dX3_combine_28 ?_ | refine g_aloadN0 dX3_combine_28 ?_
    refine g_iload1 dX3_combine_29 ?_
    refine g_iconst (nI 1) dX3_combine_30 (by decide) ?_
    refine g_V2n0 (ctX3_of hA _ _ _ (by omega) (by omega)) kX3_of q2220 tw_0 rfl rfl (by decide) ⟨rfl, rfl⟩ ⟨Nat.zero_le _, Nat.zero_le _⟩ (Nat.le_of_ble_eq_true rfl) dX3_combine_31 (fun r_31 h_31 p_31 => ?_)
    obtain ⟨rfl, rfl⟩ := p_31
    first | refine g_icmpN_ge (tgt := 45) dX3_combine_34 (by decide) (by first | omega | exact hB _ _ | (split <;> omega)) (by first | omega | exact hB _ _ | (split <;> omega)) (fun c_34 => ?_) (fun c_34 => ?_) | refine g_icmp_ge (tgt := 45) dX3_combine_34 (by decide) (fun c_34 => ?_) (fun c_34 => ?_)
    · have hN : ∀ i, i < gOf (M 1) s 1 → 1 ≤ tNd M (tlL (M 1) s mem 0 24) 5 i ∧ tNd M (tlL (M 1) s mem 0 24) 5 i ≤ 24 := fun i hi => by rw [tNd_at _ _ _ (by omega)]; exact tlL_mem _ _ _ _ _ _ (List.getElem_mem _)
      first | refine g_aload0 dX3_combine_45 ?_ | refine g_aloadQ0 dX3_combine_45 ?_ | refine g_aloadN0 dX3_combine_45 ?_
      first | refine g_aload0 dX3_combine_46 ?_ | refine g_aloadQ0 dX3_combine_46 ?_ | refine g_aloadN0 dX3_combine_46 ?_
      refine g_iload1 dX3_combine_47 ?_
      first | refine g_aload0 dX3_combine_48 ?_ | refine g_aloadQ0 dX3_combine_48 ?_ | refine g_aloadN0 dX3_combine_48 ?_
      refine g_iload1 dX3_combine_49 ?_
      refine g_iconst (nI 1) dX3_combine_50 (by decide) ?_
      refine g_V2n0 (ctX3_of hA _ _ _ (by omega) (by omega)) kX3_of q2220 tw_0 rfl rfl (by decide) ⟨rfl, rfl⟩ ⟨Nat.zero_le _, Nat.zero_le _⟩ (Nat.le_of_ble_eq_true rfl) dX3_combine_51 (fun r_51 h_51 p_51 => ?_)
      obtain ⟨rfl, rfl⟩ := p_51
      refine g_iconst (nI 0) dX3_combine_54 (by decide) ?_
      refine g_V3n0 (ctX3_valueAt hA _ _ _ _ (by omega) (by omega) (by omega) hS hN) kX3_valueAt q2335 tw_0 rfl rfl (by decide) ⟨rfl, rfl⟩ ⟨Nat.zero_le _, Nat.zero_le _⟩ (Nat.le_of_ble_eq_true rfl) dX3_combine_55 (fun r_55 h_55 p_55 => ?_)
      obtain ⟨hi_55, rfl⟩ := p_55
      refine g_V1n0 (ctX3_done hA _ _) kX3_done q2173 tw_0 rfl rfl (by decide) ⟨rfl, rfl⟩ ⟨Nat.zero_le _, Nat.zero_le _⟩ (Nat.le_of_ble_eq_true rfl) dX3_combine_58 (fun r_58 h_58 p_58 => ?_)
      obtain ⟨rfl, rfl⟩ := p_58
      exact g_iret dX3_combine_61 rfl ⟨_, rfl, (by first | exact t_fails (by unfold xc_combine; (repeat' split) <;> omega) (by omega) (by unfold xm_combine; first | exact tSame.rf | exact tNd_same _ _) | exact t_done (by unfold xc_combine; (repeat' split) <;> omega) (by unfold xv_combine; exact hi_55) (by unfold xm_combine; exact tNd_same _ _))⟩
    · first | refine g_aload0 dX3_combine_37 ?_ | refine g_aloadQ0 dX3_combine_37 ?_ | refine g_aloadN0 dX3_combine_37 ?_
      refine g_iconst (nI 4) dX3_combine_38 (by decide) ?_
      refine g_V1n0 (ctX3_fails hA _ _) kX3_fails q2196 tw_0 rfl rfl (by decide) ⟨rfl, rfl⟩ ⟨Nat.zero_le _, Nat.zero_le _⟩ (Nat.le_of_ble_eq_true rfl) dX3_combine_39 (fun r_39 h_39 p_39 => ?_)
      obtain ⟨rfl, rfl⟩ := p_39
      refine g_goto (tgt := 61) dX3_combine_42 (by decide) ?_
      exact g_iret dX3_combine_61 rfl ⟨_, rfl, (by first | exact t_fails (by unfold xc_combine; (repeat' split) <;> omega) (by omega) (by unfold xm_combine; first | exact tSame.rf | exact tNd_same _ _) | exact t_done (by unfold xc_combine; (repeat' split) <;> omega) (by unfold xv_combine; exact hi_55) (by unfold xm_combine; exact tNd_same _ _))⟩
  · first | refine g_aload0 dX3_combine_11 ?_ | refine g_aloadQ0 dX3_combine_11 ?_ | refine g_aloadN0 dX3_combine_11 ?_
    refine g_iload3 dX3_combine_12 ?_
    refine g_V1n0 (ctX3_fails hA _ _) kX3_fails q2196 tw_0 rfl rfl (by decide) ⟨rfl, rfl⟩ ⟨Nat.zero_le _, Nat.zero_le _⟩ (Nat.le_of_ble_eq_true rfl) dX3_combine_13 (fun r_13 h_13 p_13 => ?_)
    obtain ⟨rfl, rfl⟩ := p_13
    exact g_iret dX3_combine_16 rfl ⟨_, rfl, (by first | exact t_fails (by unfold xc_combine; (repeat' split) <;> omega) (by omega) (by unfold xm_combine; first | exact tSame.rf | exact tNd_same _ _) | exact t_done (by unfold xc_combine; (repeat' split) <;> omega) (by unfold xv_combine; exact hi_55) (by unfold xm_combine; exact tNd_same _ _))⟩
/-- whether the shares behind the threshold lie where the first ones say, up to the k-th -/
def agF (g : Nat → Nat) (s : Nat) (nd : Nat → Nat) (K : Nat) : Nat → Nat
  | 0 => 1
  | d + 1 => if agF g s nd K d = 1 ∧ vaS g s nd K (nd (K + d)) K = gSh g s (nd (K + d)) 1 then 1 else 0
theorem agF_lt (g : Nat → Nat) (s : Nat) (nd : Nat → Nat) (K d : Nat) : agF g s nd K d < 2 := by
  cases d with
  | zero => show 1 < 2; decide
  | succ d =>
    rw [agF]
    split <;> decide
abbrev bdD (g : Nat → Nat) (s x : Nat) : Prop := gSh g s x 0 = 1 ∧ ¬ stF g s x = 0
def bdN (g : Nat → Nat) (s : Nat) : Nat → Nat
  | 0 => 0
  | x + 1 => bdN g s x + (if bdD g s (x + 1) then 1 else 0)
/-- the place of the bad share of that number among the places up to x, or 0 -/
def bdF (g : Nat → Nat) (s i : Nat) : Nat → Nat
  | 0 => 0
  | x + 1 => if bdF g s i x = 0 then (if bdD g s (x + 1) ∧ bdN g s x = i then x + 1 else 0) else bdF g s i x
theorem bdF_up (g : Nat → Nat) (s i x n : Nat) (h : bdF g s i x ≠ 0) : bdF g s i (x + n) = bdF g s i x := by
  induction n with
  | zero => rfl
  | succ n ih =>
    show bdF g s i (x + n + 1) = _
    rw [bdF, ih, if_neg h]
abbrev mX3_agree : GM := (yX3_agree, 5, (some .boolean), [], { frames := 4, cells := 0, slots := 0, locals := 94 }, 255)
theorem kX3_agree : gCv cX3_agree mX3_agree 2 := ⟨q2367, q2368, q90, q2369, ⟨by decide +kernel, by decide +kernel, by decide +kernel⟩, rfl⟩
def xc_agree (M : TW) (s mem : Nat) : Nat := if ¬ s ≤ 3 then 1 else if ¬ mem ≤ 255 then 2 else if gOf (M 1) s 0 = 0 then 3 else 0
def xv_agree (M : TW) (s mem : Nat) : Nat := agF (M 1) s (tNd M (tlL (M 1) s mem 0 24) 5) (gOf (M 1) s 1) ((tlL (M 1) s mem 0 24).length - gOf (M 1) s 1)
def xm_agree (M : TW) (s mem : Nat) : TW := M
set_option maxHeartbeats 400000 in
theorem ctX3_agree {E : GE} {h : AH} {A : Nat → Nat} (hA : twA A) (M : TW) (s mem : Nat) (hW : tWF M) (hs : s < 4294967296) (hm : mem < 4294967296) : Ct E cX3_agree mX3_agree [.ref (A 0), .int (nI s), .int (nI mem)] (twO E A M h) (pN fun r h' => tEnd E A h (xc_agree M s mem ) (xv_agree M s mem ) (xm_agree M s mem ) r h') noX := by
  refine g_enter (own := "SecretVaultModel") [some (.ref (A 0)), some (.int (nI s)), some (.int (nI mem)), none, none] (by decide +kernel) rfl rfl (Nat.le_of_ble_eq_true rfl) rfl rfl (fun X => ?_)
  have hB := hW.1
  have hBz : twB (tset M 0 0 0) := twB_set hB (by decide)
  have L : ∀ d, 0 ≤ d → d ≤ ((tlL (M 1) s mem 0 24).length - (gOf (M 1) s 1)) → s ≤ 3 → mem ≤ 255 → ¬ gOf (M 1) s 0 = 0 → V E cX3_agree "SecretVaultModel" mX3_agree (pN fun r h' => tEnd E A h (xc_agree M s mem ) (xv_agree M s mem ) (xm_agree M s mem ) r h') noX X (twO E A (tNd (tset M 0 0 0) (tlL (M 1) s mem 0 24)) h) 0 0 36 [some (.ref (A 0)), some (.int (nI (s))), some (.int (nI (mem))), some (.int (nI (agF (M 1) s (tNd M (tlL (M 1) s mem 0 24) 5) (gOf (M 1) s 1) d))), some (.int (nI ((gOf (M 1) s 1) + d)))] [] := by
    intro d h0 h1 hs3 hm2 hh
    have hsl := hW.2.2.2.2 s (by omega)
    have hS := hsl.P
    have hk8 := hsl.2.2.1
    have hlen := tlL_len (M 1) s mem 0 24
    have e6 : (tNd (tset M 0 0 0) (tlL (M 1) s mem 0 24)) 0 6 = (tlL (M 1) s mem 0 24).length := rfl
    have hnd : ∀ i, i < (tlL (M 1) s mem 0 24).length → 1 ≤ tNd M (tlL (M 1) s mem 0 24) 5 i ∧ tNd M (tlL (M 1) s mem 0 24) 5 i ≤ 24 := fun i hi => by rw [tNd_at _ _ _ hi]; exact tlL_mem _ _ _ _ _ _ (List.getElem_mem _)
    refine g_for (fun d => V E cX3_agree "SecretVaultModel" mX3_agree (pN fun r h' => tEnd E A h (xc_agree M s mem ) (xv_agree M s mem ) (xm_agree M s mem ) r h') noX X (twO E A (tNd (tset M 0 0 0) (tlL (M 1) s mem 0 24)) h) 0 0 36 [some (.ref (A 0)), some (.int (nI (s))), some (.int (nI (mem))), some (.int (nI (agF (M 1) s (tNd M (tlL (M 1) s mem 0 24) 5) (gOf (M 1) s 1) d))), some (.int (nI ((gOf (M 1) s 1) + d)))] []) 0 ((tlL (M 1) s mem 0 24).length - (gOf (M 1) s 1)) ?_ ?_ d h0 h1
    · have hag := agF_lt (M 1) s (tNd M (tlL (M 1) s mem 0 24) 5) (gOf (M 1) s 1) ((tlL (M 1) s mem 0 24).length - (gOf (M 1) s 1))
      refine g_iload4 dX3_agree_36 ?_
      first | refine g_aload0 dX3_agree_38 ?_ | refine g_aloadQ0 dX3_agree_38 ?_ | refine g_aloadN0 dX3_agree_38 ?_
      refine t_get6 hA q2104 dX3_agree_39 ?_
      first | refine g_icmpN_ge (tgt := 95) dX3_agree_42 (by decide) (by first | omega | exact hB _ _ | (split <;> omega)) (by first | omega | exact hB _ _ | (split <;> omega)) (fun c_42 => ?_) (fun c_42 => ?_) | refine g_icmp_ge (tgt := 95) dX3_agree_42 (by decide) (fun c_42 => ?_) (fun c_42 => ?_)
      · refine g_iload3 dX3_agree_95 ?_
        exact g_zret dX3_agree_96 rfl (nar_zb (by first | omega | exact hB _ _ | (split <;> omega))) ⟨_, rfl, ⟨_, rfl, by unfold xc_agree; show 0 = _; (repeat' split) <;> omega, fun _ => rfl, by unfold xm_agree; exact tSame.tr (tSame.rf.f 0 0 (by decide)) (tNd_same _ _)⟩⟩
      · omega
    · intro d h0 hd ih
      have hag := agF_lt (M 1) s (tNd M (tlL (M 1) s mem 0 24) 5) (gOf (M 1) s 1) d
      have hn1 := hnd ((gOf (M 1) s 1) + d) (by omega)
      have hN : ∀ i, i < (gOf (M 1) s 1) → 1 ≤ (tNd (tset M 0 0 0) (tlL (M 1) s mem 0 24)) 5 i ∧ (tNd (tset M 0 0 0) (tlL (M 1) s mem 0 24)) 5 i ≤ 24 := fun i hi => hnd i (by omega)
      have e1z : gOf ((tNd (tset M 0 0 0) (tlL (M 1) s mem 0 24)) 1) s 1 = gOf (M 1) s 1 := rfl
      have hn1z : 1 ≤ (tNd (tset M 0 0 0) (tlL (M 1) s mem 0 24)) 5 ((gOf (M 1) s 1) + d) ∧ (tNd (tset M 0 0 0) (tlL (M 1) s mem 0 24)) 5 ((gOf (M 1) s 1) + d) ≤ 24 := hn1
      have hv1 := vaS_lt (M 1) s (tNd M (tlL (M 1) s mem 0 24) 5) (gOf (M 1) s 1) (tNd M (tlL (M 1) s mem 0 24) 5 ((gOf (M 1) s 1) + d)) (gOf (M 1) s 1)
      have hv2 := hS.2.2 (tNd M (tlL (M 1) s mem 0 24) 5 ((gOf (M 1) s 1) + d)) hn1.1 hn1.2
      rw [show agF (M 1) s (tNd M (tlL (M 1) s mem 0 24) 5) (gOf (M 1) s 1) (d + 1) = if agF (M 1) s (tNd M (tlL (M 1) s mem 0 24) 5) (gOf (M 1) s 1) d = 1 ∧ vaS (M 1) s (tNd M (tlL (M 1) s mem 0 24) 5) (gOf (M 1) s 1) (tNd M (tlL (M 1) s mem 0 24) 5 ((gOf (M 1) s 1) + d)) (gOf (M 1) s 1) = gSh (M 1) s (tNd M (tlL (M 1) s mem 0 24) 5 ((gOf (M 1) s 1) + d)) 1 then 1 else 0 from rfl] at ih
      refine g_iload4 dX3_agree_36 ?_
      first | refine g_aload0 dX3_agree_38 ?_ | refine g_aloadQ0 dX3_agree_38 ?_ | refine g_aloadN0 dX3_agree_38 ?_
      refine t_get6 hA q2104 dX3_agree_39 ?_
      first | refine g_icmpN_ge (tgt := 95) dX3_agree_42 (by decide) (by first | omega | exact hB _ _ | (split <;> omega)) (by first | omega | exact hB _ _ | (split <;> omega)) (fun c_42 => ?_) (fun c_42 => ?_) | refine g_icmp_ge (tgt := 95) dX3_agree_42 (by decide) (fun c_42 => ?_) (fun c_42 => ?_)
      · omega
      · refine g_iload3 dX3_agree_45 ?_
        first | refine g_ifN_eq (tgt := 87) dX3_agree_46 (by decide) (by first | omega | exact hB _ _ | (split <;> omega)) (fun c_46 => ?_) (fun c_46 => ?_) | refine g_if_eq (tgt := 87) dX3_agree_46 (by decide) (fun c_46 => ?_) (fun c_46 => ?_)
        · refine g_iconst (nI 0) dX3_agree_87 (by decide) ?_
          refine g_istore3 dX3_agree_88 (by decide) ?_
          first | refine g_iincN4 1 dX3_agree_89 (by decide) (by decide) ?_ | refine g_iinc4 _ dX3_agree_89 rfl (by decide) ?_
          refine g_goto (tgt := 36) dX3_agree_92 (by decide) ?_
          first | rw [if_pos (by omega)] at ih | rw [if_neg (by omega)] at ih
          exact ih
        · first | refine g_aload0 dX3_agree_49 ?_ | refine g_aloadQ0 dX3_agree_49 ?_ | refine g_aloadN0 dX3_agree_49 ?_
          refine g_iload1 dX3_agree_50 ?_
          first | refine g_aload0 dX3_agree_51 ?_ | refine g_aloadQ0 dX3_agree_51 ?_ | refine g_aloadN0 dX3_agree_51 ?_
          refine g_iload1 dX3_agree_52 ?_
          refine g_iconst (nI 1) dX3_agree_53 (by decide) ?_
          refine g_V2n0 (ctX3_of hA _ _ _ (by omega) (by omega)) kX3_of q2220 tw_0 rfl rfl (by decide) ⟨rfl, rfl⟩ ⟨Nat.zero_le _, Nat.zero_le _⟩ (Nat.le_of_ble_eq_true rfl) dX3_agree_54 (fun r_54 h_54 p_54 => ?_)
          obtain ⟨rfl, rfl⟩ := p_54
          first | refine g_aload0 dX3_agree_57 ?_ | refine g_aloadQ0 dX3_agree_57 ?_ | refine g_aloadN0 dX3_agree_57 ?_
          refine t_get5 hA q2103 dX3_agree_58 ?_
          refine g_iload4 dX3_agree_61 ?_
          refine t_ald5 hA (by first | omega | exact hB _ _ | (split <;> omega)) dX3_agree_63 ?_
          refine g_V3n0 (ctX3_valueAt hA _ _ _ _ (by omega) (by omega) hn1z.2 hS hN) kX3_valueAt q2335 tw_0 rfl rfl (by decide) ⟨rfl, rfl⟩ ⟨Nat.zero_le _, Nat.zero_le _⟩ (Nat.le_of_ble_eq_true rfl) dX3_agree_64 (fun r_64 h_64 p_64 => ?_)
          obtain ⟨hi0_r, rfl⟩ := p_64
          have hi_64 : r_64 = vaS (M 1) s (tNd M (tlL (M 1) s mem 0 24) 5) (gOf (M 1) s 1) (tNd M (tlL (M 1) s mem 0 24) 5 ((gOf (M 1) s 1) + d)) (gOf (M 1) s 1) := hi0_r
          first | refine g_aload0 dX3_agree_67 ?_ | refine g_aloadQ0 dX3_agree_67 ?_ | refine g_aloadN0 dX3_agree_67 ?_
          refine g_iload1 dX3_agree_68 ?_
          first | refine g_aload0 dX3_agree_69 ?_ | refine g_aloadQ0 dX3_agree_69 ?_ | refine g_aloadN0 dX3_agree_69 ?_
          refine t_get5 hA q2103 dX3_agree_70 ?_
          refine g_iload4 dX3_agree_73 ?_
          refine t_ald5 hA (by first | omega | exact hB _ _ | (split <;> omega)) dX3_agree_75 ?_
          refine g_iconst (nI 1) dX3_agree_76 (by decide) ?_
          refine g_V3n0 (ctX3_shareOf hA _ _ _ _ (by omega) hn1z (by omega)) kX3_shareOf q2216 tw_0 rfl rfl (by decide) ⟨rfl, rfl⟩ ⟨Nat.zero_le _, Nat.zero_le _⟩ (Nat.le_of_ble_eq_true rfl) dX3_agree_77 (fun r_77 h_77 p_77 => ?_)
          obtain ⟨hi0_r, rfl⟩ := p_77
          have hi_77 : r_77 = gSh (M 1) s (tNd M (tlL (M 1) s mem 0 24) 5 ((gOf (M 1) s 1) + d)) 1 := hi0_r
          first | refine g_icmpN_ne (tgt := 87) dX3_agree_80 (by decide) (by first | omega | exact hB _ _ | (split <;> omega)) (by first | omega | exact hB _ _ | (split <;> omega)) (fun c_80 => ?_) (fun c_80 => ?_) | refine g_icmpU_ne (tgt := 87) dX3_agree_80 (by decide) (by first | omega | exact hB _ _ | (split <;> omega)) (by first | omega | exact hB _ _ | (split <;> omega)) (fun c_80 => ?_) (fun c_80 => ?_) | refine g_icmp_ne (tgt := 87) dX3_agree_80 (by decide) (fun c_80 => ?_) (fun c_80 => ?_)
          · refine g_iconst (nI 0) dX3_agree_87 (by decide) ?_
            refine g_istore3 dX3_agree_88 (by decide) ?_
            first | refine g_iincN4 1 dX3_agree_89 (by decide) (by decide) ?_ | refine g_iinc4 _ dX3_agree_89 rfl (by decide) ?_
            refine g_goto (tgt := 36) dX3_agree_92 (by decide) ?_
            first | rw [if_pos (by omega)] at ih | rw [if_neg (by omega)] at ih
            exact ih
          · refine g_iconst (nI 1) dX3_agree_83 (by decide) ?_
            refine g_goto (tgt := 88) dX3_agree_84 (by decide) ?_
            refine g_istore3 dX3_agree_88 (by decide) ?_
            first | refine g_iincN4 1 dX3_agree_89 (by decide) (by decide) ?_ | refine g_iinc4 _ dX3_agree_89 rfl (by decide) ?_
            refine g_goto (tgt := 36) dX3_agree_92 (by decide) ?_
            first | rw [if_pos (by omega)] at ih | rw [if_neg (by omega)] at ih
            exact ih
  first | refine g_aload0 dX3_agree_0 ?_ | refine g_aloadQ0 dX3_agree_0 ?_ | refine g_aloadN0 dX3_agree_0 ?_
  first | refine g_aload0 dX3_agree_1 ?_ | refine g_aloadQ0 dX3_agree_1 ?_ | refine g_aloadN0 dX3_agree_1 ?_
  refine g_iload1 dX3_agree_2 ?_
  refine g_iload2 dX3_agree_3 ?_
  refine g_V2n0 (ctX3_lacksSet hA _ _ _ hB (by omega) (by omega)) kX3_lacksSet q2362 tw_0 rfl rfl (by decide) ⟨rfl, rfl⟩ ⟨Nat.zero_le _, Nat.zero_le _⟩ (Nat.le_of_ble_eq_true rfl) dX3_agree_4 (fun r_4 h_4 p_4 => ?_)
  obtain ⟨hi_4, rfl⟩ := p_4
  refine t_put0 hA q2098 dX3_agree_7 ?_
  first | refine g_aload0 dX3_agree_10 ?_ | refine g_aloadQ0 dX3_agree_10 ?_ | refine g_aloadN0 dX3_agree_10 ?_
  refine t_get0 hA q2098 dX3_agree_11 ?_
  rw [tset_ss]
  first | refine g_ifN_eq (tgt := 19) dX3_agree_14 (by decide) (by first | omega | exact hB _ _ | (split <;> omega)) (fun c_14 => ?_) (fun c_14 => ?_) | refine g_if_eq (tgt := 19) dX3_agree_14 (by decide) (fun c_14 => ?_) (fun c_14 => ?_)
  · obtain rfl : r_4 = 0 := by omega
    have hsl := hW.2.2.2.2 s (by omega)
    have hS : slP (tset M 0 0 0 1) s := hsl.P
    first | refine g_aload0 dX3_agree_19 ?_ | refine g_aloadQ0 dX3_agree_19 ?_ | refine g_aloadN0 dX3_agree_19 ?_
    refine g_iload1 dX3_agree_20 ?_
    refine g_iload2 dX3_agree_21 ?_
    refine g_iconst (nI 0) dX3_agree_22 (by decide) ?_
    refine g_V3v0 (ctX3_tellNodes hA _ _ _ _ hBz (by omega) (by omega) (by omega) hS) kX3_tellNodes q2304 tw_0 rfl rfl (by decide) ⟨rfl, rfl⟩ ⟨Nat.zero_le _, Nat.zero_le _⟩ (Nat.le_of_ble_eq_true rfl) dX3_agree_23 (fun h_23 p_23 => ?_)
    subst p_23
    refine g_iconst (nI 1) dX3_agree_26 (by decide) ?_
    refine g_istore3 dX3_agree_27 (by decide) ?_
    first | refine g_aload0 dX3_agree_28 ?_ | refine g_aloadQ0 dX3_agree_28 ?_ | refine g_aloadN0 dX3_agree_28 ?_
    refine g_iload1 dX3_agree_29 ?_
    refine g_iconst (nI 1) dX3_agree_30 (by decide) ?_
    refine g_V2n0 (ctX3_of hA _ _ _ (by omega) (by omega)) kX3_of q2220 tw_0 rfl rfl (by decide) ⟨rfl, rfl⟩ ⟨Nat.zero_le _, Nat.zero_le _⟩ (Nat.le_of_ble_eq_true rfl) dX3_agree_31 (fun r_31 h_31 p_31 => ?_)
    obtain ⟨rfl, rfl⟩ := p_31
    refine g_istore4 dX3_agree_34 (by decide) ?_
    exact L 0 (by omega) (by omega) (by omega) (by omega) (by omega)
  · refine g_iconst (nI 0) dX3_agree_17 (by decide) ?_
    exact g_zret dX3_agree_18 rfl (nar_zb (by first | omega | exact hB _ _ | (split <;> omega))) ⟨_, rfl, ⟨_, rfl, by rw [tset_ss]; unfold xc_agree; (repeat' split) <;> omega, fun z => absurd z (by unfold xc_agree; (repeat' split) <;> omega), by unfold xm_agree; exact tSame.rf.f 0 _ (by decide)⟩⟩
theorem bdN_le (g : Nat → Nat) (s x : Nat) : bdN g s x ≤ x := by
  induction x with
  | zero => exact Nat.le_refl _
  | succ x ih =>
    rw [bdN]
    split <;> omega
abbrev mX3_bad : GM := (yX3_bad, 6, (some .int), [], { frames := 3, cells := 0, slots := 0, locals := 70 }, 255)
theorem kX3_bad : gCv cX3_bad mX3_bad 2 := ⟨q2437, q2438, q90, q2439, ⟨by decide +kernel, by decide +kernel, by decide +kernel⟩, rfl⟩
def xc_bad (M : TW) (s i : Nat) : Nat := if ¬ s ≤ 3 then 1 else if gOf (M 1) s 0 = 0 then 2 else if bdF (M 1) s i 24 = 0 then 2 else 0
def xv_bad (M : TW) (s i : Nat) : Nat := bdF (M 1) s i 24
def xm_bad (M : TW) (s i : Nat) : TW := M
set_option maxHeartbeats 400000 in
theorem ctX3_bad {E : GE} {h : AH} {A : Nat → Nat} (hA : twA A) (M : TW) (s i : Nat) (hW : tWF M) (hs : s < 4294967296) (hi : i < 4294967296) : Ct E cX3_bad mX3_bad [.ref (A 0), .int (nI s), .int (nI i)] (twO E A M h) (pN fun r h' => tEnd E A h (xc_bad M s i ) (xv_bad M s i ) (xm_bad M s i ) r h') noX := by
  refine g_enter (own := "SecretVaultModel") [some (.ref (A 0)), some (.int (nI s)), some (.int (nI i)), none, none, none] (by decide +kernel) rfl rfl (Nat.le_of_ble_eq_true rfl) rfl rfl (fun X => ?_)
  have hB := hW.1
  have L : ∀ x, 0 ≤ x → x ≤ 24 → s ≤ 3 → ¬ gOf (M 1) s 0 = 0 → bdF (M 1) s i x = 0 → V E cX3_bad "SecretVaultModel" mX3_bad (pN fun r h' => tEnd E A h (xc_bad M s i ) (xv_bad M s i ) (xm_bad M s i ) r h') noX X (twO E A M h) 0 0 22 [some (.ref (A 0)), some (.int (nI (s))), some (.int (nI (i))), some (.int (nI (0))), some (.int (nI (bdN (M 1) s x))), some (.int (nI (x + 1)))] [] := by
    intro x h0 h1 hs3 hh
    have hsl := hW.2.2.2.2 s (by omega)
    have hS := hsl.P
    refine g_for (fun x => bdF (M 1) s i x = 0 → V E cX3_bad "SecretVaultModel" mX3_bad (pN fun r h' => tEnd E A h (xc_bad M s i ) (xv_bad M s i ) (xm_bad M s i ) r h') noX X (twO E A M h) 0 0 22 [some (.ref (A 0)), some (.int (nI (s))), some (.int (nI (i))), some (.int (nI (0))), some (.int (nI (bdN (M 1) s x))), some (.int (nI (x + 1)))] []) 0 24 ?_ ?_ x h0 h1
    · intro hb
      refine g_iload5 dX3_bad_22 ?_
      refine g_bipush (nI 24) dX3_bad_24 (by decide) ?_
      first | refine g_icmpN_gt (tgt := 71) dX3_bad_26 (by decide) (by first | omega | exact hB _ _ | (split <;> omega)) (by first | omega | exact hB _ _ | (split <;> omega)) (fun c_26 => ?_) (fun c_26 => ?_) | refine g_icmp_gt (tgt := 71) dX3_bad_26 (by decide) (fun c_26 => ?_) (fun c_26 => ?_)
      · first | refine g_aload0 dX3_bad_71 ?_ | refine g_aloadQ0 dX3_bad_71 ?_ | refine g_aloadN0 dX3_bad_71 ?_
        refine g_iconst (nI 2) dX3_bad_72 (by decide) ?_
        refine g_V1n0 (ctX3_fails hA _ _) kX3_fails q2196 tw_0 rfl rfl (by decide) ⟨rfl, rfl⟩ ⟨Nat.zero_le _, Nat.zero_le _⟩ (Nat.le_of_ble_eq_true rfl) dX3_bad_73 (fun r_73 h_73 p_73 => ?_)
        obtain ⟨rfl, rfl⟩ := p_73
        exact g_iret dX3_bad_76 rfl ⟨_, rfl, t_fails (by unfold xc_bad; rw [hb]; (repeat' split) <;> omega) (by decide) (by unfold xm_bad; exact tSame.rf)⟩
      · omega
    · intro x h0 hx ih hb
      have hst := stF_lt (M 1) s (x + 1)
      have hbn : bdN (M 1) s x < 4294967296 := Nat.lt_of_le_of_lt (bdN_le _ _ _) (by omega)
      refine g_iload5 dX3_bad_22 ?_
      refine g_bipush (nI 24) dX3_bad_24 (by decide) ?_
      first | refine g_icmpN_gt (tgt := 71) dX3_bad_26 (by decide) (by first | omega | exact hB _ _ | (split <;> omega)) (by first | omega | exact hB _ _ | (split <;> omega)) (fun c_26 => ?_) (fun c_26 => ?_) | refine g_icmp_gt (tgt := 71) dX3_bad_26 (by decide) (fun c_26 => ?_) (fun c_26 => ?_)
      · omega
      · first | refine g_aload0 dX3_bad_29 ?_ | refine g_aloadQ0 dX3_bad_29 ?_ | refine g_aloadN0 dX3_bad_29 ?_
        refine g_iload1 dX3_bad_30 ?_
        refine g_iload5 dX3_bad_31 ?_
        refine g_V2n0 (ctX3_hasShare hA _ _ _ hB (by omega) (by omega)) kX3_hasShare q2212 tw_0 rfl rfl (by decide) ⟨rfl, rfl⟩ ⟨Nat.zero_le _, Nat.zero_le _⟩ (Nat.le_of_ble_eq_true rfl) dX3_bad_33 (fun r_33 h_33 p_33 => ?_)
        obtain ⟨hr_33, hi_33, rfl⟩ := p_33
        first | refine g_ifN_eq (tgt := 65) dX3_bad_36 (by decide) (by first | omega | exact hB _ _ | (split <;> omega)) (fun c_36 => ?_) (fun c_36 => ?_) | refine g_if_eq (tgt := 65) dX3_bad_36 (by decide) (fun c_36 => ?_) (fun c_36 => ?_)
        · first | refine g_iincN5 1 dX3_bad_65 (by decide) (by decide) ?_ | refine g_iinc5 _ dX3_bad_65 rfl (by decide) ?_
          refine g_goto (tgt := 22) dX3_bad_68 (by decide) ?_
          first | rw [show bdN (M 1) s (x + 1) = bdN (M 1) s x + 1 from by rw [bdN, if_pos (by omega)]] at ih | rw [show bdN (M 1) s (x + 1) = bdN (M 1) s x from by rw [bdN, if_neg (by omega)]; rfl] at ih
          exact ih (by rw [bdF, if_pos hb, if_neg (by omega)])
        · first | refine g_aload0 dX3_bad_39 ?_ | refine g_aloadQ0 dX3_bad_39 ?_ | refine g_aloadN0 dX3_bad_39 ?_
          refine g_iload1 dX3_bad_40 ?_
          refine g_iload5 dX3_bad_41 ?_
          refine g_V2n0 (ctX3_stateOf hA _ _ _ hB (by omega) (by omega) hS) kX3_stateOf q2224 tw_0 rfl rfl (by decide) ⟨rfl, rfl⟩ ⟨Nat.zero_le _, Nat.zero_le _⟩ (Nat.le_of_ble_eq_true rfl) dX3_bad_43 (fun r_43 h_43 p_43 => ?_)
          obtain ⟨hi_43, rfl⟩ := p_43
          first | refine g_ifN_eq (tgt := 65) dX3_bad_46 (by decide) (by first | omega | exact hB _ _ | (split <;> omega)) (fun c_46 => ?_) (fun c_46 => ?_) | refine g_if_eq (tgt := 65) dX3_bad_46 (by decide) (fun c_46 => ?_) (fun c_46 => ?_)
          · first | refine g_iincN5 1 dX3_bad_65 (by decide) (by decide) ?_ | refine g_iinc5 _ dX3_bad_65 rfl (by decide) ?_
            refine g_goto (tgt := 22) dX3_bad_68 (by decide) ?_
            first | rw [show bdN (M 1) s (x + 1) = bdN (M 1) s x + 1 from by rw [bdN, if_pos (by omega)]] at ih | rw [show bdN (M 1) s (x + 1) = bdN (M 1) s x from by rw [bdN, if_neg (by omega)]; rfl] at ih
            exact ih (by rw [bdF, if_pos hb, if_neg (by omega)])
          · refine g_iload4 dX3_bad_49 ?_
            refine g_iload2 dX3_bad_51 ?_
            first | refine g_icmpN_ne (tgt := 62) dX3_bad_52 (by decide) (by first | omega | exact hB _ _ | (split <;> omega)) (by first | omega | exact hB _ _ | (split <;> omega)) (fun c_52 => ?_) (fun c_52 => ?_) | refine g_icmpU_ne (tgt := 62) dX3_bad_52 (by decide) (by first | omega | exact hB _ _ | (split <;> omega)) (by first | omega | exact hB _ _ | (split <;> omega)) (fun c_52 => ?_) (fun c_52 => ?_) | refine g_icmp_ne (tgt := 62) dX3_bad_52 (by decide) (fun c_52 => ?_) (fun c_52 => ?_)
            · first | refine g_iincN4 1 dX3_bad_62 (by decide) (by decide) ?_ | refine g_iinc4 _ dX3_bad_62 rfl (by decide) ?_
              first | refine g_iincN5 1 dX3_bad_65 (by decide) (by decide) ?_ | refine g_iinc5 _ dX3_bad_65 rfl (by decide) ?_
              refine g_goto (tgt := 22) dX3_bad_68 (by decide) ?_
              first | rw [show bdN (M 1) s (x + 1) = bdN (M 1) s x + 1 from by rw [bdN, if_pos (by omega)]] at ih | rw [show bdN (M 1) s (x + 1) = bdN (M 1) s x from by rw [bdN, if_neg (by omega)]; rfl] at ih
              exact ih (by rw [bdF, if_pos hb, if_neg (by omega)])
            · have hf : bdF (M 1) s i (x + 1) = x + 1 := by rw [bdF, if_pos hb, if_pos (by omega)]
              have hf24 : bdF (M 1) s i 24 = x + 1 := by have hq := bdF_up (M 1) s i (x + 1) (23 - x) (by omega); rw [show x + 1 + (23 - x) = 24 by omega] at hq; omega
              first | refine g_aload0 dX3_bad_55 ?_ | refine g_aloadQ0 dX3_bad_55 ?_ | refine g_aloadN0 dX3_bad_55 ?_
              refine g_iload5 dX3_bad_56 ?_
              refine g_V1n0 (ctX3_done hA _ _) kX3_done q2173 tw_0 rfl rfl (by decide) ⟨rfl, rfl⟩ ⟨Nat.zero_le _, Nat.zero_le _⟩ (Nat.le_of_ble_eq_true rfl) dX3_bad_58 (fun r_58 h_58 p_58 => ?_)
              obtain ⟨rfl, rfl⟩ := p_58
              exact g_iret dX3_bad_61 rfl ⟨_, rfl, t_done (by unfold xc_bad; rw [hf24]; (repeat' split) <;> omega) (by unfold xv_bad; rw [hf24]) (by unfold xm_bad; exact tSame.rf)⟩
  first | refine g_aload0 dX3_bad_0 ?_ | refine g_aloadQ0 dX3_bad_0 ?_ | refine g_aloadN0 dX3_bad_0 ?_
  refine g_iload1 dX3_bad_1 ?_
  refine g_V1n0 (ctX3_lacks hA _ _ hB (by omega)) kX3_lacks q2277 tw_0 rfl rfl (by decide) ⟨rfl, rfl⟩ ⟨Nat.zero_le _, Nat.zero_le _⟩ (Nat.le_of_ble_eq_true rfl) dX3_bad_2 (fun r_2 h_2 p_2 => ?_)
  obtain ⟨hi_2, rfl⟩ := p_2
  refine g_istore3 dX3_bad_5 (by decide) ?_
  refine g_iload3 dX3_bad_6 ?_
  first | refine g_ifN_eq (tgt := 16) dX3_bad_7 (by decide) (by first | omega | exact hB _ _ | (split <;> omega)) (fun c_7 => ?_) (fun c_7 => ?_) | refine g_if_eq (tgt := 16) dX3_bad_7 (by decide) (fun c_7 => ?_) (fun c_7 => ?_)
  · refine g_iconst (nI 0) dX3_bad_16 (by decide) ?_
    refine g_istore4 dX3_bad_17 (by decide) ?_
    refine g_iconst (nI 1) dX3_bad_19 (by decide) ?_
    refine g_istore5 dX3_bad_20 (by decide) ?_
    obtain rfl : r_2 = 0 := by omega
    exact L 0 (by omega) (by omega) (by omega) (by omega) rfl
  · first | refine g_aload0 dX3_bad_10 ?_ | refine g_aloadQ0 dX3_bad_10 ?_ | refine g_aloadN0 dX3_bad_10 ?_
    refine g_iload3 dX3_bad_11 ?_
    refine g_V1n0 (ctX3_fails hA _ _) kX3_fails q2196 tw_0 rfl rfl (by decide) ⟨rfl, rfl⟩ ⟨Nat.zero_le _, Nat.zero_le _⟩ (Nat.le_of_ble_eq_true rfl) dX3_bad_12 (fun r_12 h_12 p_12 => ?_)
    obtain ⟨rfl, rfl⟩ := p_12
    exact g_iret dX3_bad_15 rfl ⟨_, rfl, t_fails (by unfold xc_bad; (repeat' split) <;> omega) (by omega) (by unfold xm_bad; exact tSame.rf)⟩
