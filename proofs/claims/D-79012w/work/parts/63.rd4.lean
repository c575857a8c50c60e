/-! THE READER: parts, some, whole policies -/
set_option maxRecDepth 100000
def smq (H : Nat → Nat) (k a : Nat) : Nat × Nat × List Att := if ¬ H (a + 1) = 111 then (0, a + 1, []) else if ¬ H (a + 2) = 102 then (0, a + 2, []) else if ¬ H (a + 3) = 40 then (0, a + 3, []) else (if (prs H k 3 (a + 4)).1 = 1 then (if H (prs H k 3 (a + 4)).2.1 = 41 then (1, (prs H k 3 (a + 4)).2.1 + 1, [attSome (H a - 48) (prs H k 3 (a + 4)).2.2]) else (0, (prs H k 3 (a + 4)).2.1, [])) else (0, (prs H k 3 (a + 4)).2.1, []))
def smr (H : Nat → Nat) (a RL PL : Nat) (LL : List Att) : Nat × Nat × List Att := if RL = 1 then (if H PL = 41 then (1, PL + 1, [attSome (H a - 48) LL]) else (0, PL, [])) else (0, PL, [])
theorem smq_ok {H : Nat → Nat} {k a RL PL : Nat} {LL : List Att} (h1 : H (a + 1) = 111) (h2 : H (a + 2) = 102) (h3 : H (a + 3) = 40) (e : prs H k 3 (a + 4) = (RL, PL, LL)) : smq H k a = smr H a RL PL LL := by
  unfold smq
  rw [if_neg (fun z => z h1), if_neg (fun z => z h2), if_neg (fun z => z h3), e]
  rfl
theorem smr_ge {H : Nat → Nat} {a RL PL R1 P1 : Nat} {LL L1 : List Att} (h : smr H a RL PL LL = (R1, P1, L1)) : PL ≤ P1 := by
  unfold smr at h
  split at h
  · split at h
    · cases h
      exact Nat.le_succ _
    · cases h
      exact Nat.le_refl _
  · cases h
    exact Nat.le_refl _
theorem smr_n {H : Nat → Nat} {a RL PL : Nat} {LL : List Att} (h : ¬ RL = 1) : smr H a RL PL LL = (0, PL, []) := if_neg h
theorem smr_m {H : Nat → Nat} {a PL : Nat} {LL : List Att} (h : ¬ H PL = 41) : smr H a 1 PL LL = (0, PL, []) := by
  unfold smr
  rw [if_pos rfl, if_neg h]
theorem smr_y {H : Nat → Nat} {a PL : Nat} {LL : List Att} (h : H PL = 41) : smr H a 1 PL LL = (1, PL + 1, [attSome (H a - 48) LL]) := by
  unfold smr
  rw [if_pos rfl, if_pos h]
theorem prs_sm {H : Nat → Nat} {k a : Nat} (h : ¬ H a = 40) (hc : (56 ≤ H a ∧ H a ≤ 57) ∨ (H (a + 1) = 111 ∧ 49 ≤ H a ∧ H a ≤ 55)) : prs H (k + 1) 2 a = smq H k a := by
  rw [prs, if_pos rfl, if_neg h, if_neg (by omega)]
  unfold smq
  by_cases h1 : H (a + 1) = 111
  · rw [if_neg (by omega), if_neg (c := ¬ H (a + 1) = 111) (fun z => z h1)]
  · rw [if_pos (Or.inl h1), if_neg (by omega), if_pos h1]
theorem prs_on {H : Nat → Nat} {k a : Nat} (h : 48 ≤ H a ∧ H a ≤ 55) (hc : ¬ H (a + 1) = 111 ∨ H a = 48) : prs H (k + 1) 2 a = (1, a + 1, [attOne (H a - 48)]) := by
  rw [prs, if_pos rfl, if_neg (by omega), if_neg (by omega), if_pos hc, if_pos h.2]
theorem prs_of {H : Nat → Nat} {k a : Nat} (h : ¬ H a = 40) (hc : ¬ (48 ≤ H a ∧ H a ≤ 57)) : prs H (k + 1) 2 a = (0, a, []) := by
  rw [prs, if_pos rfl, if_neg h, if_pos hc]
def prr (H : Nat → Nat) (RL PL : Nat) (LL : List Att) : Nat × Nat × List Att := if RL = 1 then (if H PL = 41 then (1, PL + 1, [mkAny LL]) else (0, PL, [])) else (0, PL, [])
theorem prs_br {H : Nat → Nat} {k a RL PL : Nat} {LL : List Att} (h : H a = 40) (e : prs H k 0 (a + 1) = (RL, PL, LL)) : prs H (k + 1) 2 a = prr H RL PL LL := by
  rw [prs, if_pos rfl, if_pos h, e]
  rfl
theorem prr_n {H : Nat → Nat} {RL PL : Nat} {LL : List Att} (h : ¬ RL = 1) : prr H RL PL LL = (0, PL, []) := if_neg h
theorem prr_m {H : Nat → Nat} {PL : Nat} {LL : List Att} (h : ¬ H PL = 41) : prr H 1 PL LL = (0, PL, []) := by
  unfold prr
  rw [if_pos rfl, if_neg h]
theorem prr_y {H : Nat → Nat} {PL : Nat} {LL : List Att} (h : H PL = 41) : prr H 1 PL LL = (1, PL + 1, [mkAny LL]) := by
  unfold prr
  rw [if_pos rfl, if_pos h]
theorem prr_ge {H : Nat → Nat} {RL PL R1 P1 : Nat} {LL L1 : List Att} (h : prr H RL PL LL = (R1, P1, L1)) : PL ≤ P1 := by
  unfold prr at h
  split at h
  · split at h
    · cases h
      exact Nat.le_succ _
    · cases h
      exact Nat.le_refl _
  · cases h
    exact Nat.le_refl _
theorem pj {a b : Nat} {L : List Att} {R P : Nat} {M : List Att} (h : (a, b, L) = (R, P, M)) : a = R ∧ b = P ∧ L = M := by
  cases h
  exact ⟨rfl, rfl, rfl⟩
theorem smq_gt {H : Nat → Nat} {k a : Nat} : a + 1 ≤ (smq H k a).2.1 := by
  have g := prs_ge H k 3 (a + 4)
  unfold smq
  repeat' split
  all_goals first | exact Nat.le_refl _ | (show a + 1 ≤ a + 2; omega) | (show a + 1 ≤ a + 3; omega) | (show a + 1 ≤ (prs H k 3 (a + 4)).2.1 + 1; omega) | (show a + 1 ≤ (prs H k 3 (a + 4)).2.1; omega)
set_option maxHeartbeats 400000 in
theorem stX16_some {E : GE} {h : AH} {rd tx n N k a T w R1 P1 : Nat} {t : Nat → Nat} {L1 : List Att} (IH : ∀ (k a T : Nat) (h : AH), k ≤ N → a ≤ n → 4 * n + 3 ≤ k + 4 * a + 0 → 1200 ≤ T → h rd = some (1100, gO 14 [.ref tx, .int (nI a)]) → RD E h tx t n → Ct E cX16_policy (mX16_policy N ((prs (hrF t n) k 0 a).2.1 - a)) [.ref rd] h (pR fun r h' => (prs (hrF t n) k 0 a).1 = 1 ∧ h' rd = some (1100, gO 14 [.ref tx, .int (nI (prs (hrF t n) k 0 a).2.1)]) ∧ Rep E h' N r (obq 0 (prs (hrF t n) k 0 a).2.2) ∧ Fr (rP T) h h') (fun C x h' => C = "SecretVault$TextError" ∧ ¬ (prs (hrF t n) k 0 a).1 = 1 ∧ TEq (rP T) h h' x (prs (hrF t n) k 0 a).2.1)) (hk : k ≤ N + 1) (ha : a < n) (hf : 4 * n + 3 ≤ k + 4 * a + 3) (hc : 49 ≤ hrF t n a) (hc2 : hrF t n a ≤ 57) (hT : 1200 ≤ T) (hr : h rd = some (1100, gO 14 [.ref tx, .int (nI a)])) (hd : RD E h tx t n) (hres : smq (hrF t n) k a = (R1, P1, L1)) (hw : w = P1 - a) : Ct E cX16_some (mX16_some (N + 1) w) [.ref rd] (h) (pR fun r h' => R1 = 1 ∧ h' rd = some (1100, gO 14 [.ref tx, .int (nI P1)]) ∧ Rep E h' (N + 1) r (obq 2 L1) ∧ Fr (rP T) h h') (fun C x h' => C = "SecretVault$TextError" ∧ ¬ R1 = 1 ∧ TEq (rP T) h h' x P1) := by
  refine g_enter (own := "SecretVault$Reader") [some (.ref rd), none, none] (show plainName yX16_some.cls = true by decide +kernel) rfl rfl (Nat.le_of_ble_eq_true rfl) rfl rfl (fun X => ?_)
  obtain ⟨k, rfl⟩ : ∃ k2, k = k2 + 1 := ⟨k - 1, by omega⟩
  have hn40 := hd.le
  have hcl : hrF t n a - 48 ≤ 9 := by omega
  have KK : ∀ l RL PL LL, smr (hrF t n) a RL PL LL = (R1, P1, L1) → ∀ k pz B9 Ls hh cc, k ≤ N → pz ≤ n → 4 * n + 4 ≤ k + 4 * (pz + 1) → a + 4 < pz → RT E T hh N l Ls B9 → 1 ≤ Ls.length → 2 * Ls.length ≤ pz - (a + 4) + 1 → hh rd = some (1100, gO 14 [.ref tx, .int (nI pz)]) → RD E hh tx t n → Fr (rP T) h hh → rsq (hrF t n) 3 k pz B9 = (RL, PL, LL) → cc ≤ 10 * (pz - (a + 4)) + 14 → V E cX16_some "SecretVault$Reader" (mX16_some (N + 1) w) (pR fun r h' => R1 = 1 ∧ h' rd = some (1100, gO 14 [.ref tx, .int (nI P1)]) ∧ Rep E h' (N + 1) r (obq 2 L1) ∧ Fr (rP T) h h') (fun C x h' => C = "SecretVault$TextError" ∧ ¬ R1 = 1 ∧ TEq (rP T) h h' x P1) X (hh) cc (70 * cc) 45 [some (.ref rd), some (.int (nI (hrF t n a - 48))), some (.ref l)] [] := by
    intro l RL PL LL hres k
    have hPL := smr_ge hres
    induction k with
    | zero =>
      intro pz B9 Ls hh cc hkN hp hf2 hap hL hl1 hl2 g1 hd1 hF hL3 hcc
      have hge := rsq_ge hL3
      first | refine g_aload0 dX16_some_45 ?_ | refine g_aloadQ0 dX16_some_45 ?_ | refine g_aloadN0 dX16_some_45 ?_
      refine g_callVR (ctX16_here g1 hd1 (by omega)) kX16_here q1642 (gRv.g g1 rfl rfl) ⟨by show 4 + 1 ≤ (N + 1) + 20; omega, by show 8 + (1 + 11) + (85) ≤ 60 * (N + 1) + 700; omega⟩ ⟨by show _ + 0 ≤ 10 * w + 2; omega, by show _ + 0 ≤ 70 * (10 * w + 2); omega⟩ rfl (Nat.le_of_ble_eq_true rfl) dX16_some_46 k_x (k_n (fun r_46 h_46 p_46 => ?_))
      obtain ⟨rfl, z_46⟩ := p_46
      rw [z_46]
      refine V.wide (k' := cc) (n' := 70 * (cc)) (by show cc + 0 ≤ _; omega) (by show 70 * cc + 0 ≤ _; omega) ?_
      have hv := hvE t n pz 44 (by decide) (by decide)
      have hvl := hv_lt hd1 pz
      refine g_bipush (nI 44) dX16_some_49 (by decide) ?_
      first | refine g_icmpN_ne (tgt := 78) dX16_some_51 (by decide) (by omega) (by omega) (fun c_51 => ?_) (fun c_51 => ?_) | refine g_icmpU_ne (tgt := 78) dX16_some_51 (by decide) (by omega) (by omega) (fun c_51 => ?_) (fun c_51 => ?_) | refine g_icmp_ne (tgt := 78) dX16_some_51 (by decide) (fun c_51 => ?_) (fun c_51 => ?_)
      · have hx : ¬ hrF t n pz = sepq 3 := fun z => c_51 (by have := hv.mpr z; omega)
        rw [rsq_end hx] at hL3
        obtain ⟨y1, y2, y3⟩ := pj hL3
        subst y1 y2 y3
        first | refine g_aload0 dX16_some_78 ?_ | refine g_aloadQ0 dX16_some_78 ?_ | refine g_aloadN0 dX16_some_78 ?_
        refine g_bipush (nI 41) dX16_some_79 (by decide) ?_
        refine g_callVR (ctX16_take 41 g1 hd1 (by omega) ⟨by decide, by decide⟩) kX16_take q1686 (gRv.g g1 rfl rfl) ⟨by show 8 + 1 ≤ (N + 1) + 20; omega, by show 8 + (2 + 11) + (162) ≤ 60 * (N + 1) + 700; omega⟩ ⟨by show _ + 1 ≤ 10 * w + 2; omega, by show _ + 7 ≤ 70 * (10 * w + 2); omega⟩ rfl (Nat.le_of_ble_eq_true rfl) dX16_some_81 (fun C_ q_ h2_ px => by obtain ⟨rfl, m_81, t_81⟩ := px; rw [smr_m m_81] at hres; obtain ⟨z1, z2, z3⟩ := pj hres; subst z1 z2; exact gx_out0 rfl ⟨rfl, Nat.zero_ne_one, TEq.tr0 hF (TEf.q g1 t_81)⟩ (by show cc + 1 ≤ 10 * w + 2; omega) (by show 70 * cc + 7 ≤ 70 * (10 * w + 2); omega)) (k_v (fun h_81 p_81 => ?_))
        obtain ⟨m5, z_81⟩ := p_81
        rw [z_81]
        rw [smr_y m5] at hres
        obtain ⟨z1, z2, z3⟩ := pj hres
        subst z1 z2 z3
        have hL4 := hL.fr (Fr.put (P := fun u => u = 1100) (e' := gO 14 [.ref tx, .int (nI (pz + 1))]) g1 rfl) (by decide) (by decide) (by omega) (by omega)
        have F4 := hF.tr (Fr.put (P := rP T) (e' := gO 14 [.ref tx, .int (nI (pz + 1))]) g1 (Or.inl rfl))
        refine V.wide (k' := cc + 1) (n' := 70 * (cc + 1)) (by show cc + 1 ≤ _; omega) (by show 70 * cc + 7 ≤ _; omega) ?_
        refine g_new 16 (7) [.int 0, .null] in_X18 tyX18_ok q1835 q1836 q114 rfl nwX18 (by show cc + 1 + 1 ≤ 10 * w + 2; omega) (by show 70 * (cc + 1) + 2 ≤ 70 * (10 * w + 2); omega) dX16_some_84 (fun q_84 f_84 => ?_)
        refine g_dup dX16_some_87 rfl ?_
        refine g_iload1 dX16_some_88 ?_
        first | refine g_aload2 dX16_some_89 ?_ | refine g_aloadQ2 dX16_some_89 ?_ | refine g_aloadN2 dX16_some_89 ?_
        refine g_callI (ctX18_init (g_up_self _ _ _)) kX18_init q1837 ⟨by show 2 + 1 ≤ (N + 1) + 20; omega, by show 8 + (3 + 11) + (40) ≤ 60 * (N + 1) + 700; omega⟩ ⟨by show _ + 0 ≤ 10 * w + 2; omega, by show _ + 0 ≤ 70 * (10 * w + 2); omega⟩ rfl (Nat.le_of_ble_eq_true rfl) dX16_some_90 k_x (k_v (fun h_90 p_90 => ?_))
        rw [p_90, g_upup]
        refine V.wide (k' := cc + 2) (n' := 70 * (cc + 2)) (by show cc + 1 + 1 + 0 ≤ _; omega) (by show 70 * (cc + 1) + 2 + 0 ≤ _; omega) ?_
        have hL2 := hL4.fr (Fr.new (P := F0r) (z := (7, gO 16 [.int (nI (hrF t n a - 48)), .ref l])) f_84) id id id id
        obtain ⟨h9, r1, r2, r3⟩ := hL2.rt (by omega) (fun z => by rw [z] at hl1; exact absurd hl1 (by decide))
        refine V.retag r1 ?_
        exact g_aret (hk := by show _ ≤ 10 * w + 2; omega) (hn := by show _ ≤ 70 * (10 * w + 2); omega) dX16_some_93 rfl (Or.inl ⟨_, rfl⟩) ⟨_, rfl, rfl, r3 _ _ _ (g_upf (g_up_self _ _ _) f_84) (by omega), Or.inr ⟨l, Ls, B9, r2.1, r2.2.1, r2.2.2, Or.inr (Or.inr ⟨hrF t n a - 48, by omega, rfl, r3 _ _ _ (g_up_self _ _ _) (by omega)⟩)⟩, F4.tr ((Fr.new f_84).tr r3.lst)⟩
      · exfalso
        have hx : hrF t n pz = 44 := hv.mp (by omega)
        have := hr_in (t := t) (n := n) (p := pz) (lo := 1) (by decide) (by omega)
        omega
    | succ k ih =>
      intro pz B9 Ls hh cc hkN hp hf2 hap hL hl1 hl2 g1 hd1 hF hL3 hcc
      have hge := rsq_ge hL3
      first | refine g_aload0 dX16_some_45 ?_ | refine g_aloadQ0 dX16_some_45 ?_ | refine g_aloadN0 dX16_some_45 ?_
      refine g_callVR (ctX16_here g1 hd1 (by omega)) kX16_here q1642 (gRv.g g1 rfl rfl) ⟨by show 4 + 1 ≤ (N + 1) + 20; omega, by show 8 + (1 + 11) + (85) ≤ 60 * (N + 1) + 700; omega⟩ ⟨by show _ + 0 ≤ 10 * w + 2; omega, by show _ + 0 ≤ 70 * (10 * w + 2); omega⟩ rfl (Nat.le_of_ble_eq_true rfl) dX16_some_46 k_x (k_n (fun r_46 h_46 p_46 => ?_))
      obtain ⟨rfl, z_46⟩ := p_46
      rw [z_46]
      refine V.wide (k' := cc) (n' := 70 * (cc)) (by show cc + 0 ≤ _; omega) (by show 70 * cc + 0 ≤ _; omega) ?_
      have hv := hvE t n pz 44 (by decide) (by decide)
      have hvl := hv_lt hd1 pz
      refine g_bipush (nI 44) dX16_some_49 (by decide) ?_
      first | refine g_icmpN_ne (tgt := 78) dX16_some_51 (by decide) (by omega) (by omega) (fun c_51 => ?_) (fun c_51 => ?_) | refine g_icmpU_ne (tgt := 78) dX16_some_51 (by decide) (by omega) (by omega) (fun c_51 => ?_) (fun c_51 => ?_) | refine g_icmp_ne (tgt := 78) dX16_some_51 (by decide) (fun c_51 => ?_) (fun c_51 => ?_)
      · have hx : ¬ hrF t n pz = sepq 3 := fun z => c_51 (by have := hv.mpr z; omega)
        rw [rsq_end hx] at hL3
        obtain ⟨y1, y2, y3⟩ := pj hL3
        subst y1 y2 y3
        first | refine g_aload0 dX16_some_78 ?_ | refine g_aloadQ0 dX16_some_78 ?_ | refine g_aloadN0 dX16_some_78 ?_
        refine g_bipush (nI 41) dX16_some_79 (by decide) ?_
        refine g_callVR (ctX16_take 41 g1 hd1 (by omega) ⟨by decide, by decide⟩) kX16_take q1686 (gRv.g g1 rfl rfl) ⟨by show 8 + 1 ≤ (N + 1) + 20; omega, by show 8 + (2 + 11) + (162) ≤ 60 * (N + 1) + 700; omega⟩ ⟨by show _ + 1 ≤ 10 * w + 2; omega, by show _ + 7 ≤ 70 * (10 * w + 2); omega⟩ rfl (Nat.le_of_ble_eq_true rfl) dX16_some_81 (fun C_ q_ h2_ px => by obtain ⟨rfl, m_81, t_81⟩ := px; rw [smr_m m_81] at hres; obtain ⟨z1, z2, z3⟩ := pj hres; subst z1 z2; exact gx_out0 rfl ⟨rfl, Nat.zero_ne_one, TEq.tr0 hF (TEf.q g1 t_81)⟩ (by show cc + 1 ≤ 10 * w + 2; omega) (by show 70 * cc + 7 ≤ 70 * (10 * w + 2); omega)) (k_v (fun h_81 p_81 => ?_))
        obtain ⟨m5, z_81⟩ := p_81
        rw [z_81]
        rw [smr_y m5] at hres
        obtain ⟨z1, z2, z3⟩ := pj hres
        subst z1 z2 z3
        have hL4 := hL.fr (Fr.put (P := fun u => u = 1100) (e' := gO 14 [.ref tx, .int (nI (pz + 1))]) g1 rfl) (by decide) (by decide) (by omega) (by omega)
        have F4 := hF.tr (Fr.put (P := rP T) (e' := gO 14 [.ref tx, .int (nI (pz + 1))]) g1 (Or.inl rfl))
        refine V.wide (k' := cc + 1) (n' := 70 * (cc + 1)) (by show cc + 1 ≤ _; omega) (by show 70 * cc + 7 ≤ _; omega) ?_
        refine g_new 16 (7) [.int 0, .null] in_X18 tyX18_ok q1835 q1836 q114 rfl nwX18 (by show cc + 1 + 1 ≤ 10 * w + 2; omega) (by show 70 * (cc + 1) + 2 ≤ 70 * (10 * w + 2); omega) dX16_some_84 (fun q_84 f_84 => ?_)
        refine g_dup dX16_some_87 rfl ?_
        refine g_iload1 dX16_some_88 ?_
        first | refine g_aload2 dX16_some_89 ?_ | refine g_aloadQ2 dX16_some_89 ?_ | refine g_aloadN2 dX16_some_89 ?_
        refine g_callI (ctX18_init (g_up_self _ _ _)) kX18_init q1837 ⟨by show 2 + 1 ≤ (N + 1) + 20; omega, by show 8 + (3 + 11) + (40) ≤ 60 * (N + 1) + 700; omega⟩ ⟨by show _ + 0 ≤ 10 * w + 2; omega, by show _ + 0 ≤ 70 * (10 * w + 2); omega⟩ rfl (Nat.le_of_ble_eq_true rfl) dX16_some_90 k_x (k_v (fun h_90 p_90 => ?_))
        rw [p_90, g_upup]
        refine V.wide (k' := cc + 2) (n' := 70 * (cc + 2)) (by show cc + 1 + 1 + 0 ≤ _; omega) (by show 70 * (cc + 1) + 2 + 0 ≤ _; omega) ?_
        have hL2 := hL4.fr (Fr.new (P := F0r) (z := (7, gO 16 [.int (nI (hrF t n a - 48)), .ref l])) f_84) id id id id
        obtain ⟨h9, r1, r2, r3⟩ := hL2.rt (by omega) (fun z => by rw [z] at hl1; exact absurd hl1 (by decide))
        refine V.retag r1 ?_
        exact g_aret (hk := by show _ ≤ 10 * w + 2; omega) (hn := by show _ ≤ 70 * (10 * w + 2); omega) dX16_some_93 rfl (Or.inl ⟨_, rfl⟩) ⟨_, rfl, rfl, r3 _ _ _ (g_upf (g_up_self _ _ _) f_84) (by omega), Or.inr ⟨l, Ls, B9, r2.1, r2.2.1, r2.2.2, Or.inr (Or.inr ⟨hrF t n a - 48, by omega, rfl, r3 _ _ _ (g_up_self _ _ _) (by omega)⟩)⟩, F4.tr ((Fr.new f_84).tr r3.lst)⟩
      · have hx : hrF t n pz = sepq 3 := hv.mp (by omega)
        have hpn := (hr_in (t := t) (n := n) (p := pz) (lo := 1) (by decide) (by rw [hx]; decide)).1
        have hgs := prs_ge (hrF t n) k 0 (pz + 1)
        have hP1 : (prs (hrF t n) k 0 (pz + 1)).2.1 ≤ PL := by
          by_cases z : (prs (hrF t n) k 0 (pz + 1)).1 = 1
          · rw [rsq_yes (by decide) hx z] at hL3
            exact rsq_ge hL3
          · rw [rsq_no (by decide) hx z] at hL3
            cases hL3
            exact Nat.le_refl _
        have hd2 := hd1.fr (Fr.put (P := fun u => u = 1100) (e' := gO 14 [.ref tx, .int (nI (pz + 1))]) g1 rfl) (by decide) (by decide)
        first | refine g_aload0 dX16_some_54 ?_ | refine g_aloadQ0 dX16_some_54 ?_ | refine g_aloadN0 dX16_some_54 ?_
        refine g_dup dX16_some_55 rfl ?_
        refine g_get (k0 := 1) (by first | assumption | exact g_up_self _ _ _ | (refine g_upf ?_ ?_ <;> assumption) | (refine g_upt ?_ ?_ (by decide) <;> assumption)) in_X16 q1624 rfl (by decide) rfl dX16_some_56 ?_
        refine g_iconst (nI 1) dX16_some_59 (by decide) ?_
        first | refine g_iaddN dX16_some_60 ?_ | refine g_iadd dX16_some_60 ?_
        refine g_put (k0 := 1) (by first | assumption | exact g_up_self _ _ _ | (refine g_upf ?_ ?_ <;> assumption) | (refine g_upt ?_ ?_ (by decide) <;> assumption)) in_X16 q1624 tyX16_ok nmX16 rfl (by decide) rfl (by rfl) (by rfl) (Nat.le_of_ble_eq_true rfl) dX16_some_61 ?_
        first | refine g_aload2 dX16_some_64 ?_ | refine g_aloadQ2 dX16_some_64 ?_ | refine g_aloadN2 dX16_some_64 ?_
        first | refine g_aload0 dX16_some_65 ?_ | refine g_aloadQ0 dX16_some_65 ?_ | refine g_aloadN0 dX16_some_65 ?_
        refine g_callVR (IH k (pz + 1) (T + 2) _ (by omega) (by omega) (by omega) (by omega) (g_up_self _ _ _) hd2) (kX16_policy _ _) q1811 (gRv.g (g_up_self _ _ _) rfl rfl) ⟨by show N + 20 + 1 ≤ (N + 1) + 20; omega, by show 8 + (2 + 11) + (60 * N + 700) ≤ 60 * (N + 1) + 700; omega⟩ ⟨by show cc + (10 * ((prs (hrF t n) k 0 (pz + 1)).2.1 - (pz + 1)) + 8) ≤ 10 * w + 2; omega, by show 70 * cc + 70 * (10 * ((prs (hrF t n) k 0 (pz + 1)).2.1 - (pz + 1)) + 8) ≤ 70 * (10 * w + 2); omega⟩ rfl (Nat.le_of_ble_eq_true rfl) dX16_some_66 (fun C_ q_ h2_ px => by obtain ⟨rfl, m_66, t_66⟩ := px; rw [rsq_no (by decide) hx m_66] at hL3; obtain ⟨y1, y2, y3⟩ := pj hL3; subst y1 y2; rw [smr_n Nat.zero_ne_one] at hres; obtain ⟨z1, z2, z3⟩ := pj hres; subst z1 z2; exact gx_out0 rfl ⟨rfl, Nat.zero_ne_one, TEq.tr (hF.tr (Fr.put g1 (Or.inl rfl))) t_66⟩ (by show cc + (10 * ((prs (hrF t n) k 0 (pz + 1)).2.1 - (pz + 1)) + 8) ≤ 10 * w + 2; omega) (by show 70 * cc + 70 * (10 * ((prs (hrF t n) k 0 (pz + 1)).2.1 - (pz + 1)) + 8) ≤ 70 * (10 * w + 2); omega)) (k_r (fun r_66 h_66 p_66 => ?_))
        obtain ⟨e1, g2, hre, f_66⟩ := p_66
        have hgt := prs_gt _ _ _ _ e1
        rw [rsq_yes (by decide) hx e1] at hL3
        have hge2 := rsq_ge hL3
        have hle := prs_le (t := t) (n := n) (k := k) (q := 0) (a := pz + 1) (by omega)
        have hL2 := (hL.fr (Fr.put (P := fun u => u = 1100) g1 rfl) (by decide) (by decide) (by omega) (by omega)).fr f_66 (rPn (by omega) (by decide)) (rPn (by omega) (by decide)) (rPn (by omega) (by omega)) (rPn (by omega) (by omega))
        have hd3 := hd2.fr f_66 (rPn (by omega) (by decide)) (rPn (by omega) (by decide))
        have F1 := hF.tr ((Fr.put (P := rP T) (e' := gO 14 [.ref tx, .int (nI (pz + 1))]) g1 (Or.inl rfl)).tr (f_66.mono rP.m))
        refine V.wide (k' := cc + (10 * ((prs (hrF t n) k 0 (pz + 1)).2.1 - (pz + 1)) + 8)) (n' := 70 * (cc + (10 * ((prs (hrF t n) k 0 (pz + 1)).2.1 - (pz + 1)) + 8))) (by show cc + (10 * ((prs (hrF t n) k 0 (pz + 1)).2.1 - (pz + 1)) + 8) ≤ _; omega) (by show 70 * cc + 70 * (10 * ((prs (hrF t n) k 0 (pz + 1)).2.1 - (pz + 1)) + 8) ≤ _; omega) ?_
        refine g_callF (ctJ21_add hL2.2.1 (by omega) hL2.ob hre.ob) uJ21_add q1834 q995 ⟨q993, q992, q998, q996, q994⟩ ⟨⟨by decide, by decide⟩, rfl⟩ (LI.at hL2.2.1).choose_spec rfl ⟨by show 6 + 1 ≤ (N + 1) + 20; omega, by show 8 + (2 + 11) + (170) ≤ 60 * (N + 1) + 700; omega⟩ ⟨by show cc + (10 * ((prs (hrF t n) k 0 (pz + 1)).2.1 - (pz + 1)) + 8) + 1 ≤ 10 * w + 2; omega, by show 70 * (cc + (10 * ((prs (hrF t n) k 0 (pz + 1)).2.1 - (pz + 1)) + 8)) + 64 ≤ 70 * (10 * w + 2); omega⟩ rfl (Nat.le_of_ble_eq_true rfl) dX16_some_69 k_x (k_n (fun r_69 h_69 p_69 => ?_))
        obtain ⟨rfl, l_69, f_69⟩ := p_69
        have hL5 := hL2.add hre l_69 f_69 (by omega) (by omega)
        refine V.wide (k' := cc + (10 * ((prs (hrF t n) k 0 (pz + 1)).2.1 - (pz + 1)) + 8) + 1) (n' := 70 * (cc + (10 * ((prs (hrF t n) k 0 (pz + 1)).2.1 - (pz + 1)) + 8) + 1)) (by show cc + (10 * ((prs (hrF t n) k 0 (pz + 1)).2.1 - (pz + 1)) + 8) + 1 ≤ _; omega) (by show 70 * (cc + (10 * ((prs (hrF t n) k 0 (pz + 1)).2.1 - (pz + 1)) + 8)) + 64 ≤ _; omega) ?_
        refine g_pop dX16_some_74 (by first | rfl | exact cat_rf _) ?_
        refine g_goto (tgt := 45) dX16_some_75 (by decide) ?_
        exact ih _ _ _ _ _ (by omega) hle (by omega) (by omega) hL5 (by rw [List.length_append, List.length_singleton]; omega) (by rw [List.length_append, List.length_singleton]; omega) (f_69 _ _ _ g2 (by omega)) (hd3.fr f_69 (by omega) (by omega)) (F1.tr f_69.lst) hL3 (by omega)
  first | refine g_aload0 dX16_some_0 ?_ | refine g_aloadQ0 dX16_some_0 ?_ | refine g_aloadN0 dX16_some_0 ?_
  refine g_iconst (nI 1) dX16_some_1 (by decide) ?_
  refine g_bipush (nI 9) dX16_some_2 (by decide) ?_
  have hw1 := smq_gt (H := hrF t n) (k := k + 1) (a := a)
  rw [hres] at hw1
  have hw2 : a + 1 ≤ P1 := hw1
  refine g_callVR (ctX16_digit 1 9 hr hd (by omega) (by decide)) kX16_digit q1638 (gRv.g hr rfl rfl) ⟨by show 8 + 1 ≤ (N + 1) + 20; omega, by show 8 + (3 + 11) + (162) ≤ 60 * (N + 1) + 700; omega⟩ ⟨by show _ + 1 ≤ 10 * w + 2; omega, by show _ + 7 ≤ 70 * (10 * w + 2); omega⟩ rfl (Nat.le_of_ble_eq_true rfl) dX16_some_4 (fun C_ q_ h2_ px => by obtain ⟨rfl, m_4, t_4⟩ := px; exact absurd (by omega) m_4) (k_n (fun r_4 h_4 p_4 => ?_))
  obtain ⟨rfl, d_4, z_4⟩ := p_4
  rw [z_4]
  refine V.wide (k' := 1) (n' := 70 * (1)) (by show 0 + 1 ≤ _; omega) (by show 0 + 7 ≤ _; omega) ?_
  refine g_istore1 dX16_some_7 (show ¬ 1 = 255 + 1 by decide) ?_
  first | refine g_aload0 dX16_some_8 ?_ | refine g_aloadQ0 dX16_some_8 ?_ | refine g_aloadN0 dX16_some_8 ?_
  refine g_bipush (nI 111) dX16_some_9 (by decide) ?_
  refine g_callVR (ctX16_take 111 (g_up_self _ _ _) (hd.fr (Fr.put (P := fun u => u = 1100) hr rfl) (by decide) (by decide)) (by omega) ⟨by decide, by decide⟩) kX16_take q1686 (gRv.g (g_up_self _ _ _) rfl rfl) ⟨by show 8 + 1 ≤ (N + 1) + 20; omega, by show 8 + (2 + 11) + (162) ≤ 60 * (N + 1) + 700; omega⟩ ⟨by show _ + 1 ≤ 10 * w + 2; omega, by show _ + 7 ≤ 70 * (10 * w + 2); omega⟩ rfl (Nat.le_of_ble_eq_true rfl) dX16_some_11 (fun C_ q_ h2_ px => by obtain ⟨rfl, m_11, t_11⟩ := px; obtain ⟨z1, z2, z3⟩ := pj ((show smq (hrF t n) (k + 1) a = (0, a + 1, []) by unfold smq; rw [if_pos m_11]).symm.trans hres); subst z1 z2; exact gx_out0 rfl ⟨rfl, Nat.zero_ne_one, TEq.tr0 (Fr.put hr (Or.inl rfl)) (TEf.q (g_up_self _ _ _) t_11)⟩ (by show 1 + 1 ≤ 10 * w + 2; omega) (by show 70 * 1 + 7 ≤ 70 * (10 * w + 2); omega)) (k_v (fun h_11 p_11 => ?_))
  obtain ⟨m1, z_11⟩ := p_11
  rw [z_11, g_upup]
  refine V.wide (k' := 2) (n' := 70 * (2)) (by show 1 + 1 ≤ _; omega) (by show 70 * 1 + 7 ≤ _; omega) ?_
  first | refine g_aload0 dX16_some_14 ?_ | refine g_aloadQ0 dX16_some_14 ?_ | refine g_aloadN0 dX16_some_14 ?_
  refine g_bipush (nI 102) dX16_some_15 (by decide) ?_
  refine g_callVR (ctX16_take 102 (g_up_self _ _ _) (hd.fr (Fr.put (P := fun u => u = 1100) hr rfl) (by decide) (by decide)) (by omega) ⟨by decide, by decide⟩) kX16_take q1686 (gRv.g (g_up_self _ _ _) rfl rfl) ⟨by show 8 + 1 ≤ (N + 1) + 20; omega, by show 8 + (2 + 11) + (162) ≤ 60 * (N + 1) + 700; omega⟩ ⟨by show _ + 1 ≤ 10 * w + 2; omega, by show _ + 7 ≤ 70 * (10 * w + 2); omega⟩ rfl (Nat.le_of_ble_eq_true rfl) dX16_some_17 (fun C_ q_ h2_ px => by obtain ⟨rfl, m_17, t_17⟩ := px; obtain ⟨z1, z2, z3⟩ := pj ((show smq (hrF t n) (k + 1) a = (0, a + 2, []) by unfold smq; rw [if_neg (fun z => z m1), if_pos m_17]).symm.trans hres); subst z1 z2; exact gx_out0 rfl ⟨rfl, Nat.zero_ne_one, TEq.tr0 (Fr.put hr (Or.inl rfl)) (TEf.q (g_up_self _ _ _) t_17)⟩ (by show 2 + 1 ≤ 10 * w + 2; omega) (by show 70 * 2 + 7 ≤ 70 * (10 * w + 2); omega)) (k_v (fun h_17 p_17 => ?_))
  obtain ⟨m2, z_17⟩ := p_17
  rw [z_17, g_upup]
  refine V.wide (k' := 3) (n' := 70 * (3)) (by show 2 + 1 ≤ _; omega) (by show 70 * 2 + 7 ≤ _; omega) ?_
  first | refine g_aload0 dX16_some_20 ?_ | refine g_aloadQ0 dX16_some_20 ?_ | refine g_aloadN0 dX16_some_20 ?_
  refine g_bipush (nI 40) dX16_some_21 (by decide) ?_
  refine g_callVR (ctX16_take 40 (g_up_self _ _ _) (hd.fr (Fr.put (P := fun u => u = 1100) hr rfl) (by decide) (by decide)) (by omega) ⟨by decide, by decide⟩) kX16_take q1686 (gRv.g (g_up_self _ _ _) rfl rfl) ⟨by show 8 + 1 ≤ (N + 1) + 20; omega, by show 8 + (2 + 11) + (162) ≤ 60 * (N + 1) + 700; omega⟩ ⟨by show _ + 1 ≤ 10 * w + 2; omega, by show _ + 7 ≤ 70 * (10 * w + 2); omega⟩ rfl (Nat.le_of_ble_eq_true rfl) dX16_some_23 (fun C_ q_ h2_ px => by obtain ⟨rfl, m_23, t_23⟩ := px; obtain ⟨z1, z2, z3⟩ := pj ((show smq (hrF t n) (k + 1) a = (0, a + 3, []) by unfold smq; rw [if_neg (fun z => z m1), if_neg (fun z => z m2), if_pos m_23]).symm.trans hres); subst z1 z2; exact gx_out0 rfl ⟨rfl, Nat.zero_ne_one, TEq.tr0 (Fr.put hr (Or.inl rfl)) (TEf.q (g_up_self _ _ _) t_23)⟩ (by show 3 + 1 ≤ 10 * w + 2; omega) (by show 70 * 3 + 7 ≤ 70 * (10 * w + 2); omega)) (k_v (fun h_23 p_23 => ?_))
  obtain ⟨m3, z_23⟩ := p_23
  rw [z_23, g_upup]
  refine V.wide (k' := 4) (n' := 70 * (4)) (by show 3 + 1 ≤ _; omega) (by show 70 * 3 + 7 ≤ _; omega) ?_
  obtain ⟨RL, PL, LL, hprs⟩ : ∃ RL PL LL, prs (hrF t n) (k + 1) 3 (a + 4) = (RL, PL, LL) := ⟨_, _, _, rfl⟩
  rw [smq_ok m1 m2 m3 hprs] at hres
  have hPL := smr_ge hres
  have m4 := (hr_in (t := t) (n := n) (p := a + 3) (lo := 1) (by decide) (by rw [m3]; decide)).1
  have hgs := prs_ge (hrF t n) k 0 (a + 4)
  have hP1 : (prs (hrF t n) k 0 (a + 4)).2.1 ≤ PL := by
    by_cases z : (prs (hrF t n) k 0 (a + 4)).1 = 1
    · have y := hprs
      rw [prs_first (by decide) z] at y
      exact rsq_ge y
    · have y := hprs
      rw [prs_rem (by decide), if_neg (c := (prs (hrF t n) k (subq 3) (a + 4)).1 = 1) z] at y
      cases y
      exact Nat.le_refl _
  refine g_new 9 (T) [.int 0, .null, .int 0] in_J21 tyJ21_ok q1815 q965 q92 rfl nwJ21 (by show 4 + 1 ≤ 10 * w + 2; omega) (by show 70 * 4 + 3 ≤ 70 * (10 * w + 2); omega) dX16_some_26 (fun q_26 f_26 => ?_)
  refine g_dup dX16_some_29 rfl ?_
  refine g_callI (ctJ21_init _ (g_up_self _ _ _)) kJ21_init q1816 ⟨by show 3 + 1 ≤ (N + 1) + 20; omega, by show 8 + (1 + 11) + (60) ≤ 60 * (N + 1) + 700; omega⟩ ⟨by show _ + 0 ≤ 10 * w + 2; omega, by show _ + 0 ≤ 70 * (10 * w + 2); omega⟩ rfl (Nat.le_of_ble_eq_true rfl) dX16_some_30 k_x (k_v (fun h_30 p_30 => ?_))
  rw [p_30, g_upup]
  refine V.wide (k' := 5) (n' := 70 * (5)) (by show 4 + 1 + 0 ≤ _; omega) (by show 70 * 4 + 3 + 0 ≤ _; omega) ?_
  have g0 := g_upf (z := (T, gO 9 [.int 0, .ref (eE E), .int 0])) (g_up_self h rd (1100, gO 14 [.ref tx, .int (nI (a + 4))])) f_26
  have hd0 := (hd.fr (Fr.put (P := fun u => u = 1100) (e' := gO 14 [.ref tx, .int (nI (a + 4))]) hr rfl) (by decide) (by decide)).fr (Fr.new (P := F0r) (z := (T, gO 9 [.int 0, .ref (eE E), .int 0])) f_26) id id
  have F0 : Fr (rP T) h (g_up (g_up h rd (1100, gO 14 [.ref tx, .int (nI (a + 4))])) q_26 (T, gO 9 [.int 0, .ref (eE E), .int 0])) := (Fr.put (P := rP T) hr (Or.inl rfl)).tr (Fr.new f_26)
  first | refine g_astore2 dX16_some_33 (show ¬ 2 = 255 + 1 by decide) ?_ | refine g_astoreQ2 dX16_some_33 (show ¬ 2 = 255 + 1 by decide) ?_ | refine g_astoreN2 dX16_some_33 (show ¬ 2 = 255 + 1 by decide) ?_
  first | refine g_aload2 dX16_some_34 ?_ | refine g_aloadQ2 dX16_some_34 ?_ | refine g_aloadN2 dX16_some_34 ?_
  first | refine g_aload0 dX16_some_35 ?_ | refine g_aloadQ0 dX16_some_35 ?_ | refine g_aloadN0 dX16_some_35 ?_
  refine g_callVR (IH k (a + 4) (T + 2) _ (by omega) (by omega) (by omega) (by omega) g0 hd0) (kX16_policy _ _) q1811 (gRv.g g0 rfl rfl) ⟨by show N + 20 + 1 ≤ (N + 1) + 20; omega, by show 8 + (2 + 11) + (60 * N + 700) ≤ 60 * (N + 1) + 700; omega⟩ ⟨by show 5 + (10 * ((prs (hrF t n) k 0 (a + 4)).2.1 - (a + 4)) + 8) ≤ 10 * w + 2; omega, by show 70 * 5 + 70 * (10 * ((prs (hrF t n) k 0 (a + 4)).2.1 - (a + 4)) + 8) ≤ 70 * (10 * w + 2); omega⟩ rfl (Nat.le_of_ble_eq_true rfl) dX16_some_36 (fun C_ q_ h2_ px => by obtain ⟨rfl, m_36, t_36⟩ := px; rw [prs_rem (by decide), if_neg (c := (prs (hrF t n) k (subq 3) (a + 4)).1 = 1) m_36] at hprs; obtain ⟨y1, y2, y3⟩ := pj hprs; subst y1 y2; rw [smr_n Nat.zero_ne_one] at hres; obtain ⟨z1, z2, z3⟩ := pj hres; subst z1 z2; exact gx_out0 rfl ⟨rfl, Nat.zero_ne_one, TEq.tr F0 t_36⟩ (by show 5 + (10 * ((prs (hrF t n) k 0 (a + 4)).2.1 - (a + 4)) + 8) ≤ 10 * w + 2; omega) (by show 70 * 5 + 70 * (10 * ((prs (hrF t n) k 0 (a + 4)).2.1 - (a + 4)) + 8) ≤ 70 * (10 * w + 2); omega)) (k_r (fun r_36 h_36 p_36 => ?_))
  obtain ⟨e1, g2, hre, f_36⟩ := p_36
  have hgt := prs_gt _ _ _ _ e1
  have hL3 : rsq (hrF t n) 3 k (prs (hrF t n) k 0 (a + 4)).2.1 [mkS 3 (prs (hrF t n) k 0 (a + 4)).2.2] = (RL, PL, LL) := by rw [← hprs, prs_first (by decide) e1]; rfl
  have hge2 := rsq_ge hL3
  have hle := prs_le (t := t) (n := n) (k := k) (q := 0) (a := a + 4) (by omega)
  have hL2 := RT.fr (B := []) (k := N) ⟨rfl, LI.nil (E := E) (h := g_up h rd (1100, gO 14 [.ref tx, .int (nI (a + 4))])) (a := q_26) (t := T), fun i y b z => by simp at z⟩ f_36 (rPn (by omega) (by decide)) (rPn (by omega) (by decide)) (rPn (by omega) (by omega)) (rPn (by omega) (by omega))
  have hd3 := hd0.fr f_36 (rPn (by omega) (by decide)) (rPn (by omega) (by decide))
  have F1 : Fr (rP T) h h_36 := F0.tr (f_36.mono rP.m)
  refine V.wide (k' := 5 + (10 * ((prs (hrF t n) k 0 (a + 4)).2.1 - (a + 4)) + 8)) (n' := 70 * (5 + (10 * ((prs (hrF t n) k 0 (a + 4)).2.1 - (a + 4)) + 8))) (by show 5 + (10 * ((prs (hrF t n) k 0 (a + 4)).2.1 - (a + 4)) + 8) ≤ _; omega) (by show 70 * 5 + 70 * (10 * ((prs (hrF t n) k 0 (a + 4)).2.1 - (a + 4)) + 8) ≤ _; omega) ?_
  refine g_callF (ctJ21_add hL2.2.1 (by decide) hL2.ob hre.ob) uJ21_add q1834 q995 ⟨q993, q992, q998, q996, q994⟩ ⟨⟨by decide, by decide⟩, rfl⟩ (LI.at hL2.2.1).choose_spec rfl ⟨by show 6 + 1 ≤ (N + 1) + 20; omega, by show 8 + (2 + 11) + (170) ≤ 60 * (N + 1) + 700; omega⟩ ⟨by show 5 + (10 * ((prs (hrF t n) k 0 (a + 4)).2.1 - (a + 4)) + 8) + 1 ≤ 10 * w + 2; omega, by show 70 * (5 + (10 * ((prs (hrF t n) k 0 (a + 4)).2.1 - (a + 4)) + 8)) + 64 ≤ 70 * (10 * w + 2); omega⟩ rfl (Nat.le_of_ble_eq_true rfl) dX16_some_39 k_x (k_n (fun r_39 h_39 p_39 => ?_))
  obtain ⟨rfl, l_39, f_39⟩ := p_39
  have hL5 := hL2.add hre l_39 f_39 (by omega) (by omega)
  refine V.wide (k' := 5 + (10 * ((prs (hrF t n) k 0 (a + 4)).2.1 - (a + 4)) + 8) + 1) (n' := 70 * (5 + (10 * ((prs (hrF t n) k 0 (a + 4)).2.1 - (a + 4)) + 8) + 1)) (by show 5 + (10 * ((prs (hrF t n) k 0 (a + 4)).2.1 - (a + 4)) + 8) + 1 ≤ _; omega) (by show 70 * (5 + (10 * ((prs (hrF t n) k 0 (a + 4)).2.1 - (a + 4)) + 8)) + 64 ≤ _; omega) ?_
  refine g_pop dX16_some_44 (by first | rfl | exact cat_rf _) ?_
  exact KK q_26 _ _ _ hres _ _ _ _ _ _ (by omega) hle (by omega) hgt hL5 (Nat.le_refl 1) (by show 2 * 1 ≤ _; omega) (f_39 _ _ _ g2 (by omega)) (hd3.fr f_39 (by omega) (by omega)) (F1.tr f_39.lst) hL3 (by omega)
set_option maxHeartbeats 400000 in
theorem stX16_part {E : GE} {h : AH} {rd tx n N k a T w R1 P1 : Nat} {t : Nat → Nat} {L1 : List Att} (IH : ∀ (k a T : Nat) (h : AH), k ≤ N → a ≤ n → 4 * n + 3 ≤ k + 4 * a + 0 → 1200 ≤ T → h rd = some (1100, gO 14 [.ref tx, .int (nI a)]) → RD E h tx t n → Ct E cX16_policy (mX16_policy N ((prs (hrF t n) k 0 a).2.1 - a)) [.ref rd] h (pR fun r h' => (prs (hrF t n) k 0 a).1 = 1 ∧ h' rd = some (1100, gO 14 [.ref tx, .int (nI (prs (hrF t n) k 0 a).2.1)]) ∧ Rep E h' N r (obq 0 (prs (hrF t n) k 0 a).2.2) ∧ Fr (rP T) h h') (fun C x h' => C = "SecretVault$TextError" ∧ ¬ (prs (hrF t n) k 0 a).1 = 1 ∧ TEq (rP T) h h' x (prs (hrF t n) k 0 a).2.1)) (IHs : ∀ (k a T : Nat) (h : AH), k ≤ N → a < n → 4 * n + 3 ≤ k + 4 * a + 3 → 49 ≤ hrF t n a → hrF t n a ≤ 57 → 1200 ≤ T → h rd = some (1100, gO 14 [.ref tx, .int (nI a)]) → RD E h tx t n → Ct E cX16_some (mX16_some N ((smq (hrF t n) k a).2.1 - a)) [.ref rd] h (pR fun r h' => (smq (hrF t n) k a).1 = 1 ∧ h' rd = some (1100, gO 14 [.ref tx, .int (nI (smq (hrF t n) k a).2.1)]) ∧ Rep E h' N r (obq 2 (smq (hrF t n) k a).2.2) ∧ Fr (rP T) h h') (fun C x h' => C = "SecretVault$TextError" ∧ ¬ (smq (hrF t n) k a).1 = 1 ∧ TEq (rP T) h h' x (smq (hrF t n) k a).2.1)) (hk : k ≤ N + 1) (ha : a ≤ n) (hf : 4 * n + 3 ≤ k + 4 * a + 2) (hT : 1200 ≤ T) (hr : h rd = some (1100, gO 14 [.ref tx, .int (nI a)])) (hd : RD E h tx t n) (hres : prs (hrF t n) k 2 a = (R1, P1, L1)) (hw : w = P1 - a) : Ct E cX16_part (mX16_part (N + 1) w) [.ref rd] (h) (pR fun r h' => R1 = 1 ∧ h' rd = some (1100, gO 14 [.ref tx, .int (nI P1)]) ∧ Rep E h' (N + 1) r (obq 2 L1) ∧ Fr (rP T) h h') (fun C x h' => C = "SecretVault$TextError" ∧ ¬ R1 = 1 ∧ TEq (rP T) h h' x P1) := by
  refine g_enter (own := "SecretVault$Reader") [some (.ref rd), none] (show plainName yX16_part.cls = true by decide +kernel) rfl rfl (Nat.le_of_ble_eq_true rfl) rfl rfl (fun X => ?_)
  obtain ⟨k, rfl⟩ : ∃ k2, k = k2 + 1 := ⟨k - 1, by omega⟩
  have hn40 := hd.le
  have hvl := hv_lt hd a
  have hvl2 := hv_lt hd (a + 1)
  have hv40 := hvE t n a 40 (by decide) (by decide)
  have hv111 := hvE t n (a + 1) 111 (by decide) (by decide)
  have hi1 := hv_in (t := t) (n := n) (p := a) (lo := 56) (hi := 57) (by decide) (by decide)
  have hi2 := hv_in (t := t) (n := n) (p := a) (lo := 49) (hi := 55) (by decide) (by decide)
  have K : ∀ c, c < 2 → (c = 1 ↔ ((56 ≤ hrF t n a ∧ hrF t n a ≤ 57) ∨ (hrF t n (a + 1) = 111 ∧ 49 ≤ hrF t n a ∧ hrF t n a ≤ 55))) → ¬ hrF t n a = 40 → V E cX16_part "SecretVault$Reader" (mX16_part (N + 1) w) (pR fun r h' => R1 = 1 ∧ h' rd = some (1100, gO 14 [.ref tx, .int (nI P1)]) ∧ Rep E h' (N + 1) r (obq 2 L1) ∧ Fr (rP T) h h') (fun C x h' => C = "SecretVault$TextError" ∧ ¬ R1 = 1 ∧ TEq (rP T) h h' x P1) X (h) 0 0 74 [some (.ref rd), none] [.int (nI c)] := by
    intro c hc0 hc1 h40
    refine g_istore1 dX16_part_74 (show ¬ 1 = 255 + 1 by decide) ?_
    refine g_iload1 dX16_part_75 ?_
    first | refine g_ifN_eq (tgt := 86) dX16_part_76 (by decide) (by omega) (fun c_76 => ?_) (fun c_76 => ?_) | refine g_if_eq (tgt := 86) dX16_part_76 (by decide) (fun c_76 => ?_) (fun c_76 => ?_)
    · refine g_new 17 (7) [.int 0] in_X19 tyX19_ok q1850 q1851 q115 rfl nwX19 (by show 0 + 1 ≤ 10 * w + 2; omega) (by show 0 + 1 ≤ 70 * (10 * w + 2); omega) dX16_part_86 (fun q_86 f_86 => ?_)
      have g0 := g_upf (z := (7, gO 17 [.int 0])) hr f_86
      have hd0 := hd.fr (Fr.new (P := F0r) (z := (7, gO 17 [.int 0])) f_86) id id
      refine g_dup dX16_part_89 rfl ?_
      first | refine g_aload0 dX16_part_90 ?_ | refine g_aloadQ0 dX16_part_90 ?_ | refine g_aloadN0 dX16_part_90 ?_
      refine g_iconst (nI 0) dX16_part_91 (by decide) ?_
      refine g_bipush (nI 7) dX16_part_92 (by decide) ?_
      refine g_callVR (ctX16_digit 0 7 g0 hd0 (by omega) (by decide)) kX16_digit q1638 (gRv.g g0 rfl rfl) ⟨by show 8 + 1 ≤ (N + 1) + 20; omega, by show 8 + (3 + 11) + (162) ≤ 60 * (N + 1) + 700; omega⟩ ⟨by show _ + 1 ≤ 10 * w + 2; omega, by show _ + 7 ≤ 70 * (10 * w + 2); omega⟩ rfl (Nat.le_of_ble_eq_true rfl) dX16_part_94 (fun C_ q_ h2_ px => by obtain ⟨rfl, m_94, t_94⟩ := px; have hx : ¬ ((56 ≤ hrF t n a ∧ hrF t n a ≤ 57) ∨ (hrF t n (a + 1) = 111 ∧ 49 ≤ hrF t n a ∧ hrF t n a ≤ 55)) := fun z => (by have := hc1.mpr z; omega); rw [prs_of h40 (by omega)] at hres; obtain ⟨z1, z2, z3⟩ := pj hres; subst z1 z2; exact gx_out0 rfl ⟨rfl, Nat.zero_ne_one, TEq.tr0 (Fr.new f_86) (TEf.q g0 t_94)⟩ (by show 0 + 1 + 1 ≤ 10 * w + 2; omega) (by show 0 + 1 + 7 ≤ 70 * (10 * w + 2); omega)) (k_n (fun r_94 h_94 p_94 => ?_))
      obtain ⟨rfl, d_94, z_94⟩ := p_94
      rw [z_94]
      have hx : ¬ ((56 ≤ hrF t n a ∧ hrF t n a ≤ 57) ∨ (hrF t n (a + 1) = 111 ∧ 49 ≤ hrF t n a ∧ hrF t n a ≤ 55)) := fun z => by have := hc1.mpr z; omega
      rw [prs_on ⟨by omega, by omega⟩ (by omega)] at hres
      obtain ⟨z1, z2, z3⟩ := pj hres
      subst z1 z2 z3
      have q1 := g_upt (x' := gO 14 [.ref tx, .int (nI (a + 1))]) (g_up_self h q_86 (7, gO 17 [.int 0])) g0 (by decide)
      refine V.wide (k' := 2) (n' := 70 * (2)) (by show 0 + 1 + 1 ≤ _; omega) (by show 0 + 1 + 7 ≤ _; omega) ?_
      refine g_callI (ctX19_init q1) kX19_init q1852 ⟨by show 2 + 1 ≤ (N + 1) + 20; omega, by show 8 + (2 + 11) + (40) ≤ 60 * (N + 1) + 700; omega⟩ ⟨by show _ + 0 ≤ 10 * w + 2; omega, by show _ + 0 ≤ 70 * (10 * w + 2); omega⟩ rfl (Nat.le_of_ble_eq_true rfl) dX16_part_97 k_x (k_v (fun h_97 p_97 => ?_))
      rw [p_97]
      refine V.wide (k' := 2) (n' := 70 * (2)) (by show 2 + 0 ≤ _; omega) (by show 70 * 2 + 0 ≤ _; omega) ?_
      exact g_aret (hk := by show _ ≤ 10 * w + 2; omega) (hn := by show _ ≤ 70 * (10 * w + 2); omega) dX16_part_100 rfl (Or.inl ⟨_, rfl⟩) ⟨_, rfl, rfl, g_upt (g_up_self _ _ _) q1 (by decide), Or.inl ⟨hrF t n a - 48, by omega, rfl, g_up_self _ _ _⟩, ((Fr.new f_86).tr (Fr.put g0 (Or.inl rfl))).upn f_86⟩
    · have hx := hc1.mp (by omega)
      have h40 : ¬ hrF t n a = 40 := by omega
      have han := (hr_in (t := t) (n := n) (p := a) (lo := 1) (by decide) (by omega)).1
      rw [prs_sm h40 hx] at hres
      have hsw : (smq (hrF t n) k a).2.1 = P1 := by rw [hres]
      first | refine g_aload0 dX16_part_79 ?_ | refine g_aloadQ0 dX16_part_79 ?_ | refine g_aloadN0 dX16_part_79 ?_
      refine g_callVR (IHs k a T _ (by omega) (by omega) (by omega) (by omega) (by omega) hT hr hd) (kX16_some _ _) q1829 (gRv.g hr rfl rfl) ⟨by show N + 20 + 1 ≤ (N + 1) + 20; omega, by show 8 + (3 + 11) + (60 * N + 700) ≤ 60 * (N + 1) + 700; omega⟩ ⟨by show 0 + (10 * ((smq (hrF t n) k a).2.1 - a) + 2) ≤ 10 * w + 2; omega, by show 0 + 70 * (10 * ((smq (hrF t n) k a).2.1 - a) + 2) ≤ 70 * (10 * w + 2); omega⟩ rfl (Nat.le_of_ble_eq_true rfl) dX16_part_80 (fun C_ q_ h2_ px => by obtain ⟨rfl, m_80, t_80⟩ := px; rw [hres] at m_80 t_80; exact gx_out0 rfl ⟨rfl, m_80, t_80⟩ (by show 0 + (10 * ((smq (hrF t n) k a).2.1 - a) + 2) ≤ 10 * w + 2; omega) (by show 0 + 70 * (10 * ((smq (hrF t n) k a).2.1 - a) + 2) ≤ 70 * (10 * w + 2); omega)) (k_r (fun r_80 h_80 p_80 => ?_))
      obtain ⟨e1, g2, hre, f_80⟩ := p_80
      rw [hres] at e1 g2 hre
      refine g_goto (tgt := 100) dX16_part_83 (by decide) ?_
      exact g_aret (hk := by show 0 + (10 * ((smq (hrF t n) k a).2.1 - a) + 2) ≤ 10 * w + 2; omega) (hn := by show 0 + 70 * (10 * ((smq (hrF t n) k a).2.1 - a) + 2) ≤ 70 * (10 * w + 2); omega) dX16_part_100 rfl (Or.inl ⟨_, rfl⟩) ⟨_, rfl, e1, g2, hre.up, f_80⟩
  first | refine g_aload0 dX16_part_0 ?_ | refine g_aloadQ0 dX16_part_0 ?_ | refine g_aloadN0 dX16_part_0 ?_
  refine g_callVR (ctX16_here hr hd (by omega)) kX16_here q1642 (gRv.g hr rfl rfl) ⟨by show 4 + 1 ≤ (N + 1) + 20; omega, by show 8 + (1 + 11) + (85) ≤ 60 * (N + 1) + 700; omega⟩ ⟨by show _ + 0 ≤ 10 * w + 2; omega, by show _ + 0 ≤ 70 * (10 * w + 2); omega⟩ rfl (Nat.le_of_ble_eq_true rfl) dX16_part_1 k_x (k_n (fun r_1 h_1 p_1 => ?_))
  obtain ⟨rfl, z_1⟩ := p_1
  rw [z_1]
  refine V.wide (k' := 0) (n' := 70 * (0)) (by show 0 + 0 ≤ _; omega) (by show 0 + 0 ≤ _; omega) ?_
  refine g_bipush (nI 40) dX16_part_4 (by decide) ?_
  first | refine g_icmpN_ne (tgt := 32) dX16_part_6 (by decide) (by omega) (by omega) (fun c_6 => ?_) (fun c_6 => ?_) | refine g_icmpU_ne (tgt := 32) dX16_part_6 (by decide) (by omega) (by omega) (fun c_6 => ?_) (fun c_6 => ?_) | refine g_icmp_ne (tgt := 32) dX16_part_6 (by decide) (fun c_6 => ?_) (fun c_6 => ?_)
  · first | refine g_aload0 dX16_part_32 ?_ | refine g_aloadQ0 dX16_part_32 ?_ | refine g_aloadN0 dX16_part_32 ?_
    refine g_callVR (ctX16_here hr hd (by omega)) kX16_here q1642 (gRv.g hr rfl rfl) ⟨by show 4 + 1 ≤ (N + 1) + 20; omega, by show 8 + (1 + 11) + (85) ≤ 60 * (N + 1) + 700; omega⟩ ⟨by show _ + 0 ≤ 10 * w + 2; omega, by show _ + 0 ≤ 70 * (10 * w + 2); omega⟩ rfl (Nat.le_of_ble_eq_true rfl) dX16_part_33 k_x (k_n (fun r_33 h_33 p_33 => ?_))
    obtain ⟨rfl, z_33⟩ := p_33
    rw [z_33]
    refine V.wide (k' := 0) (n' := 70 * (0)) (by show 0 + 0 ≤ _; omega) (by show 0 + 0 ≤ _; omega) ?_
    refine g_bipush (nI 56) dX16_part_36 (by decide) ?_
    refine g_bipush (nI 57) dX16_part_38 (by decide) ?_
    refine g_callSN (ctX1_in _ _ _ (by omega) (by omega) (by omega)) kX1_in q1662 ⟨by show 0 + 1 ≤ (N + 1) + 20; omega, by show 8 + (3 + 11) + (0) ≤ 60 * (N + 1) + 700; omega⟩ ⟨by show _ + 0 ≤ 10 * w + 2; omega, by show _ + 0 ≤ 70 * (10 * w + 2); omega⟩ rfl (Nat.le_of_ble_eq_true rfl) dX16_part_40 k_x (k_n (fun r_40 h_40 p_40 => ?_))
    obtain ⟨b_40, i_40, z_40⟩ := p_40
    rw [z_40]
    refine V.wide (k' := 0) (n' := 70 * (0)) (by show 0 + 0 ≤ _; omega) (by show 0 + 0 ≤ _; omega) ?_
    first | refine g_ifN_ne (tgt := 69) dX16_part_43 (by decide) (by omega) (fun c_43 => ?_) (fun c_43 => ?_) | refine g_if_ne (tgt := 69) dX16_part_43 (by decide) (fun c_43 => ?_) (fun c_43 => ?_)
    · refine g_iconst (nI 1) dX16_part_69 (by decide) ?_
      refine g_goto (tgt := 74) dX16_part_70 (by decide) ?_
      exact K _ (by decide) (by first | exact ⟨fun _ => by first | exact Or.inl (hi1.mp (i_40.mp (by omega))) | exact Or.inr ⟨hv111.mp (by omega), hi2.mp (i_63.mp (by omega))⟩, fun _ => rfl⟩ | exact ⟨fun z => absurd z (by decide), fun z => by rcases z with z | z; (have := i_40.mpr (hi1.mpr z); omega); first | (have := hv111.mpr z.1; omega) | (have := i_63.mpr (hi2.mpr z.2); omega)⟩) (fun z => by have := hv40.mpr z; omega)
    · first | refine g_aload0 dX16_part_46 ?_ | refine g_aloadQ0 dX16_part_46 ?_ | refine g_aloadN0 dX16_part_46 ?_
      refine g_callVR (ctX16_after hr hd (by omega)) kX16_after q1825 (gRv.g hr rfl rfl) ⟨by show 4 + 1 ≤ (N + 1) + 20; omega, by show 8 + (1 + 11) + (85) ≤ 60 * (N + 1) + 700; omega⟩ ⟨by show _ + 0 ≤ 10 * w + 2; omega, by show _ + 0 ≤ 70 * (10 * w + 2); omega⟩ rfl (Nat.le_of_ble_eq_true rfl) dX16_part_47 k_x (k_n (fun r_47 h_47 p_47 => ?_))
      obtain ⟨rfl, z_47⟩ := p_47
      rw [z_47]
      refine V.wide (k' := 0) (n' := 70 * (0)) (by show 0 + 0 ≤ _; omega) (by show 0 + 0 ≤ _; omega) ?_
      refine g_bipush (nI 111) dX16_part_50 (by decide) ?_
      first | refine g_icmpN_ne (tgt := 73) dX16_part_52 (by decide) (by omega) (by omega) (fun c_52 => ?_) (fun c_52 => ?_) | refine g_icmpU_ne (tgt := 73) dX16_part_52 (by decide) (by omega) (by omega) (fun c_52 => ?_) (fun c_52 => ?_) | refine g_icmp_ne (tgt := 73) dX16_part_52 (by decide) (fun c_52 => ?_) (fun c_52 => ?_)
      · refine g_iconst (nI 0) dX16_part_73 (by decide) ?_
        exact K _ (by decide) (by first | exact ⟨fun _ => by first | exact Or.inl (hi1.mp (i_40.mp (by omega))) | exact Or.inr ⟨hv111.mp (by omega), hi2.mp (i_63.mp (by omega))⟩, fun _ => rfl⟩ | exact ⟨fun z => absurd z (by decide), fun z => by rcases z with z | z; (have := i_40.mpr (hi1.mpr z); omega); first | (have := hv111.mpr z.1; omega) | (have := i_63.mpr (hi2.mpr z.2); omega)⟩) (fun z => by have := hv40.mpr z; omega)
      · first | refine g_aload0 dX16_part_55 ?_ | refine g_aloadQ0 dX16_part_55 ?_ | refine g_aloadN0 dX16_part_55 ?_
        refine g_callVR (ctX16_here hr hd (by omega)) kX16_here q1642 (gRv.g hr rfl rfl) ⟨by show 4 + 1 ≤ (N + 1) + 20; omega, by show 8 + (1 + 11) + (85) ≤ 60 * (N + 1) + 700; omega⟩ ⟨by show _ + 0 ≤ 10 * w + 2; omega, by show _ + 0 ≤ 70 * (10 * w + 2); omega⟩ rfl (Nat.le_of_ble_eq_true rfl) dX16_part_56 k_x (k_n (fun r_56 h_56 p_56 => ?_))
        obtain ⟨rfl, z_56⟩ := p_56
        rw [z_56]
        refine V.wide (k' := 0) (n' := 70 * (0)) (by show 0 + 0 ≤ _; omega) (by show 0 + 0 ≤ _; omega) ?_
        refine g_bipush (nI 49) dX16_part_59 (by decide) ?_
        refine g_bipush (nI 55) dX16_part_61 (by decide) ?_
        refine g_callSN (ctX1_in _ _ _ (by omega) (by omega) (by omega)) kX1_in q1662 ⟨by show 0 + 1 ≤ (N + 1) + 20; omega, by show 8 + (3 + 11) + (0) ≤ 60 * (N + 1) + 700; omega⟩ ⟨by show _ + 0 ≤ 10 * w + 2; omega, by show _ + 0 ≤ 70 * (10 * w + 2); omega⟩ rfl (Nat.le_of_ble_eq_true rfl) dX16_part_63 k_x (k_n (fun r_63 h_63 p_63 => ?_))
        obtain ⟨b_63, i_63, z_63⟩ := p_63
        rw [z_63]
        refine V.wide (k' := 0) (n' := 70 * (0)) (by show 0 + 0 ≤ _; omega) (by show 0 + 0 ≤ _; omega) ?_
        first | refine g_ifN_eq (tgt := 73) dX16_part_66 (by decide) (by omega) (fun c_66 => ?_) (fun c_66 => ?_) | refine g_if_eq (tgt := 73) dX16_part_66 (by decide) (fun c_66 => ?_) (fun c_66 => ?_)
        · refine g_iconst (nI 0) dX16_part_73 (by decide) ?_
          exact K _ (by decide) (by first | exact ⟨fun _ => by first | exact Or.inl (hi1.mp (i_40.mp (by omega))) | exact Or.inr ⟨hv111.mp (by omega), hi2.mp (i_63.mp (by omega))⟩, fun _ => rfl⟩ | exact ⟨fun z => absurd z (by decide), fun z => by rcases z with z | z; (have := i_40.mpr (hi1.mpr z); omega); first | (have := hv111.mpr z.1; omega) | (have := i_63.mpr (hi2.mpr z.2); omega)⟩) (fun z => by have := hv40.mpr z; omega)
        · refine g_iconst (nI 1) dX16_part_69 (by decide) ?_
          refine g_goto (tgt := 74) dX16_part_70 (by decide) ?_
          exact K _ (by decide) (by first | exact ⟨fun _ => by first | exact Or.inl (hi1.mp (i_40.mp (by omega))) | exact Or.inr ⟨hv111.mp (by omega), hi2.mp (i_63.mp (by omega))⟩, fun _ => rfl⟩ | exact ⟨fun z => absurd z (by decide), fun z => by rcases z with z | z; (have := i_40.mpr (hi1.mpr z); omega); first | (have := hv111.mpr z.1; omega) | (have := i_63.mpr (hi2.mpr z.2); omega)⟩) (fun z => by have := hv40.mpr z; omega)
  · have hx : hrF t n a = 40 := hv40.mp (by omega)
    have han := (hr_in (t := t) (n := n) (p := a) (lo := 1) (by decide) (by omega)).1
    obtain ⟨RL, PL, LL, hprs⟩ : ∃ RL PL LL, prs (hrF t n) k 0 (a + 1) = (RL, PL, LL) := ⟨_, _, _, rfl⟩
    rw [prs_br hx hprs] at hres
    have hPL := prr_ge hres
    have hgs := prs_ge (hrF t n) k 0 (a + 1)
    have hE : (prs (hrF t n) k 0 (a + 1)).2.1 = PL := by rw [hprs]
    have hd2 := hd.fr (Fr.put (P := fun u => u = 1100) (e' := gO 14 [.ref tx, .int (nI (a + 1))]) hr rfl) (by decide) (by decide)
    first | refine g_aload0 dX16_part_9 ?_ | refine g_aloadQ0 dX16_part_9 ?_ | refine g_aloadN0 dX16_part_9 ?_
    refine g_dup dX16_part_10 rfl ?_
    refine g_get (k0 := 1) (by first | assumption | exact g_up_self _ _ _ | (refine g_upf ?_ ?_ <;> assumption) | (refine g_upt ?_ ?_ (by decide) <;> assumption)) in_X16 q1624 rfl (by decide) rfl dX16_part_11 ?_
    refine g_iconst (nI 1) dX16_part_14 (by decide) ?_
    first | refine g_iaddN dX16_part_15 ?_ | refine g_iadd dX16_part_15 ?_
    refine g_put (k0 := 1) (by first | assumption | exact g_up_self _ _ _ | (refine g_upf ?_ ?_ <;> assumption) | (refine g_upt ?_ ?_ (by decide) <;> assumption)) in_X16 q1624 tyX16_ok nmX16 rfl (by decide) rfl (by rfl) (by rfl) (Nat.le_of_ble_eq_true rfl) dX16_part_16 ?_
    first | refine g_aload0 dX16_part_19 ?_ | refine g_aloadQ0 dX16_part_19 ?_ | refine g_aloadN0 dX16_part_19 ?_
    refine g_callVR (IH k (a + 1) T _ (by omega) (by omega) (by omega) hT (g_up_self _ _ _) hd2) (kX16_policy _ _) q1811 (gRv.g (g_up_self _ _ _) rfl rfl) ⟨by show N + 20 + 1 ≤ (N + 1) + 20; omega, by show 8 + (2 + 11) + (60 * N + 700) ≤ 60 * (N + 1) + 700; omega⟩ ⟨by show 0 + (10 * ((prs (hrF t n) k 0 (a + 1)).2.1 - (a + 1)) + 8) ≤ 10 * w + 2; omega, by show 0 + 70 * (10 * ((prs (hrF t n) k 0 (a + 1)).2.1 - (a + 1)) + 8) ≤ 70 * (10 * w + 2); omega⟩ rfl (Nat.le_of_ble_eq_true rfl) dX16_part_20 (fun C_ q_ h2_ px => by obtain ⟨rfl, m_20, t_20⟩ := px; rw [hprs] at m_20 t_20; rw [prr_n m_20] at hres; obtain ⟨z1, z2, z3⟩ := pj hres; subst z1 z2; exact gx_out0 rfl ⟨rfl, Nat.zero_ne_one, TEq.tr0 (Fr.put hr (Or.inl rfl)) t_20⟩ (by show 0 + (10 * ((prs (hrF t n) k 0 (a + 1)).2.1 - (a + 1)) + 8) ≤ 10 * w + 2; omega) (by show 0 + 70 * (10 * ((prs (hrF t n) k 0 (a + 1)).2.1 - (a + 1)) + 8) ≤ 70 * (10 * w + 2); omega)) (k_r (fun r_20 h_20 p_20 => ?_))
    obtain ⟨e1, g2, hre, f_20⟩ := p_20
    have hd3 := hd2.fr f_20 (rPn (by omega) (by decide)) (rPn (by omega) (by decide))
    rw [hprs] at e1 g2 hre
    have e1 : RL = 1 := e1
    subst e1
    have hle := prs_le (t := t) (n := n) (k := k) (q := 0) (a := a + 1) (by omega)
    rw [hprs] at hle
    have hle : PL ≤ n := hle
    have g2 : h_20 rd = some (1100, gO 14 [.ref tx, .int (nI PL)]) := g2
    have F1 := (Fr.put (P := rP T) (e' := gO 14 [.ref tx, .int (nI (a + 1))]) hr (Or.inl rfl)).tr f_20
    refine V.wide (k' := 0 + (10 * ((prs (hrF t n) k 0 (a + 1)).2.1 - (a + 1)) + 8)) (n' := 70 * (0 + (10 * ((prs (hrF t n) k 0 (a + 1)).2.1 - (a + 1)) + 8))) (by show 0 + (10 * ((prs (hrF t n) k 0 (a + 1)).2.1 - (a + 1)) + 8) ≤ _; omega) (by show 0 + 70 * (10 * ((prs (hrF t n) k 0 (a + 1)).2.1 - (a + 1)) + 8) ≤ _; omega) ?_
    first | refine g_astore1 dX16_part_23 (show ¬ 1 = 255 + 1 by decide) ?_ | refine g_astoreQ1 dX16_part_23 (show ¬ 1 = 255 + 1 by decide) ?_ | refine g_astoreN1 dX16_part_23 (show ¬ 1 = 255 + 1 by decide) ?_
    first | refine g_aload0 dX16_part_24 ?_ | refine g_aloadQ0 dX16_part_24 ?_ | refine g_aloadN0 dX16_part_24 ?_
    refine g_bipush (nI 41) dX16_part_25 (by decide) ?_
    refine g_callVR (ctX16_take 41 g2 hd3 (by omega) ⟨by decide, by decide⟩) kX16_take q1686 (gRv.g g2 rfl rfl) ⟨by show 8 + 1 ≤ (N + 1) + 20; omega, by show 8 + (2 + 11) + (162) ≤ 60 * (N + 1) + 700; omega⟩ ⟨by show 0 + (10 * ((prs (hrF t n) k 0 (a + 1)).2.1 - (a + 1)) + 8) + 1 ≤ 10 * w + 2; omega, by show 70 * (0 + (10 * ((prs (hrF t n) k 0 (a + 1)).2.1 - (a + 1)) + 8)) + 7 ≤ 70 * (10 * w + 2); omega⟩ rfl (Nat.le_of_ble_eq_true rfl) dX16_part_27 (fun C_ q_ h2_ px => by obtain ⟨rfl, m_27, t_27⟩ := px; rw [prr_m m_27] at hres; obtain ⟨z1, z2, z3⟩ := pj hres; subst z1 z2; exact gx_out0 rfl ⟨rfl, Nat.zero_ne_one, TEq.tr0 F1 (TEf.q g2 t_27)⟩ (by show 0 + (10 * ((prs (hrF t n) k 0 (a + 1)).2.1 - (a + 1)) + 8) + 1 ≤ 10 * w + 2; omega) (by show 70 * (0 + (10 * ((prs (hrF t n) k 0 (a + 1)).2.1 - (a + 1)) + 8)) + 7 ≤ 70 * (10 * w + 2); omega)) (k_v (fun h_27 p_27 => ?_))
    obtain ⟨m_27, z_27⟩ := p_27
    rw [z_27]
    rw [prr_y m_27] at hres
    obtain ⟨z1, z2, z3⟩ := pj hres
    subst z1 z2 z3
    refine V.wide (k' := 0 + (10 * ((prs (hrF t n) k 0 (a + 1)).2.1 - (a + 1)) + 8) + 1) (n' := 70 * (0 + (10 * ((prs (hrF t n) k 0 (a + 1)).2.1 - (a + 1)) + 8) + 1)) (by show 0 + (10 * ((prs (hrF t n) k 0 (a + 1)).2.1 - (a + 1)) + 8) + 1 ≤ _; omega) (by show 70 * (0 + (10 * ((prs (hrF t n) k 0 (a + 1)).2.1 - (a + 1)) + 8)) + 7 ≤ _; omega) ?_
    first | refine g_aload1 dX16_part_30 ?_ | refine g_aloadQ1 dX16_part_30 ?_ | refine g_aloadN1 dX16_part_30 ?_
    exact g_aret (hk := by show 0 + (10 * ((prs (hrF t n) k 0 (a + 1)).2.1 - (a + 1)) + 8) + 1 ≤ 10 * w + 2; omega) (hn := by show 70 * (0 + (10 * ((prs (hrF t n) k 0 (a + 1)).2.1 - (a + 1)) + 8) + 1) ≤ 70 * (10 * w + 2); omega) dX16_part_31 rfl (Or.inl ⟨_, rfl⟩) ⟨_, rfl, rfl, g_up_self _ _ _, (hre.fr (Fr.put (P := fun u => u = 1100) g2 rfl) (by decide) (by decide)).up, F1.tr (Fr.put g2 (Or.inl rfl))⟩
theorem ctX16_reads {E : GE} {rd tx n : Nat} {t : Nat → Nat} (N : Nat) : (∀ (k a T : Nat) (h : AH), k ≤ N → a ≤ n → 4 * n + 3 ≤ k + 4 * a + 0 → 1200 ≤ T → h rd = some (1100, gO 14 [.ref tx, .int (nI a)]) → RD E h tx t n → Ct E cX16_policy (mX16_policy N ((prs (hrF t n) k 0 a).2.1 - a)) [.ref rd] h (pR fun r h' => (prs (hrF t n) k 0 a).1 = 1 ∧ h' rd = some (1100, gO 14 [.ref tx, .int (nI (prs (hrF t n) k 0 a).2.1)]) ∧ Rep E h' N r (obq 0 (prs (hrF t n) k 0 a).2.2) ∧ Fr (rP T) h h') (fun C x h' => C = "SecretVault$TextError" ∧ ¬ (prs (hrF t n) k 0 a).1 = 1 ∧ TEq (rP T) h h' x (prs (hrF t n) k 0 a).2.1)) ∧ (∀ (k a T : Nat) (h : AH), k ≤ N → a ≤ n → 4 * n + 3 ≤ k + 4 * a + 1 → 1200 ≤ T → h rd = some (1100, gO 14 [.ref tx, .int (nI a)]) → RD E h tx t n → Ct E cX16_all (mX16_all N ((prs (hrF t n) k 1 a).2.1 - a)) [.ref rd] h (pR fun r h' => (prs (hrF t n) k 1 a).1 = 1 ∧ h' rd = some (1100, gO 14 [.ref tx, .int (nI (prs (hrF t n) k 1 a).2.1)]) ∧ Rep E h' N r (obq 1 (prs (hrF t n) k 1 a).2.2) ∧ Fr (rP T) h h') (fun C x h' => C = "SecretVault$TextError" ∧ ¬ (prs (hrF t n) k 1 a).1 = 1 ∧ TEq (rP T) h h' x (prs (hrF t n) k 1 a).2.1)) ∧ (∀ (k a T : Nat) (h : AH), k ≤ N → a ≤ n → 4 * n + 3 ≤ k + 4 * a + 2 → 1200 ≤ T → h rd = some (1100, gO 14 [.ref tx, .int (nI a)]) → RD E h tx t n → Ct E cX16_part (mX16_part N ((prs (hrF t n) k 2 a).2.1 - a)) [.ref rd] h (pR fun r h' => (prs (hrF t n) k 2 a).1 = 1 ∧ h' rd = some (1100, gO 14 [.ref tx, .int (nI (prs (hrF t n) k 2 a).2.1)]) ∧ Rep E h' N r (obq 2 (prs (hrF t n) k 2 a).2.2) ∧ Fr (rP T) h h') (fun C x h' => C = "SecretVault$TextError" ∧ ¬ (prs (hrF t n) k 2 a).1 = 1 ∧ TEq (rP T) h h' x (prs (hrF t n) k 2 a).2.1)) ∧ (∀ (k a T : Nat) (h : AH), k ≤ N → a < n → 4 * n + 3 ≤ k + 4 * a + 3 → 49 ≤ hrF t n a → hrF t n a ≤ 57 → 1200 ≤ T → h rd = some (1100, gO 14 [.ref tx, .int (nI a)]) → RD E h tx t n → Ct E cX16_some (mX16_some N ((smq (hrF t n) k a).2.1 - a)) [.ref rd] h (pR fun r h' => (smq (hrF t n) k a).1 = 1 ∧ h' rd = some (1100, gO 14 [.ref tx, .int (nI (smq (hrF t n) k a).2.1)]) ∧ Rep E h' N r (obq 2 (smq (hrF t n) k a).2.2) ∧ Fr (rP T) h h') (fun C x h' => C = "SecretVault$TextError" ∧ ¬ (smq (hrF t n) k a).1 = 1 ∧ TEq (rP T) h h' x (smq (hrF t n) k a).2.1)) := by
  induction N with
  | zero => exact ⟨fun k a T h hk ha hf => absurd hf (by omega), fun k a T h hk ha hf => absurd hf (by omega), fun k a T h hk ha hf => absurd hf (by omega), fun k a T h hk ha hf => absurd hf (by omega)⟩
  | succ N ih =>
    obtain ⟨i0, i1, i2, i3⟩ := ih
    exact ⟨fun k a T h hk ha hf hT hr hd => stX16_policy i1 hk ha hf hT hr hd rfl rfl, fun k a T h hk ha hf hT hr hd => stX16_all i2 hk ha hf hT hr hd rfl rfl, fun k a T h hk ha hf hT hr hd => stX16_part i0 i3 hk ha hf hT hr hd rfl rfl, fun k a T h hk ha hf hc hc2 hT hr hd => stX16_some i0 hk ha hf hc hc2 hT hr hd rfl rfl⟩
abbrev mX16_wholePolicy : GM := (yX16_wholePolicy, 2, (some (.object "SecretVault$Policy")), [], { frames := 240, cells := 420, slots := 29400, locals := 13000 }, 255)
theorem kX16_wholePolicy : gCv cX16_wholePolicy mX16_wholePolicy 0 := ⟨q1808, q1809, q112, q1810, ⟨by decide +kernel, by decide +kernel, by decide +kernel⟩, rfl⟩
theorem uX16_wholePolicy : gCu cX16_wholePolicy mX16_wholePolicy 0 := ⟨q1808, q112, q1810, ⟨by decide +kernel, by decide +kernel, by decide +kernel⟩, rfl⟩
set_option maxHeartbeats 400000 in
theorem ctX16_wholePolicy {E : GE} {h : AH} {rd tx n : Nat} {t : Nat → Nat} (hr : h rd = some (1100, gO 14 [.ref tx, .int (nI 0)])) (hd : RD E h tx t n) : Ct E cX16_wholePolicy mX16_wholePolicy [.ref rd] (h) (pR fun r h' => ((prs (hrF t n) 200 0 0).1 = 1 ∧ (prs (hrF t n) 200 0 0).2.1 = n) ∧ Rep E h' 200 r (obq 0 (prs (hrF t n) 200 0 0).2.2) ∧ Fr (rP 1200) h h') (fun C x h' => C = "SecretVault$TextError" ∧ ¬ ((prs (hrF t n) 200 0 0).1 = 1 ∧ (prs (hrF t n) 200 0 0).2.1 = n) ∧ TEq (rP 1200) h h' x (prs (hrF t n) 200 0 0).2.1) := by
  refine g_enter (own := "SecretVault$Reader") [some (.ref rd), none] (by decide +kernel) rfl rfl (Nat.le_of_ble_eq_true rfl) rfl rfl (fun X => ?_)
  have hn40 := hd.le
  have hle := prs_le (t := t) (n := n) (k := 200) (q := 0) (a := 0) (Nat.zero_le _)
  first | refine g_aload0 dX16_wholePolicy_0 ?_ | refine g_aloadQ0 dX16_wholePolicy_0 ?_ | refine g_aloadN0 dX16_wholePolicy_0 ?_
  refine g_callVR ((ctX16_reads 200).1 200 0 1200 h (Nat.le_refl _) (Nat.zero_le _) (by omega) (Nat.le_refl _) hr hd) (kX16_policy _ _) q1811 (gRv.g hr rfl rfl) ⟨by show 200 + 20 + 1 ≤ 240; decide, by show 8 + (2 + 11) + (60 * 200 + 700) ≤ 13000; decide⟩ ⟨by show 0 + (10 * ((prs (hrF t n) 200 0 0).2.1 - 0) + 8) ≤ 420; omega, by show 0 + 70 * (10 * ((prs (hrF t n) 200 0 0).2.1 - 0) + 8) ≤ 29400; omega⟩ rfl (Nat.le_of_ble_eq_true rfl) dX16_wholePolicy_1 (fun C_ q_ h2_ px => by obtain ⟨rfl, m_1, t_1⟩ := px; exact gx_out0 rfl ⟨rfl, fun z => m_1 z.1, t_1⟩ (by show 0 + (10 * ((prs (hrF t n) 200 0 0).2.1 - 0) + 8) ≤ 420; omega) (by show 0 + 70 * (10 * ((prs (hrF t n) 200 0 0).2.1 - 0) + 8) ≤ 29400; omega)) (k_r (fun r_1 h_1 p_1 => ?_))
  obtain ⟨e1, g2, hre, f_1⟩ := p_1
  have hd3 := hd.fr f_1 (rPn (by decide) (by decide)) (rPn (by decide) (by decide))
  refine V.wide (k' := 408) (n' := 28560) (by show 0 + (10 * ((prs (hrF t n) 200 0 0).2.1 - 0) + 8) ≤ 408; omega) (by show 0 + 70 * (10 * ((prs (hrF t n) 200 0 0).2.1 - 0) + 8) ≤ 28560; omega) ?_
  first | refine g_astore1 dX16_wholePolicy_4 (by decide) ?_ | refine g_astoreQ1 dX16_wholePolicy_4 (by decide) ?_ | refine g_astoreN1 dX16_wholePolicy_4 (by decide) ?_
  first | refine g_aload0 dX16_wholePolicy_5 ?_ | refine g_aloadQ0 dX16_wholePolicy_5 ?_ | refine g_aloadN0 dX16_wholePolicy_5 ?_
  first | refine g_aload0 dX16_wholePolicy_6 ?_ | refine g_aloadQ0 dX16_wholePolicy_6 ?_ | refine g_aloadN0 dX16_wholePolicy_6 ?_
  refine g_callVR (ctX16_here g2 hd3 (by omega)) kX16_here q1642 (gRv.g g2 rfl rfl) (by decide) ⟨Nat.le_of_ble_eq_true rfl, Nat.le_of_ble_eq_true rfl⟩ rfl (Nat.le_of_ble_eq_true rfl) dX16_wholePolicy_7 k_x (k_n (fun r_7 h_7 p_7 => ?_))
  obtain ⟨rfl, z_7⟩ := p_7
  rw [z_7]
  have hv := hv_lt hd3 (prs (hrF t n) 200 0 0).2.1
  have he := hv_end hd3 (prs (hrF t n) 200 0 0).2.1
  refine g_iconst (nI 4294967295) dX16_wholePolicy_10 (by decide) ?_
  first | refine g_icmpN_ne (tgt := 18) dX16_wholePolicy_11 (by decide) (by omega) (by omega) (fun c_11 => ?_) (fun c_11 => ?_) | refine g_icmpU_ne (tgt := 18) dX16_wholePolicy_11 (by decide) (by omega) (by omega) (fun c_11 => ?_) (fun c_11 => ?_) | refine g_icmp_ne (tgt := 18) dX16_wholePolicy_11 (by decide) (fun c_11 => ?_) (fun c_11 => ?_)
  · refine g_iconst (nI 0) dX16_wholePolicy_18 (by decide) ?_
    refine g_callVR (ctX16_need _ g2 (by omega)) kX16_need q1663 (gRv.g g2 rfl rfl) (by decide) ⟨Nat.le_of_ble_eq_true rfl, Nat.le_of_ble_eq_true rfl⟩ rfl (Nat.le_of_ble_eq_true rfl) dX16_wholePolicy_19 (fun C_ q_ h2_ px => by obtain ⟨rfl, m_19, t_19⟩ := px; exact gx_out0 rfl ⟨rfl, fun z => (by first | omega | (have := he.mpr (by omega); omega)), TEq.tr0 f_1 (TEf.q g2 t_19)⟩ (Nat.le_of_ble_eq_true rfl) (Nat.le_of_ble_eq_true rfl)) (k_v (fun h_19 p_19 => ?_))
    obtain ⟨m_19, z_19⟩ := p_19
    rw [z_19]
    first | refine g_aload1 dX16_wholePolicy_22 ?_ | refine g_aloadQ1 dX16_wholePolicy_22 ?_ | refine g_aloadN1 dX16_wholePolicy_22 ?_
    exact g_aret dX16_wholePolicy_23 rfl (Or.inl ⟨_, rfl⟩) ⟨_, rfl, ⟨e1, by have := he.mp (by omega); omega⟩, hre, f_1⟩
  · refine g_iconst (nI 1) dX16_wholePolicy_14 (by decide) ?_
    refine g_goto (tgt := 19) dX16_wholePolicy_15 (by decide) ?_
    refine g_callVR (ctX16_need _ g2 (by omega)) kX16_need q1663 (gRv.g g2 rfl rfl) (by decide) ⟨Nat.le_of_ble_eq_true rfl, Nat.le_of_ble_eq_true rfl⟩ rfl (Nat.le_of_ble_eq_true rfl) dX16_wholePolicy_19 (fun C_ q_ h2_ px => by obtain ⟨rfl, m_19, t_19⟩ := px; exact gx_out0 rfl ⟨rfl, fun z => (by first | omega | (have := he.mpr (by omega); omega)), TEq.tr0 f_1 (TEf.q g2 t_19)⟩ (Nat.le_of_ble_eq_true rfl) (Nat.le_of_ble_eq_true rfl)) (k_v (fun h_19 p_19 => ?_))
    obtain ⟨m_19, z_19⟩ := p_19
    rw [z_19]
    first | refine g_aload1 dX16_wholePolicy_22 ?_ | refine g_aloadQ1 dX16_wholePolicy_22 ?_ | refine g_aloadN1 dX16_wholePolicy_22 ?_
    exact g_aret dX16_wholePolicy_23 rfl (Or.inl ⟨_, rfl⟩) ⟨_, rfl, ⟨e1, by have := he.mp (by omega); omega⟩, hre, f_1⟩
