/-! THE TWIN: opening -/
set_option maxRecDepth 100000
/-- the places of the good shares of those members that are there -/
def opL (g : Nat → Nat) (s mem : Nat) : List Nat := tlL g s (tkF g mem 8) 1 24
abbrev opF (g : Nat → Nat) (s mem : Nat) : Prop := flF g s (tkF g mem 8) = 1 ∧ gOf g s 1 ≤ (opL g s mem).length
theorem opL_len (g : Nat → Nat) (s mem : Nat) : (opL g s mem).length ≤ 24 := tlL_len _ _ _ _ _
theorem opL_mem (g : Nat → Nat) (s mem : Nat) : ∀ x ∈ opL g s mem, 1 ≤ x ∧ x ≤ 24 := fun x h => tlL_mem _ _ _ _ _ x h
theorem tk_lt (g : Nat → Nat) (mem : Nat) : tkF g mem 8 < 256 := tkF_lt g mem 8
theorem twB_op {M : TW} {s mem : Nat} (h : twB M) : twB (tNd M (opL (M 1) s mem)) := twB_nd h (fun x hx => (opL_mem _ _ _ x hx).2) (opL_len _ _ _)
theorem tSame.lv {M M1 : TW} (h : tSame M M1) (c d : Nat) : tSame (tLv M c d) (tLv M1 c d) := by
  have e : M1 0 10 = M 0 10 := h.2.2.2.2.2.2.1
  unfold tLv
  rw [e]
  exact ((h.up 8 _ _ (by decide)).up 9 _ _ (by decide)).w 10 _ (by decide)
theorem tLv_n (M : TW) (c d b : Nat) (h8 : b ≠ 8) (h9 : b ≠ 9) (h0 : b ≠ 0) : tLv M c d b = M b := by
  unfold tLv
  rw [tset_n _ _ _ h0, tset_n _ _ _ h9, tset_n _ _ _ h8]
theorem tLv_10 (M : TW) (c d : Nat) : tLv M c d 0 10 = M 0 10 + 1 := by
  unfold tLv
  rw [tset_ss]
theorem twB_lv {M : TW} {c d : Nat} (h : twB M) (hc : c < 4294967296) (hd : d < 4294967296) (hl : M 0 10 < 30) : twB (tLv M c d) := twB_set (twB_set (twB_set h hc) hd) (by omega)
abbrev rpD (g : Nat → Nat) (s set x : Nat) : Prop := set / 2 ^ ((x - 1) / 3) % 2 = 1 ∧ gSh g s x 0 = 1 ∧ ¬ stF g s x = 0
/-- the levels of the unused shares among the places up to p -/
def rpP (M : TW) (g : Nat → Nat) (s set : Nat) : Nat → TW
  | 0 => M
  | p + 1 => if rpD g s set (p + 1) then tLv (rpP M g s set p) (stF g s (p + 1) + 3) (p + 1) else rpP M g s set p
theorem rpP_n (M : TW) (g : Nat → Nat) (s set p b : Nat) (h8 : b ≠ 8) (h9 : b ≠ 9) (h0 : b ≠ 0) : rpP M g s set p b = M b := by
  induction p with
  | zero => rfl
  | succ p ih =>
    rw [rpP]
    split
    · rw [tLv_n _ _ _ _ h8 h9 h0, ih]
    · exact ih
theorem rpP_10 (M : TW) (g : Nat → Nat) (s set p : Nat) : rpP M g s set p 0 10 ≤ M 0 10 + p := by
  induction p with
  | zero => exact Nat.le_refl _
  | succ p ih =>
    rw [rpP]
    split
    · rw [tLv_10]; omega
    · omega
theorem tSame.rp {M M1 : TW} (h : tSame M M1) (g : Nat → Nat) (s set p : Nat) : tSame (rpP M g s set p) (rpP M1 g s set p) := by
  induction p with
  | zero => exact h
  | succ p ih =>
    rw [rpP, rpP]
    split
    · exact ih.lv _ _
    · exact ih
theorem twB_rp {M : TW} {g : Nat → Nat} {s set p : Nat} (h : twB M) (hl : M 0 10 ≤ 2) (hp : p ≤ 24) : twB (rpP M g s set p) := by
  induction p with
  | zero => exact h
  | succ p ih =>
    have i1 := ih (by omega)
    have i2 := rpP_10 M g s set p
    have i3 := stF_lt g s (p + 1)
    rw [rpP]
    split
    · exact twB_lv i1 (by omega) (by omega) (by omega)
    · exact i1
/-- a report -/
def rpM (M : TW) (s mem : Nat) : TW :=
  if flF (M 1) s (tkF (M 1) mem 8) = 1 then rpP (tLv (tNd (tLv (tset M 0 10 0) 1 s) (opL (M 1) s mem)) 3 (gOf (M 1) s 1 - (opL (M 1) s mem).length)) (M 1) s (tkF (M 1) mem 8) 24
  else tLv (tLv (tset M 0 10 0) 1 s) 2 (tkF (M 1) mem 8)
theorem tSame.nd {M M1 : TW} (h : tSame M M1) (L L1 : List Nat) : tSame (tNd M L) (tNd M1 L1) := ((tNd_same M L).sy.tr h).tr (tNd_same M1 L1)
theorem tSame.rep {M M1 : TW} (h : tSame M M1) (s mem : Nat) : tSame (rpM M s mem) (rpM M1 s mem) := by
  have e : M1 1 = M 1 := h.1
  unfold rpM
  rw [e]
  split
  · exact ((((h.w 10 0 (by decide)).lv _ _).nd _ _).lv _ _).rp _ _ _ _
  · exact ((h.w 10 0 (by decide)).lv _ _).lv _ _
abbrev mX3_opens : GM := (yX3_opens, 4, (some .boolean), [], { frames := 47, cells := 0, slots := 0, locals := 2652 }, 255)
theorem kX3_opens : gCv cX3_opens mX3_opens 2 := ⟨q2298, qs42, q90, q2299, ⟨by decide +kernel, by decide +kernel, by decide +kernel⟩, rfl⟩
set_option maxHeartbeats 400000 in
theorem ctX3_opens {E : GE} {h : AH} {A : Nat → Nat} (hA : twA A) (M : TW) (s mem : Nat) (hB : twB M) (hs : s < 4) (hm : mem < 2147483648) (hS : slP (M 1) s) (hP : plW (M 1) s) : Ct E cX3_opens mX3_opens [.ref (A 0), .int (nI s), .int (nI mem)] (twO E A M h) (pN fun r h' => r < 2 ∧ (r = 1 ↔ opF (M 1) s mem) ∧ h' = twO E A (tNd M (opL (M 1) s mem)) h) noX := by
  refine g_enter (own := "SecretVaultModel") [some (.ref (A 0)), some (.int (nI s)), some (.int (nI mem)), none] (by decide +kernel) rfl rfl (Nat.le_of_ble_eq_true rfl) rfl rfl (fun X => ?_)
  have htk := tk_lt (M 1) mem
  have hfl := flF_le hP (tkF (M 1) mem 8)
  have hln := opL_len (M 1) s mem
  have hk8 := hS.1
  first | refine g_aload0 dX3_opens_0 ?_ | refine g_aloadQ0 dX3_opens_0 ?_ | refine g_aloadN0 dX3_opens_0 ?_
  refine g_iload2 dX3_opens_1 ?_
  refine g_V1n0 (ctX3_taken hA _ _ hB (by omega)) kX3_taken q2300 tw_0 rfl rfl (by decide) ⟨rfl, rfl⟩ ⟨Nat.zero_le _, Nat.zero_le _⟩ (Nat.le_of_ble_eq_true rfl) dX3_opens_2 (fun r_2 h_2 p_2 => ?_)
  obtain ⟨rfl, rfl⟩ := p_2
  refine g_istore3 dX3_opens_5 (by decide) ?_
  first | refine g_aload0 dX3_opens_6 ?_ | refine g_aloadQ0 dX3_opens_6 ?_ | refine g_aloadN0 dX3_opens_6 ?_
  refine g_iload1 dX3_opens_7 ?_
  refine g_iload3 dX3_opens_8 ?_
  refine g_iconst (nI 1) dX3_opens_9 (by decide) ?_
  refine g_V3v0 (ctX3_tellNodes hA M _ _ _ hB (by omega) (by omega) (by omega) hS) kX3_tellNodes q2304 tw_0 rfl rfl (by decide) ⟨rfl, rfl⟩ ⟨Nat.zero_le _, Nat.zero_le _⟩ (Nat.le_of_ble_eq_true rfl) dX3_opens_10 (fun h_10 p_10 => ?_)
  subst p_10
  rw [show tlL (M 1) s (tkF (M 1) mem 8) 1 24 = opL (M 1) s mem from rfl]
  first | refine g_aload0 dX3_opens_13 ?_ | refine g_aloadQ0 dX3_opens_13 ?_ | refine g_aloadN0 dX3_opens_13 ?_
  refine g_iload1 dX3_opens_14 ?_
  refine g_iload3 dX3_opens_15 ?_
  refine g_V2n0 (ctX3_fulfilled hA _ _ _ (twB_op hB) (by omega) (by omega) hP) kX3_fulfilled q2308 tw_0 rfl rfl (by decide) ⟨rfl, rfl⟩ ⟨Nat.zero_le _, Nat.zero_le _⟩ (Nat.le_of_ble_eq_true rfl) dX3_opens_16 (fun r_16 h_16 p_16 => ?_)
  obtain ⟨hi0_r, rfl⟩ := p_16
  have hi_16 : r_16 = flF (M 1) s (tkF (M 1) mem 8) := hi0_r
  first | refine g_ifN_eq (tgt := 39) dX3_opens_19 (by decide) (by omega) (fun c_19 => ?_) (fun c_19 => ?_) | refine g_if_eq (tgt := 39) dX3_opens_19 (by decide) (fun c_19 => ?_) (fun c_19 => ?_)
  · refine g_iconst (nI 0) dX3_opens_39 (by decide) ?_
    exact g_zret dX3_opens_40 rfl (nar_zb (by omega)) ⟨_, rfl, by omega, by omega, rfl⟩
  · first | refine g_aload0 dX3_opens_22 ?_ | refine g_aloadQ0 dX3_opens_22 ?_ | refine g_aloadN0 dX3_opens_22 ?_
    refine t_get6 hA q2104 dX3_opens_23 ?_
    rw [show tNd M (opL (M 1) s mem) 0 6 = (opL (M 1) s mem).length from rfl]
    first | refine g_aload0 dX3_opens_26 ?_ | refine g_aloadQ0 dX3_opens_26 ?_ | refine g_aloadN0 dX3_opens_26 ?_
    refine g_iload1 dX3_opens_27 ?_
    refine g_iconst (nI 1) dX3_opens_28 (by decide) ?_
    refine g_V2n0 (ctX3_of hA _ _ _ (by omega) (by omega)) kX3_of q2220 tw_0 rfl rfl (by decide) ⟨rfl, rfl⟩ ⟨Nat.zero_le _, Nat.zero_le _⟩ (Nat.le_of_ble_eq_true rfl) dX3_opens_29 (fun r_29 h_29 p_29 => ?_)
    obtain ⟨rfl, rfl⟩ := p_29
    rw [show gOf (tNd M (opL (M 1) s mem) 1) s 1 = gOf (M 1) s 1 from rfl]
    first | refine g_icmpN_lt (tgt := 39) dX3_opens_32 (by decide) (by omega) (by omega) (fun c_32 => ?_) (fun c_32 => ?_) | refine g_icmp_lt (tgt := 39) dX3_opens_32 (by decide) (fun c_32 => ?_) (fun c_32 => ?_)
    · refine g_iconst (nI 0) dX3_opens_39 (by decide) ?_
      exact g_zret dX3_opens_40 rfl (nar_zb (by omega)) ⟨_, rfl, by omega, by omega, rfl⟩
    · refine g_iconst (nI 1) dX3_opens_35 (by decide) ?_
      refine g_goto (tgt := 40) dX3_opens_36 (by decide) ?_
      exact g_zret dX3_opens_40 rfl (nar_zb (by omega)) ⟨_, rfl, by omega, by omega, rfl⟩
abbrev mX3_reports : GM := (yX3_reports, 5, none, [], { frames := 47, cells := 0, slots := 0, locals := 2652 }, 255)
theorem kX3_reports : gCv cX3_reports mX3_reports 2 := ⟨q2329, qs49, q90, q2330, ⟨by decide +kernel, by decide +kernel, by decide +kernel⟩, rfl⟩
set_option maxHeartbeats 400000 in
theorem ctX3_reports {E : GE} {h : AH} {A : Nat → Nat} (hA : twA A) (M : TW) (s mem : Nat) (hB : twB M) (hs : s < 4) (hm : mem < 2147483648) (hS : slP (M 1) s) (hP : plW (M 1) s) (hN : flF (M 1) s (tkF (M 1) mem 8) = 1 → (opL (M 1) s mem).length < gOf (M 1) s 1) : Ct E cX3_reports mX3_reports [.ref (A 0), .int (nI s), .int (nI mem)] (twO E A M h) (pV fun h' => h' = twO E A (rpM M s mem) h) noX := by
  refine g_enter (own := "SecretVaultModel") [some (.ref (A 0)), some (.int (nI s)), some (.int (nI mem)), none, none] (by decide +kernel) rfl rfl (Nat.le_of_ble_eq_true rfl) rfl rfl (fun X => ?_)
  have htk := tk_lt (M 1) mem
  have hfl := flF_le hP (tkF (M 1) mem 8)
  have hln := opL_len (M 1) s mem
  have hk8 := hS.1
  have hB1 : twB (tLv (tset M 0 10 0) 1 s) := twB_lv (twB_set hB (by decide)) (by decide) (by omega) (by rw [tset_ss]; decide)
  have e1 : (tLv (tset M 0 10 0) 1 s) 0 10 = 1 := by rw [tLv_10, tset_ss]
  have hB2 : twB (tNd (tLv (tset M 0 10 0) 1 s) (opL (M 1) s mem)) := twB_nd hB1 (fun x hx => (opL_mem _ _ _ x hx).2) hln
  have e2 : (tLv (tNd (tLv (tset M 0 10 0) 1 s) (opL (M 1) s mem)) 3 (gOf (M 1) s 1 - (opL (M 1) s mem).length)) 0 10 = 2 := by rw [tLv_10]; show (tLv (tset M 0 10 0) 1 s) 0 10 + 1 = 2; rw [e1]
  have e2a : (tNd (tLv (tset M 0 10 0) 1 s) (opL (M 1) s mem)) 0 10 = 1 := e1
  have hBZ : twB (tLv (tNd (tLv (tset M 0 10 0) 1 s) (opL (M 1) s mem)) 3 (gOf (M 1) s 1 - (opL (M 1) s mem).length)) := twB_lv hB2 (by decide) (by omega) (by omega)
  have L : ∀ y, 0 ≤ y → y ≤ 24 → flF (M 1) s (tkF (M 1) mem 8) = 1 → V E cX3_reports "SecretVaultModel" mX3_reports (pV fun h' => h' = twO E A (rpM M s mem) h) noX X (twO E A (rpP (tLv (tNd (tLv (tset M 0 10 0) 1 s) (opL (M 1) s mem)) 3 (gOf (M 1) s 1 - (opL (M 1) s mem).length)) (M 1) s (tkF (M 1) mem 8) y) h) 0 0 59 [some (.ref (A 0)), some (.int (nI (s))), some (.int (nI (mem))), some (.int (nI ((tkF (M 1) mem 8)))), some (.int (nI (y + 1)))] [] := by
    intro y h0 h1 hf
    refine g_for (fun y => V E cX3_reports "SecretVaultModel" mX3_reports (pV fun h' => h' = twO E A (rpM M s mem) h) noX X (twO E A (rpP (tLv (tNd (tLv (tset M 0 10 0) 1 s) (opL (M 1) s mem)) 3 (gOf (M 1) s 1 - (opL (M 1) s mem).length)) (M 1) s (tkF (M 1) mem 8) y) h) 0 0 59 [some (.ref (A 0)), some (.int (nI (s))), some (.int (nI (mem))), some (.int (nI ((tkF (M 1) mem 8)))), some (.int (nI (y + 1)))] []) 0 24 ?_ ?_ y h0 h1
    · refine g_iload4 dX3_reports_59 ?_
      refine g_bipush (nI 24) dX3_reports_61 (by decide) ?_
      first | refine g_icmpN_gt (tgt := 120) dX3_reports_63 (by decide) (by omega) (by omega) (fun c_63 => ?_) (fun c_63 => ?_) | refine g_icmp_gt (tgt := 120) dX3_reports_63 (by decide) (fun c_63 => ?_) (fun c_63 => ?_)
      · exact g_vret dX3_reports_120 rfl ⟨rfl, by unfold rpM; rw [if_pos hf]⟩
      · omega
    · intro y h0 hp ih
      have hBp : twB (rpP (tLv (tNd (tLv (tset M 0 10 0) 1 s) (opL (M 1) s mem)) 3 (gOf (M 1) s 1 - (opL (M 1) s mem).length)) (M 1) s (tkF (M 1) mem 8) y) := twB_rp hBZ (by omega) (by omega)
      have e10 := rpP_10 (tLv (tNd (tLv (tset M 0 10 0) 1 s) (opL (M 1) s mem)) 3 (gOf (M 1) s 1 - (opL (M 1) s mem).length)) (M 1) s (tkF (M 1) mem 8) y
      have eg : rpP (tLv (tNd (tLv (tset M 0 10 0) 1 s) (opL (M 1) s mem)) 3 (gOf (M 1) s 1 - (opL (M 1) s mem).length)) (M 1) s (tkF (M 1) mem 8) y 1 = M 1 := by rw [rpP_n _ _ _ _ _ _ (by decide) (by decide) (by decide)]; rfl
      have hSp : slP (rpP (tLv (tNd (tLv (tset M 0 10 0) 1 s) (opL (M 1) s mem)) 3 (gOf (M 1) s 1 - (opL (M 1) s mem).length)) (M 1) s (tkF (M 1) mem 8) y 1) s := by rw [eg]; exact hS
      have hst := stF_lt (M 1) s (y + 1)
      have e3 : (y + 1 - 1) / 3 < 32 := by omega
      refine g_iload4 dX3_reports_59 ?_
      refine g_bipush (nI 24) dX3_reports_61 (by decide) ?_
      first | refine g_icmpN_gt (tgt := 120) dX3_reports_63 (by decide) (by first | omega | exact Nat.lt_of_le_of_lt (Nat.div_le_self _ _) (by omega)) (by first | omega | exact Nat.lt_of_le_of_lt (Nat.div_le_self _ _) (by omega)) (fun c_63 => ?_) (fun c_63 => ?_) | refine g_icmp_gt (tgt := 120) dX3_reports_63 (by decide) (fun c_63 => ?_) (fun c_63 => ?_)
      · omega
      · refine g_iload3 dX3_reports_66 ?_
        refine g_iload4 dX3_reports_67 ?_
        refine g_S1n0 (ctX3_owner _ (by omega)) kX3_owner q2254 (by decide) ⟨rfl, rfl⟩ ⟨Nat.zero_le _, Nat.zero_le _⟩ (Nat.le_of_ble_eq_true rfl) dX3_reports_69 (fun r_69 h_69 p_69 => ?_)
        obtain ⟨rfl, rfl⟩ := p_69
        refine g_ishrN dX3_reports_72 (by first | omega | exact Nat.lt_of_le_of_lt (Nat.div_le_self _ _) (by omega)) (by first | omega | exact Nat.lt_of_le_of_lt (Nat.div_le_self _ _) (by omega)) ?_
        refine g_iconst (nI 1) dX3_reports_73 (by decide) ?_
        refine g_iand1 dX3_reports_74 (by first | omega | exact Nat.lt_of_le_of_lt (Nat.div_le_self _ _) (by omega)) ?_
        refine g_iconst (nI 1) dX3_reports_75 (by decide) ?_
        first | refine g_icmpN_ne (tgt := 114) dX3_reports_76 (by decide) (by first | omega | exact Nat.lt_of_le_of_lt (Nat.div_le_self _ _) (by omega)) (by first | omega | exact Nat.lt_of_le_of_lt (Nat.div_le_self _ _) (by omega)) (fun c_76 => ?_) (fun c_76 => ?_) | refine g_icmpU_ne (tgt := 114) dX3_reports_76 (by decide) (by first | omega | exact Nat.lt_of_le_of_lt (Nat.div_le_self _ _) (by omega)) (by first | omega | exact Nat.lt_of_le_of_lt (Nat.div_le_self _ _) (by omega)) (fun c_76 => ?_) (fun c_76 => ?_) | refine g_icmp_ne (tgt := 114) dX3_reports_76 (by decide) (fun c_76 => ?_) (fun c_76 => ?_)
        · first | refine g_iincN4 1 dX3_reports_114 (by decide) (by decide) ?_ | refine g_iinc4 _ dX3_reports_114 rfl (by decide) ?_
          refine g_goto (tgt := 59) dX3_reports_117 (by decide) ?_
          first | (rw [show rpP (tLv (tNd (tLv (tset M 0 10 0) 1 s) (opL (M 1) s mem)) 3 (gOf (M 1) s 1 - (opL (M 1) s mem).length)) (M 1) s (tkF (M 1) mem 8) (y + 1) = tLv (rpP (tLv (tNd (tLv (tset M 0 10 0) 1 s) (opL (M 1) s mem)) 3 (gOf (M 1) s 1 - (opL (M 1) s mem).length)) (M 1) s (tkF (M 1) mem 8) y) (stF (M 1) s (y + 1) + 3) (y + 1) from by rw [rpP, if_pos (by omega)]] at ih; exact ih) | (rw [show rpP (tLv (tNd (tLv (tset M 0 10 0) 1 s) (opL (M 1) s mem)) 3 (gOf (M 1) s 1 - (opL (M 1) s mem).length)) (M 1) s (tkF (M 1) mem 8) (y + 1) = rpP (tLv (tNd (tLv (tset M 0 10 0) 1 s) (opL (M 1) s mem)) 3 (gOf (M 1) s 1 - (opL (M 1) s mem).length)) (M 1) s (tkF (M 1) mem 8) y from by rw [rpP, if_neg (by omega)]] at ih; exact ih)
        · first | refine g_aload0 dX3_reports_79 ?_ | refine g_aloadQ0 dX3_reports_79 ?_ | refine g_aloadN0 dX3_reports_79 ?_
          refine g_iload1 dX3_reports_80 ?_
          refine g_iload4 dX3_reports_81 ?_
          refine g_V2n0 (ctX3_hasShare hA _ _ _ hBp (by omega) (by omega)) kX3_hasShare q2212 tw_0 rfl rfl (by decide) ⟨rfl, rfl⟩ ⟨Nat.zero_le _, Nat.zero_le _⟩ (Nat.le_of_ble_eq_true rfl) dX3_reports_83 (fun r_83 h_83 p_83 => ?_)
          obtain ⟨hr_83, hi0_r, rfl⟩ := p_83
          rw [eg] at hi0_r
          have hi_83 : r_83 = 1 ↔ gSh (M 1) s (y + 1) 0 = 1 := hi0_r
          first | refine g_ifN_eq (tgt := 114) dX3_reports_86 (by decide) (by first | omega | exact Nat.lt_of_le_of_lt (Nat.div_le_self _ _) (by omega)) (fun c_86 => ?_) (fun c_86 => ?_) | refine g_if_eq (tgt := 114) dX3_reports_86 (by decide) (fun c_86 => ?_) (fun c_86 => ?_)
          · first | refine g_iincN4 1 dX3_reports_114 (by decide) (by decide) ?_ | refine g_iinc4 _ dX3_reports_114 rfl (by decide) ?_
            refine g_goto (tgt := 59) dX3_reports_117 (by decide) ?_
            first | (rw [show rpP (tLv (tNd (tLv (tset M 0 10 0) 1 s) (opL (M 1) s mem)) 3 (gOf (M 1) s 1 - (opL (M 1) s mem).length)) (M 1) s (tkF (M 1) mem 8) (y + 1) = tLv (rpP (tLv (tNd (tLv (tset M 0 10 0) 1 s) (opL (M 1) s mem)) 3 (gOf (M 1) s 1 - (opL (M 1) s mem).length)) (M 1) s (tkF (M 1) mem 8) y) (stF (M 1) s (y + 1) + 3) (y + 1) from by rw [rpP, if_pos (by omega)]] at ih; exact ih) | (rw [show rpP (tLv (tNd (tLv (tset M 0 10 0) 1 s) (opL (M 1) s mem)) 3 (gOf (M 1) s 1 - (opL (M 1) s mem).length)) (M 1) s (tkF (M 1) mem 8) (y + 1) = rpP (tLv (tNd (tLv (tset M 0 10 0) 1 s) (opL (M 1) s mem)) 3 (gOf (M 1) s 1 - (opL (M 1) s mem).length)) (M 1) s (tkF (M 1) mem 8) y from by rw [rpP, if_neg (by omega)]] at ih; exact ih)
          · first | refine g_aload0 dX3_reports_89 ?_ | refine g_aloadQ0 dX3_reports_89 ?_ | refine g_aloadN0 dX3_reports_89 ?_
            refine g_iload1 dX3_reports_90 ?_
            refine g_iload4 dX3_reports_91 ?_
            refine g_V2n0 (ctX3_stateOf hA _ _ _ hBp (by omega) (by omega) hSp) kX3_stateOf q2224 tw_0 rfl rfl (by decide) ⟨rfl, rfl⟩ ⟨Nat.zero_le _, Nat.zero_le _⟩ (Nat.le_of_ble_eq_true rfl) dX3_reports_93 (fun r_93 h_93 p_93 => ?_)
            obtain ⟨hi0_r, rfl⟩ := p_93
            rw [eg] at hi0_r
            subst hi0_r
            first | refine g_ifN_eq (tgt := 114) dX3_reports_96 (by decide) (by first | omega | exact Nat.lt_of_le_of_lt (Nat.div_le_self _ _) (by omega)) (fun c_96 => ?_) (fun c_96 => ?_) | refine g_if_eq (tgt := 114) dX3_reports_96 (by decide) (fun c_96 => ?_) (fun c_96 => ?_)
            · first | refine g_iincN4 1 dX3_reports_114 (by decide) (by decide) ?_ | refine g_iinc4 _ dX3_reports_114 rfl (by decide) ?_
              refine g_goto (tgt := 59) dX3_reports_117 (by decide) ?_
              first | (rw [show rpP (tLv (tNd (tLv (tset M 0 10 0) 1 s) (opL (M 1) s mem)) 3 (gOf (M 1) s 1 - (opL (M 1) s mem).length)) (M 1) s (tkF (M 1) mem 8) (y + 1) = tLv (rpP (tLv (tNd (tLv (tset M 0 10 0) 1 s) (opL (M 1) s mem)) 3 (gOf (M 1) s 1 - (opL (M 1) s mem).length)) (M 1) s (tkF (M 1) mem 8) y) (stF (M 1) s (y + 1) + 3) (y + 1) from by rw [rpP, if_pos (by omega)]] at ih; exact ih) | (rw [show rpP (tLv (tNd (tLv (tset M 0 10 0) 1 s) (opL (M 1) s mem)) 3 (gOf (M 1) s 1 - (opL (M 1) s mem).length)) (M 1) s (tkF (M 1) mem 8) (y + 1) = rpP (tLv (tNd (tLv (tset M 0 10 0) 1 s) (opL (M 1) s mem)) 3 (gOf (M 1) s 1 - (opL (M 1) s mem).length)) (M 1) s (tkF (M 1) mem 8) y from by rw [rpP, if_neg (by omega)]] at ih; exact ih)
            · first | refine g_aload0 dX3_reports_99 ?_ | refine g_aloadQ0 dX3_reports_99 ?_ | refine g_aloadN0 dX3_reports_99 ?_
              first | refine g_aload0 dX3_reports_100 ?_ | refine g_aloadQ0 dX3_reports_100 ?_ | refine g_aloadN0 dX3_reports_100 ?_
              refine g_iload1 dX3_reports_101 ?_
              refine g_iload4 dX3_reports_102 ?_
              refine g_V2n0 (ctX3_stateOf hA _ _ _ hBp (by omega) (by omega) hSp) kX3_stateOf q2224 tw_0 rfl rfl (by decide) ⟨rfl, rfl⟩ ⟨Nat.zero_le _, Nat.zero_le _⟩ (Nat.le_of_ble_eq_true rfl) dX3_reports_104 (fun r_104 h_104 p_104 => ?_)
              obtain ⟨hi0_r, rfl⟩ := p_104
              rw [eg] at hi0_r
              subst hi0_r
              refine g_iconst (nI 3) dX3_reports_107 (by decide) ?_
              first | refine g_iaddN dX3_reports_108 ?_ | refine g_iadd dX3_reports_108 ?_
              refine g_iload4 dX3_reports_109 ?_
              refine g_V2v0 (ctX3_level hA _ _ _ (by first | omega | (rw [tset_ss]; decide))) kX3_level q2331 tw_0 rfl rfl (by decide) ⟨rfl, rfl⟩ ⟨Nat.zero_le _, Nat.zero_le _⟩ (Nat.le_of_ble_eq_true rfl) dX3_reports_111 (fun h_111 p_111 => ?_)
              subst p_111
              first | refine g_iincN4 1 dX3_reports_114 (by decide) (by decide) ?_ | refine g_iinc4 _ dX3_reports_114 rfl (by decide) ?_
              refine g_goto (tgt := 59) dX3_reports_117 (by decide) ?_
              first | (rw [show rpP (tLv (tNd (tLv (tset M 0 10 0) 1 s) (opL (M 1) s mem)) 3 (gOf (M 1) s 1 - (opL (M 1) s mem).length)) (M 1) s (tkF (M 1) mem 8) (y + 1) = tLv (rpP (tLv (tNd (tLv (tset M 0 10 0) 1 s) (opL (M 1) s mem)) 3 (gOf (M 1) s 1 - (opL (M 1) s mem).length)) (M 1) s (tkF (M 1) mem 8) y) (stF (M 1) s (y + 1) + 3) (y + 1) from by rw [rpP, if_pos (by omega)]] at ih; exact ih) | (rw [show rpP (tLv (tNd (tLv (tset M 0 10 0) 1 s) (opL (M 1) s mem)) 3 (gOf (M 1) s 1 - (opL (M 1) s mem).length)) (M 1) s (tkF (M 1) mem 8) (y + 1) = rpP (tLv (tNd (tLv (tset M 0 10 0) 1 s) (opL (M 1) s mem)) 3 (gOf (M 1) s 1 - (opL (M 1) s mem).length)) (M 1) s (tkF (M 1) mem 8) y from by rw [rpP, if_neg (by omega)]] at ih; exact ih)
  first | refine g_aload0 dX3_reports_0 ?_ | refine g_aloadQ0 dX3_reports_0 ?_ | refine g_aloadN0 dX3_reports_0 ?_
  refine g_iload2 dX3_reports_1 ?_
  refine g_V1n0 (ctX3_taken hA _ _ hB (by omega)) kX3_taken q2300 tw_0 rfl rfl (by decide) ⟨rfl, rfl⟩ ⟨Nat.zero_le _, Nat.zero_le _⟩ (Nat.le_of_ble_eq_true rfl) dX3_reports_2 (fun r_2 h_2 p_2 => ?_)
  obtain ⟨rfl, rfl⟩ := p_2
  refine g_istore3 dX3_reports_5 (by decide) ?_
  first | refine g_aload0 dX3_reports_6 ?_ | refine g_aloadQ0 dX3_reports_6 ?_ | refine g_aloadN0 dX3_reports_6 ?_
  refine g_iconst (nI 0) dX3_reports_7 (by decide) ?_
  refine t_put10 hA q2107 dX3_reports_8 ?_
  first | refine g_aload0 dX3_reports_11 ?_ | refine g_aloadQ0 dX3_reports_11 ?_ | refine g_aloadN0 dX3_reports_11 ?_
  refine g_iconst (nI 1) dX3_reports_12 (by decide) ?_
  refine g_iload1 dX3_reports_13 ?_
  refine g_V2v0 (ctX3_level hA _ _ _ (by first | omega | (rw [tset_ss]; decide))) kX3_level q2331 tw_0 rfl rfl (by decide) ⟨rfl, rfl⟩ ⟨Nat.zero_le _, Nat.zero_le _⟩ (Nat.le_of_ble_eq_true rfl) dX3_reports_14 (fun h_14 p_14 => ?_)
  subst p_14
  first | refine g_aload0 dX3_reports_17 ?_ | refine g_aloadQ0 dX3_reports_17 ?_ | refine g_aloadN0 dX3_reports_17 ?_
  refine g_iload1 dX3_reports_18 ?_
  refine g_iload3 dX3_reports_19 ?_
  refine g_V2n0 (ctX3_fulfilled hA _ _ _ hB1 (by omega) (by omega) hP) kX3_fulfilled q2308 tw_0 rfl rfl (by decide) ⟨rfl, rfl⟩ ⟨Nat.zero_le _, Nat.zero_le _⟩ (Nat.le_of_ble_eq_true rfl) dX3_reports_20 (fun r_20 h_20 p_20 => ?_)
  obtain ⟨hi0_r, rfl⟩ := p_20
  have hi_20 : r_20 = flF (M 1) s (tkF (M 1) mem 8) := hi0_r
  first | refine g_ifN_ne (tgt := 33) dX3_reports_23 (by decide) (by omega) (fun c_23 => ?_) (fun c_23 => ?_) | refine g_if_ne (tgt := 33) dX3_reports_23 (by decide) (fun c_23 => ?_) (fun c_23 => ?_)
  · have hf : flF (M 1) s (tkF (M 1) mem 8) = 1 := by omega
    first | refine g_aload0 dX3_reports_33 ?_ | refine g_aloadQ0 dX3_reports_33 ?_ | refine g_aloadN0 dX3_reports_33 ?_
    refine g_iload1 dX3_reports_34 ?_
    refine g_iload3 dX3_reports_35 ?_
    refine g_iconst (nI 1) dX3_reports_36 (by decide) ?_
    refine g_V3v0 (ctX3_tellNodes hA (tLv (tset M 0 10 0) 1 s) _ _ _ hB1 (by omega) (by omega) (by omega) hS) kX3_tellNodes q2304 tw_0 rfl rfl (by decide) ⟨rfl, rfl⟩ ⟨Nat.zero_le _, Nat.zero_le _⟩ (Nat.le_of_ble_eq_true rfl) dX3_reports_37 (fun h_37 p_37 => ?_)
    subst p_37
    rw [show tlL (tLv (tset M 0 10 0) 1 s 1) s (tkF (M 1) mem 8) 1 24 = opL (M 1) s mem from rfl]
    first | refine g_aload0 dX3_reports_40 ?_ | refine g_aloadQ0 dX3_reports_40 ?_ | refine g_aloadN0 dX3_reports_40 ?_
    refine g_iconst (nI 3) dX3_reports_41 (by decide) ?_
    first | refine g_aload0 dX3_reports_42 ?_ | refine g_aloadQ0 dX3_reports_42 ?_ | refine g_aloadN0 dX3_reports_42 ?_
    refine g_iload1 dX3_reports_43 ?_
    refine g_iconst (nI 1) dX3_reports_44 (by decide) ?_
    refine g_V2n0 (ctX3_of hA _ _ _ (by omega) (by omega)) kX3_of q2220 tw_0 rfl rfl (by decide) ⟨rfl, rfl⟩ ⟨Nat.zero_le _, Nat.zero_le _⟩ (Nat.le_of_ble_eq_true rfl) dX3_reports_45 (fun r_45 h_45 p_45 => ?_)
    obtain ⟨rfl, rfl⟩ := p_45
    rw [show gOf (tNd (tLv (tset M 0 10 0) 1 s) (opL (M 1) s mem) 1) s 1 = gOf (M 1) s 1 from rfl]
    first | refine g_aload0 dX3_reports_48 ?_ | refine g_aloadQ0 dX3_reports_48 ?_ | refine g_aloadN0 dX3_reports_48 ?_
    refine t_get6 hA q2104 dX3_reports_49 ?_
    rw [show tNd (tLv (tset M 0 10 0) 1 s) (opL (M 1) s mem) 0 6 = (opL (M 1) s mem).length from rfl]
    have hop := hN hf
    first | refine g_isubN dX3_reports_52 (by omega) ?_ | refine g_isub dX3_reports_52 ?_
    refine g_V2v0 (ctX3_level hA _ _ _ (by first | omega | (rw [tset_ss]; decide))) kX3_level q2331 tw_0 rfl rfl (by decide) ⟨rfl, rfl⟩ ⟨Nat.zero_le _, Nat.zero_le _⟩ (Nat.le_of_ble_eq_true rfl) dX3_reports_53 (fun h_53 p_53 => ?_)
    subst p_53
    refine g_iconst (nI 1) dX3_reports_56 (by decide) ?_
    refine g_istore4 dX3_reports_57 (by decide) ?_
    exact L 0 (by omega) (by omega) hf
  · 
    first | refine g_aload0 dX3_reports_26 ?_ | refine g_aloadQ0 dX3_reports_26 ?_ | refine g_aloadN0 dX3_reports_26 ?_
    refine g_iconst (nI 2) dX3_reports_27 (by decide) ?_
    refine g_iload3 dX3_reports_28 ?_
    refine g_V2v0 (ctX3_level hA _ _ _ (by first | omega | (rw [tset_ss]; decide))) kX3_level q2331 tw_0 rfl rfl (by decide) ⟨rfl, rfl⟩ ⟨Nat.zero_le _, Nat.zero_le _⟩ (Nat.le_of_ble_eq_true rfl) dX3_reports_29 (fun h_29 p_29 => ?_)
    subst p_29
    exact g_vret dX3_reports_32 rfl ⟨rfl, by unfold rpM; rw [if_neg (by omega)]⟩
def loC (g : Nat → Nat) (s mem : Nat) : Nat := if ¬ s ≤ 3 then 1 else if ¬ mem ≤ 255 then 2 else if gOf g s 0 = 0 then 3 else if opF g s mem then 0 else 4
def loM (M : TW) (s mem : Nat) : TW := if loC (M 1) s mem = 0 then tNd M (opL (M 1) s mem) else if loC (M 1) s mem = 4 then rpM (tNd M (opL (M 1) s mem)) s mem else M
theorem loC_le (g : Nat → Nat) (s mem : Nat) : loC g s mem ≤ 4 := by
  unfold loC
  (repeat' split) <;> omega
theorem loC_4 {g : Nat → Nat} {s mem : Nat} (h : loC g s mem = 0 ∨ loC g s mem = 4) : s ≤ 3 ∧ mem ≤ 255 ∧ ¬ gOf g s 0 = 0 := by
  unfold loC at h
  refine ⟨?_, ?_, ?_⟩ <;> (revert h; (repeat' split) <;> omega)
theorem loC_0 {g : Nat → Nat} {s mem : Nat} (h : loC g s mem = 0) : s ≤ 3 ∧ mem ≤ 255 ∧ ¬ gOf g s 0 = 0 ∧ opF g s mem := by
  obtain ⟨a, b, c⟩ := loC_4 (Or.inl h)
  refine ⟨a, b, c, ?_⟩
  unfold loC at h
  rw [if_neg (by omega), if_neg (by omega), if_neg c] at h
  split at h
  · assumption
  · exact absurd h (by decide)
abbrev mX3_lacksOpen : GM := (yX3_lacksOpen, 3, (some .int), [], { frames := 48, cells := 0, slots := 0, locals := 2676 }, 255)
theorem kX3_lacksOpen : gCv cX3_lacksOpen mX3_lacksOpen 2 := ⟨q2294, qs41, q90, q2295, ⟨by decide +kernel, by decide +kernel, by decide +kernel⟩, rfl⟩
set_option maxHeartbeats 400000 in
theorem ctX3_lacksOpen {E : GE} {h : AH} {A : Nat → Nat} (hA : twA A) (M : TW) (s mem : Nat) (hW : tWF M) (hWp : ∀ s, s < 4 → plW (M 1) s) (hs : s < 4294967296) (hm : mem < 4294967296) : Ct E cX3_lacksOpen mX3_lacksOpen [.ref (A 0), .int (nI s), .int (nI mem)] (twO E A M h) (pN fun r h' => r = loC (M 1) s mem ∧ h' = twO E A (loM M s mem) h) noX := by
  refine g_enter (own := "SecretVaultModel") [some (.ref (A 0)), some (.int (nI s)), some (.int (nI mem))] (by decide +kernel) rfl rfl (Nat.le_of_ble_eq_true rfl) rfl rfl (fun X => ?_)
  have hB := hW.1
  refine g_iload1 dX3_lacksOpen_0 ?_
  refine g_S1n0 (ctX3_isSlot _ (by omega)) kX3_isSlot q2235 (by decide) ⟨rfl, rfl⟩ ⟨Nat.zero_le _, Nat.zero_le _⟩ (Nat.le_of_ble_eq_true rfl) dX3_lacksOpen_1 (fun r_1 h_1 p_1 => ?_)
  obtain ⟨hr_1, hi_1, rfl⟩ := p_1
  first | refine g_ifN_ne (tgt := 9) dX3_lacksOpen_4 (by decide) (by first | omega | exact hB _ _) (fun c_4 => ?_) (fun c_4 => ?_) | refine g_if_ne (tgt := 9) dX3_lacksOpen_4 (by decide) (fun c_4 => ?_) (fun c_4 => ?_)
  · refine g_iload2 dX3_lacksOpen_9 ?_
    refine g_S1n0 (ctX3_isSet _ (by omega)) kX3_isSet q2289 (by decide) ⟨rfl, rfl⟩ ⟨Nat.zero_le _, Nat.zero_le _⟩ (Nat.le_of_ble_eq_true rfl) dX3_lacksOpen_10 (fun r_10 h_10 p_10 => ?_)
    obtain ⟨hr_10, hi_10, rfl⟩ := p_10
    first | refine g_ifN_ne (tgt := 18) dX3_lacksOpen_13 (by decide) (by first | omega | exact hB _ _) (fun c_13 => ?_) (fun c_13 => ?_) | refine g_if_ne (tgt := 18) dX3_lacksOpen_13 (by decide) (fun c_13 => ?_) (fun c_13 => ?_)
    · first | refine g_aload0 dX3_lacksOpen_18 ?_ | refine g_aloadQ0 dX3_lacksOpen_18 ?_ | refine g_aloadN0 dX3_lacksOpen_18 ?_
      refine g_iload1 dX3_lacksOpen_19 ?_
      refine g_iconst (nI 0) dX3_lacksOpen_20 (by decide) ?_
      refine g_V2n0 (ctX3_of hA _ _ _ (by omega) (by omega)) kX3_of q2220 tw_0 rfl rfl (by decide) ⟨rfl, rfl⟩ ⟨Nat.zero_le _, Nat.zero_le _⟩ (Nat.le_of_ble_eq_true rfl) dX3_lacksOpen_21 (fun r_21 h_21 p_21 => ?_)
      obtain ⟨rfl, rfl⟩ := p_21
      first | refine g_ifN_ne (tgt := 29) dX3_lacksOpen_24 (by decide) (by first | omega | exact hB _ _) (fun c_24 => ?_) (fun c_24 => ?_) | refine g_if_ne (tgt := 29) dX3_lacksOpen_24 (by decide) (fun c_24 => ?_) (fun c_24 => ?_)
      · first | refine g_aload0 dX3_lacksOpen_29 ?_ | refine g_aloadQ0 dX3_lacksOpen_29 ?_ | refine g_aloadN0 dX3_lacksOpen_29 ?_
        refine g_iload1 dX3_lacksOpen_30 ?_
        refine g_iload2 dX3_lacksOpen_31 ?_
        refine g_V2n0 (ctX3_opens hA _ _ _ hB (by omega) (by omega) (hW.2.2.2.2 s (by omega)).P (hWp s (by omega))) kX3_opens q2296 tw_0 rfl rfl (by decide) ⟨rfl, rfl⟩ ⟨Nat.zero_le _, Nat.zero_le _⟩ (Nat.le_of_ble_eq_true rfl) dX3_lacksOpen_32 (fun r_32 h_32 p_32 => ?_)
        obtain ⟨hr_32, hi_32, rfl⟩ := p_32
        first | refine g_ifN_ne (tgt := 46) dX3_lacksOpen_35 (by decide) (by first | omega | exact hB _ _) (fun c_35 => ?_) (fun c_35 => ?_) | refine g_if_ne (tgt := 46) dX3_lacksOpen_35 (by decide) (fun c_35 => ?_) (fun c_35 => ?_)
        · have hC : loC (M 1) s mem = 0 := by unfold loC; (repeat' split) <;> omega
          refine g_iconst (nI 0) dX3_lacksOpen_46 (by decide) ?_
          exact g_iret dX3_lacksOpen_47 rfl ⟨_, rfl, hC.symm, congrArg (fun m => twO E A m h) (show _ = loM M s mem from by unfold loM; rw [hC]; rfl)⟩
        · have hNn : flF (M 1) s (tkF (M 1) mem 8) = 1 → (opL (M 1) s mem).length < gOf (M 1) s 1 := fun z => by omega
          first | refine g_aload0 dX3_lacksOpen_38 ?_ | refine g_aloadQ0 dX3_lacksOpen_38 ?_ | refine g_aloadN0 dX3_lacksOpen_38 ?_
          refine g_iload1 dX3_lacksOpen_39 ?_
          refine g_iload2 dX3_lacksOpen_40 ?_
          refine g_V2v0 (ctX3_reports hA _ _ _ (twB_op hB) (by omega) (by omega) (hW.2.2.2.2 s (by omega)).P (hWp s (by omega)) hNn) kX3_reports q2327 tw_0 rfl rfl (by decide) ⟨rfl, rfl⟩ ⟨Nat.zero_le _, Nat.zero_le _⟩ (Nat.le_of_ble_eq_true rfl) dX3_lacksOpen_41 (fun h_41 p_41 => ?_)
          subst p_41
          have hC : loC (M 1) s mem = 4 := by unfold loC; (repeat' split) <;> omega
          refine g_iconst (nI 4) dX3_lacksOpen_44 (by decide) ?_
          exact g_iret dX3_lacksOpen_45 rfl ⟨_, rfl, hC.symm, congrArg (fun m => twO E A m h) (show _ = loM M s mem from by unfold loM; rw [hC]; rfl)⟩
      · have hC : loC (M 1) s mem = 3 := by unfold loC; (repeat' split) <;> omega
        refine g_iconst (nI 3) dX3_lacksOpen_27 (by decide) ?_
        exact g_iret dX3_lacksOpen_28 rfl ⟨_, rfl, hC.symm, congrArg (fun m => twO E A m h) (show _ = loM M s mem from by unfold loM; rw [hC]; rfl)⟩
    · have hC : loC (M 1) s mem = 2 := by unfold loC; (repeat' split) <;> omega
      refine g_iconst (nI 2) dX3_lacksOpen_16 (by decide) ?_
      exact g_iret dX3_lacksOpen_17 rfl ⟨_, rfl, hC.symm, congrArg (fun m => twO E A m h) (show _ = loM M s mem from by unfold loM; rw [hC]; rfl)⟩
  · have hC : loC (M 1) s mem = 1 := by unfold loC; (repeat' split) <;> omega
    refine g_iconst (nI 1) dX3_lacksOpen_7 (by decide) ?_
    exact g_iret dX3_lacksOpen_8 rfl ⟨_, rfl, hC.symm, congrArg (fun m => twO E A m h) (show _ = loM M s mem from by unfold loM; rw [hC]; rfl)⟩
theorem loM_0 {M : TW} {s mem : Nat} (h : loC (M 1) s mem = 0) : loM M s mem = tNd M (opL (M 1) s mem) := if_pos h
theorem loM_4 {M : TW} {s mem : Nat} (h : loC (M 1) s mem = 4) : loM M s mem = rpM (tNd M (opL (M 1) s mem)) s mem := by
  unfold loM
  rw [if_neg (by omega), if_pos h]
theorem loM_n {M : TW} {s mem : Nat} (h : ¬ loC (M 1) s mem = 0) (h4 : ¬ loC (M 1) s mem = 4) : loM M s mem = M := by
  unfold loM
  rw [if_neg h, if_neg h4]
/-- what an opening that fails leaves -/
def loX (M : TW) (s mem : Nat) : TW := if loC (M 1) s mem = 4 then rpM M s mem else M
theorem lo_same {M : TW} {s mem : Nat} (h : ¬ loC (M 1) s mem = 0) : tSame (loX M s mem) (loM M s mem) := by
  unfold loX
  split
  · rename_i h4
    rw [loM_4 h4]
    exact (tNd_same M _).rep s mem
  · rename_i h4
    rw [loM_n h h4]
    exact tSame.rf
/-- the value that the shares open -/
def opV (M : TW) (s mem x : Nat) : Nat := vaS (M 1) s (tNd M (opL (M 1) s mem) 5) (gOf (M 1) s 1) x (gOf (M 1) s 1)
theorem op_N {M : TW} {s mem : Nat} (h : opF (M 1) s mem) : ∀ i, i < gOf (M 1) s 1 → 1 ≤ tNd M (opL (M 1) s mem) 5 i ∧ tNd M (opL (M 1) s mem) 5 i ≤ 24 := fun i hi => by
  rw [tNd_at _ _ _ (by have := h.2; omega)]
  exact opL_mem _ _ _ _ (List.getElem_mem _)
abbrev mX3_open : GM := (yX3_open, 4, (some .int), [], { frames := 49, cells := 0, slots := 0, locals := 2698 }, 255)
theorem kX3_open : gCv cX3_open mX3_open 2 := ⟨q2355, q2356, q90, q2357, ⟨by decide +kernel, by decide +kernel, by decide +kernel⟩, rfl⟩
theorem evG (M : TW) (L : List Nat) (c i : Nat) (h : 38 ≤ i) : tEv (tNd M L) c 1 i = M 1 i := by
  show (if 18 < i ∧ i ≤ 37 then M 1 (i - 1) else if i = 18 then c else if i = 17 then M 1 17 + (if M 1 17 < 20 then 1 else 0) else M 1 i) = M 1 i
  rw [if_neg (by omega), if_neg (by omega), if_neg (by omega)]
theorem evO (M : TW) (L : List Nat) (c s w : Nat) : gOf (tEv (tNd M L) c 1) s w = gOf (M 1) s w := evG M L c _ (by omega)
theorem evH (M : TW) (L : List Nat) (c s x w : Nat) : gSh (tEv (tNd M L) c 1) s x w = gSh (M 1) s x w := evG M L c _ (by omega)
theorem evS (M : TW) (L : List Nat) (c s : Nat) (h : slP (M 1) s) : slP (tEv (tNd M L) c 1) s := by
  refine ⟨?_, ?_, ?_⟩
  · rw [evO]; exact h.1
  · intro j hj; rw [evO]; exact h.2.1 j hj
  · intro x h1 h2; rw [evH]; exact h.2.2 x h1 h2
theorem vaI_g {g g' : Nat → Nat} {s : Nat} (h : ∀ x c, gSh g' s x c = gSh g s x c) (nd : Nat → Nat) (x i j : Nat) : vaI g' s nd x i j = vaI g s nd x i j := by
  induction j with
  | zero => exact h _ _
  | succ j ih => rw [vaI, vaI, ih]
theorem vaS_g {g g' : Nat → Nat} {s : Nat} (h : ∀ x c, gSh g' s x c = gSh g s x c) (nd : Nat → Nat) (k x i : Nat) : vaS g' s nd k x i = vaS g s nd k x i := by
  induction i with
  | zero => rfl
  | succ i ih => rw [vaS, vaS, ih, vaI_g h]
theorem evV (M : TW) (L : List Nat) (c s k x : Nat) : vaS (tEv (tNd M L) c 1) s (tEv (tNd M L) c 5) k x k = vaS (M 1) s (tNd M L 5) k x k := vaS_g (fun x w => evH M L c s x w) _ _ _ _
def xc_open (M : TW) (s mem : Nat) : Nat := loC (M 1) s mem
def xv_open (M : TW) (s mem : Nat) : Nat := opV M s mem 0
def xm_open (M : TW) (s mem : Nat) : TW := if loC (M 1) s mem = 0 then tEv M (700 + s) else loX M s mem
set_option maxHeartbeats 400000 in
theorem ctX3_open {E : GE} {h : AH} {A : Nat → Nat} (hA : twA A) (M : TW) (s mem : Nat) (hW : tWF M) (hWp : ∀ s, s < 4 → plW (M 1) s) (hs : s < 4294967296) (hm : mem < 4294967296) : Ct E cX3_open mX3_open [.ref (A 0), .int (nI s), .int (nI mem)] (twO E A M h) (pN fun r h' => tEnd E A h (xc_open M s mem ) (xv_open M s mem ) (xm_open M s mem ) r h') noX := by
  refine g_enter (own := "SecretVaultModel") [some (.ref (A 0)), some (.int (nI s)), some (.int (nI mem)), none] (by decide +kernel) rfl rfl (Nat.le_of_ble_eq_true rfl) rfl rfl (fun X => ?_)
  have hB := hW.1
  have hs17 : M 1 17 ≤ 20 := hW.2.2.2.1
  have hlc := loC_le (M 1) s mem
  first | refine g_aload0 dX3_open_0 ?_ | refine g_aloadQ0 dX3_open_0 ?_ | refine g_aloadN0 dX3_open_0 ?_
  refine g_iload1 dX3_open_1 ?_
  refine g_iload2 dX3_open_2 ?_
  refine g_V2n0 (ctX3_lacksOpen hA _ _ _ hW hWp (by omega) (by omega)) kX3_lacksOpen q2292 tw_0 rfl rfl (by decide) ⟨rfl, rfl⟩ ⟨Nat.zero_le _, Nat.zero_le _⟩ (Nat.le_of_ble_eq_true rfl) dX3_open_3 (fun r_3 h_3 p_3 => ?_)
  obtain ⟨hi_3, rfl⟩ := p_3
  refine g_istore3 dX3_open_6 (by decide) ?_
  refine g_iload3 dX3_open_7 ?_
  first | refine g_ifN_eq (tgt := 17) dX3_open_8 (by decide) (by first | omega | exact hB _ _ | (split <;> omega)) (fun c_8 => ?_) (fun c_8 => ?_) | refine g_if_eq (tgt := 17) dX3_open_8 (by decide) (fun c_8 => ?_) (fun c_8 => ?_)
  · have h00 : loC (M 1) s mem = 0 := by omega
    obtain ⟨hs3, hm3, hh3, hop⟩ := loC_0 h00
    rw [loM_0 h00]
    have hsl := hW.2.2.2.2 s (by omega)
    have hS := hsl.P
    have hk8 := hsl.2.2.1
    have hN := op_N hop
    have hE : (tNd M (opL (M 1) s mem)) 1 17 ≤ 20 := hs17
    have eg : ∀ w, gOf (tEv (tNd M (opL (M 1) s mem)) (700 + s) 1) s w = gOf (M 1) s w := fun w => evO M _ _ s w
    have hSv : slP (tEv (tNd M (opL (M 1) s mem)) (700 + s) 1) s := evS M _ _ s hS
    first | refine g_aload0 dX3_open_17 ?_ | refine g_aloadQ0 dX3_open_17 ?_ | refine g_aloadN0 dX3_open_17 ?_
    refine g_sipush (nI 700) dX3_open_18 (by decide) ?_
    refine g_iload1 dX3_open_21 ?_
    first | refine g_iaddN dX3_open_22 ?_ | refine g_iadd dX3_open_22 ?_
    refine g_V1v0 (ctX3_happens hA _ _ hE) kX3_happens q2269 tw_0 rfl rfl (by decide) ⟨rfl, rfl⟩ ⟨Nat.zero_le _, Nat.zero_le _⟩ (Nat.le_of_ble_eq_true rfl) dX3_open_23 (fun h_23 p_23 => ?_)
    subst p_23
    first | refine g_aload0 dX3_open_26 ?_ | refine g_aloadQ0 dX3_open_26 ?_ | refine g_aloadN0 dX3_open_26 ?_
    first | refine g_aload0 dX3_open_27 ?_ | refine g_aloadQ0 dX3_open_27 ?_ | refine g_aloadN0 dX3_open_27 ?_
    refine g_iload1 dX3_open_28 ?_
    first | refine g_aload0 dX3_open_29 ?_ | refine g_aloadQ0 dX3_open_29 ?_ | refine g_aloadN0 dX3_open_29 ?_
    refine g_iload1 dX3_open_30 ?_
    refine g_iconst (nI 1) dX3_open_31 (by decide) ?_
    refine g_V2n0 (ctX3_of hA _ _ _ (by omega) (by omega)) kX3_of q2220 tw_0 rfl rfl (by decide) ⟨rfl, rfl⟩ ⟨Nat.zero_le _, Nat.zero_le _⟩ (Nat.le_of_ble_eq_true rfl) dX3_open_32 (fun r_32 h_32 p_32 => ?_)
    obtain ⟨rfl, rfl⟩ := p_32
    rw [eg]
    refine g_iconst (nI 0) dX3_open_35 (by decide) ?_
    refine g_V3n0 (ctX3_valueAt hA (tEv (tNd M (opL (M 1) s mem)) (700 + s)) _ _ _ (by omega) (by omega) (by omega) hSv hN) kX3_valueAt q2335 tw_0 rfl rfl (by decide) ⟨rfl, rfl⟩ ⟨Nat.zero_le _, Nat.zero_le _⟩ (Nat.le_of_ble_eq_true rfl) dX3_open_36 (fun r_36 h_36 p_36 => ?_)
    obtain ⟨hi_36, rfl⟩ := p_36
    refine g_V1n0 (ctX3_done hA _ _) kX3_done q2173 tw_0 rfl rfl (by decide) ⟨rfl, rfl⟩ ⟨Nat.zero_le _, Nat.zero_le _⟩ (Nat.le_of_ble_eq_true rfl) dX3_open_39 (fun r_39 h_39 p_39 => ?_)
    obtain ⟨rfl, rfl⟩ := p_39
    exact g_iret dX3_open_42 rfl ⟨_, rfl, (by first | exact t_fails (by unfold xc_open; omega) (by omega) (by unfold xm_open; rw [if_neg (by omega)]; exact lo_same (by omega)) | exact t_done (by unfold xc_open; omega) (by unfold xv_open; rw [hi_36]; exact evV M _ _ s _ _) (by unfold xm_open; rw [if_pos (by omega)]; exact (tNd_same M _).ev _))⟩
  · first | refine g_aload0 dX3_open_11 ?_ | refine g_aloadQ0 dX3_open_11 ?_ | refine g_aloadN0 dX3_open_11 ?_
    refine g_iload3 dX3_open_12 ?_
    refine g_V1n0 (ctX3_fails hA _ _) kX3_fails q2196 tw_0 rfl rfl (by decide) ⟨rfl, rfl⟩ ⟨Nat.zero_le _, Nat.zero_le _⟩ (Nat.le_of_ble_eq_true rfl) dX3_open_13 (fun r_13 h_13 p_13 => ?_)
    obtain ⟨rfl, rfl⟩ := p_13
    exact g_iret dX3_open_16 rfl ⟨_, rfl, (by first | exact t_fails (by unfold xc_open; omega) (by omega) (by unfold xm_open; rw [if_neg (by omega)]; exact lo_same (by omega)) | exact t_done (by unfold xc_open; omega) (by unfold xv_open; rw [hi_36]; exact evV M _ _ s _ _) (by unfold xm_open; rw [if_pos (by omega)]; exact (tNd_same M _).ev _))⟩
abbrev mX3_reshare : GM := (yX3_reshare, 6, (some .int), [], { frames := 49, cells := 0, slots := 0, locals := 2698 }, 255)
theorem kX3_reshare : gCv cX3_reshare mX3_reshare 3 := ⟨q2286, q2287, q90, q2288, ⟨by decide +kernel, by decide +kernel, by decide +kernel⟩, rfl⟩
def xc_reshare (M : TW) (s mem k : Nat) : Nat := if ¬ s ≤ 3 then 1 else if ¬ mem ≤ 255 ∨ ¬ (1 ≤ k ∧ k ≤ 8) then 2 else if ¬ loC (M 1) s mem = 0 then loC (M 1) s mem else if upF (M 1) 8 < k then 5 else 0
def xv_reshare (M : TW) (s mem k : Nat) : Nat := dlN (tCf (tNd M (opL (M 1) s mem)) (opV M s mem 0) k) s k (gOf (M 1) s 2 + 1) 24
def xm_reshare (M : TW) (s mem k : Nat) : TW := if s ≤ 3 ∧ mem ≤ 255 ∧ 1 ≤ k ∧ k ≤ 8 then (if loC (M 1) s mem = 0 then (if k ≤ upF (M 1) 8 then tEv (dlM (tNd M (opL (M 1) s mem)) s (opV M s mem 0) k (gOf (M 1) s 2 + 1)) (400 + s) else M) else loX M s mem) else M
set_option maxHeartbeats 400000 in
theorem ctX3_reshare {E : GE} {h : AH} {A : Nat → Nat} (hA : twA A) (M : TW) (s mem k : Nat) (hW : tWF M) (hWp : ∀ s, s < 4 → plW (M 1) s) (hs : s < 4294967296) (hm : mem < 4294967296) (hk : k < 4294967296) : Ct E cX3_reshare mX3_reshare [.ref (A 0), .int (nI s), .int (nI mem), .int (nI k)] (twO E A M h) (pN fun r h' => tEnd E A h (xc_reshare M s mem k ) (xv_reshare M s mem k ) (xm_reshare M s mem k ) r h') noX := by
  refine g_enter (own := "SecretVaultModel") [some (.ref (A 0)), some (.int (nI s)), some (.int (nI mem)), some (.int (nI k)), none, none] (by decide +kernel) rfl rfl (Nat.le_of_ble_eq_true rfl) rfl rfl (fun X => ?_)
  have hB := hW.1
  have hWt := hW.2.1
  have hs17 : M 1 17 ≤ 20 := hW.2.2.2.1
  have hlc := loC_le (M 1) s mem
  have hup := upF_le hWt 8 (by decide)
  refine g_iload1 dX3_reshare_0 ?_
  refine g_S1n0 (ctX3_isSlot _ (by omega)) kX3_isSlot q2235 (by decide) ⟨rfl, rfl⟩ ⟨Nat.zero_le _, Nat.zero_le _⟩ (Nat.le_of_ble_eq_true rfl) dX3_reshare_1 (fun r_1 h_1 p_1 => ?_)
  obtain ⟨hr_1, hi_1, rfl⟩ := p_1
  first | refine g_ifN_ne (tgt := 13) dX3_reshare_4 (by decide) (by first | omega | exact hB _ _) (fun c_4 => ?_) (fun c_4 => ?_) | refine g_if_ne (tgt := 13) dX3_reshare_4 (by decide) (fun c_4 => ?_) (fun c_4 => ?_)
  · refine g_iload2 dX3_reshare_13 ?_
    refine g_S1n0 (ctX3_isSet _ (by omega)) kX3_isSet q2289 (by decide) ⟨rfl, rfl⟩ ⟨Nat.zero_le _, Nat.zero_le _⟩ (Nat.le_of_ble_eq_true rfl) dX3_reshare_14 (fun r_14 h_14 p_14 => ?_)
    obtain ⟨hr_14, hi_14, rfl⟩ := p_14
    first | refine g_ifN_eq (tgt := 30) dX3_reshare_17 (by decide) (by first | omega | exact hB _ _) (fun c_17 => ?_) (fun c_17 => ?_) | refine g_if_eq (tgt := 30) dX3_reshare_17 (by decide) (fun c_17 => ?_) (fun c_17 => ?_)
    · first | refine g_aload0 dX3_reshare_30 ?_ | refine g_aloadQ0 dX3_reshare_30 ?_ | refine g_aloadN0 dX3_reshare_30 ?_
      refine g_iconst (nI 2) dX3_reshare_31 (by decide) ?_
      refine g_V1n0 (ctX3_fails hA _ _) kX3_fails q2196 tw_0 rfl rfl (by decide) ⟨rfl, rfl⟩ ⟨Nat.zero_le _, Nat.zero_le _⟩ (Nat.le_of_ble_eq_true rfl) dX3_reshare_32 (fun r_32 h_32 p_32 => ?_)
      obtain ⟨rfl, rfl⟩ := p_32
      exact g_iret dX3_reshare_35 rfl ⟨_, rfl, (by first | exact t_fails (by unfold xc_reshare; (repeat' split) <;> omega) (by omega) (by unfold xm_reshare; rw [if_neg (by omega)]; exact tSame.rf) | exact t_fails (by unfold xc_reshare; rw [if_neg (by omega), if_neg (by omega), if_pos (by omega)]; omega) (by omega) (by unfold xm_reshare; rw [if_pos (by omega), if_neg (by omega)]; exact lo_same (by omega)) | exact t_fails (by unfold xc_reshare; rw [if_neg (by omega), if_neg (by omega), if_neg (by omega), if_pos (by omega)]) (by omega) (by unfold xm_reshare; rw [if_pos (by omega), if_pos (by omega), if_neg (by omega)]; exact tNd_same _ _) | exact t_done (by unfold xc_reshare; rw [if_neg (by omega), if_neg (by omega), if_neg (by omega), if_neg (by omega)]) (by unfold xv_reshare; exact hi_93) (by unfold xm_reshare; rw [if_pos (by omega), if_pos (by omega), if_pos (by omega)]; exact tSame.rf))⟩
    · refine g_iload3 dX3_reshare_20 ?_
      refine g_iconst (nI 1) dX3_reshare_21 (by decide) ?_
      refine g_bipush (nI 8) dX3_reshare_22 (by decide) ?_
      refine g_S3n0 (ctX3_in _ _ _ (by first | omega | exact hB _ _) (by omega) (by omega)) kX3_in q2193 (by decide) ⟨rfl, rfl⟩ ⟨Nat.zero_le _, Nat.zero_le _⟩ (Nat.le_of_ble_eq_true rfl) dX3_reshare_24 (fun r_24 h_24 p_24 => ?_)
      obtain ⟨hr_24, hi_24, rfl⟩ := p_24
      first | refine g_ifN_ne (tgt := 36) dX3_reshare_27 (by decide) (by first | omega | exact hB _ _) (fun c_27 => ?_) (fun c_27 => ?_) | refine g_if_ne (tgt := 36) dX3_reshare_27 (by decide) (fun c_27 => ?_) (fun c_27 => ?_)
      · first | refine g_aload0 dX3_reshare_36 ?_ | refine g_aloadQ0 dX3_reshare_36 ?_ | refine g_aloadN0 dX3_reshare_36 ?_
        refine g_iload1 dX3_reshare_37 ?_
        refine g_iload2 dX3_reshare_38 ?_
        refine g_V2n0 (ctX3_lacksOpen hA _ _ _ hW hWp (by omega) (by omega)) kX3_lacksOpen q2292 tw_0 rfl rfl (by decide) ⟨rfl, rfl⟩ ⟨Nat.zero_le _, Nat.zero_le _⟩ (Nat.le_of_ble_eq_true rfl) dX3_reshare_39 (fun r_39 h_39 p_39 => ?_)
        obtain ⟨hi_39, rfl⟩ := p_39
        refine g_istore4 dX3_reshare_42 (by decide) ?_
        refine g_iload4 dX3_reshare_44 ?_
        first | refine g_ifN_eq (tgt := 56) dX3_reshare_46 (by decide) (by first | omega | exact hB _ _) (fun c_46 => ?_) (fun c_46 => ?_) | refine g_if_eq (tgt := 56) dX3_reshare_46 (by decide) (fun c_46 => ?_) (fun c_46 => ?_)
        · have h00 : loC (M 1) s mem = 0 := by omega
          obtain ⟨hs3, hm3, hh3, hop⟩ := loC_0 h00
          rw [loM_0 h00]
          have hsl := hW.2.2.2.2 s (by omega)
          have hS := hsl.P
          have hk8 := hsl.2.2.1
          have hN := op_N hop
          have hvl : opV M s mem 0 < 1019 := vaS_lt _ _ _ _ _ _
          have hep := hsl.2.2.2.1
          first | refine g_aload0 dX3_reshare_56 ?_ | refine g_aloadQ0 dX3_reshare_56 ?_ | refine g_aloadN0 dX3_reshare_56 ?_
          refine g_V0n0 (ctX3_usedPlaces hA _ (twB_op hB)) kX3_usedPlaces q2238 tw_0 rfl rfl (by decide) ⟨rfl, rfl⟩ ⟨Nat.zero_le _, Nat.zero_le _⟩ (Nat.le_of_ble_eq_true rfl) dX3_reshare_57 (fun r_57 h_57 p_57 => ?_)
          obtain ⟨hi0_r, rfl⟩ := p_57
          have hi_57 : r_57 = upF (M 1) 8 := hi0_r
          refine g_iload3 dX3_reshare_60 ?_
          first | refine g_icmpN_ge (tgt := 70) dX3_reshare_61 (by decide) (by first | omega | exact hB _ _) (by first | omega | exact hB _ _) (fun c_61 => ?_) (fun c_61 => ?_) | refine g_icmp_ge (tgt := 70) dX3_reshare_61 (by decide) (fun c_61 => ?_) (fun c_61 => ?_)
          · first | refine g_aload0 dX3_reshare_70 ?_ | refine g_aloadQ0 dX3_reshare_70 ?_ | refine g_aloadN0 dX3_reshare_70 ?_
            refine g_iload1 dX3_reshare_71 ?_
            first | refine g_aload0 dX3_reshare_72 ?_ | refine g_aloadQ0 dX3_reshare_72 ?_ | refine g_aloadN0 dX3_reshare_72 ?_
            refine g_iload1 dX3_reshare_73 ?_
            first | refine g_aload0 dX3_reshare_74 ?_ | refine g_aloadQ0 dX3_reshare_74 ?_ | refine g_aloadN0 dX3_reshare_74 ?_
            refine g_iload1 dX3_reshare_75 ?_
            refine g_iconst (nI 1) dX3_reshare_76 (by decide) ?_
            refine g_V2n0 (ctX3_of hA _ _ _ (by omega) (by omega)) kX3_of q2220 tw_0 rfl rfl (by decide) ⟨rfl, rfl⟩ ⟨Nat.zero_le _, Nat.zero_le _⟩ (Nat.le_of_ble_eq_true rfl) dX3_reshare_77 (fun r_77 h_77 p_77 => ?_)
            obtain ⟨rfl, rfl⟩ := p_77
            rw [show gOf ((tNd M (opL (M 1) s mem)) 1) s 1 = gOf (M 1) s 1 from rfl]
            refine g_iconst (nI 0) dX3_reshare_80 (by decide) ?_
            refine g_V3n0 (ctX3_valueAt hA (tNd M (opL (M 1) s mem)) _ _ _ (by omega) (by omega) (by omega) hS hN) kX3_valueAt q2335 tw_0 rfl rfl (by decide) ⟨rfl, rfl⟩ ⟨Nat.zero_le _, Nat.zero_le _⟩ (Nat.le_of_ble_eq_true rfl) dX3_reshare_81 (fun r_81 h_81 p_81 => ?_)
            obtain ⟨hi0_r, rfl⟩ := p_81
            have hi_81 : r_81 = opV M s mem 0 := hi0_r
            subst hi_81
            refine g_iload3 dX3_reshare_84 ?_
            first | refine g_aload0 dX3_reshare_85 ?_ | refine g_aloadQ0 dX3_reshare_85 ?_ | refine g_aloadN0 dX3_reshare_85 ?_
            refine g_iload1 dX3_reshare_86 ?_
            refine g_iconst (nI 2) dX3_reshare_87 (by decide) ?_
            refine g_V2n0 (ctX3_of hA _ _ _ (by omega) (by omega)) kX3_of q2220 tw_0 rfl rfl (by decide) ⟨rfl, rfl⟩ ⟨Nat.zero_le _, Nat.zero_le _⟩ (Nat.le_of_ble_eq_true rfl) dX3_reshare_88 (fun r_88 h_88 p_88 => ?_)
            obtain ⟨rfl, rfl⟩ := p_88
            rw [show gOf ((tNd M (opL (M 1) s mem)) 1) s 2 = gOf (M 1) s 2 from rfl]
            refine g_iconst (nI 1) dX3_reshare_91 (by decide) ?_
            first | refine g_iaddN dX3_reshare_92 ?_ | refine g_iadd dX3_reshare_92 ?_
            refine g_V4n0 (ctX3_deals hA (tNd M (opL (M 1) s mem)) _ _ _ _ (twB_op hB) (by omega) hvl (by omega) (by omega) hWt) kX3_deals q2246 tw_0 rfl rfl (by decide) ⟨rfl, rfl⟩ ⟨Nat.zero_le _, Nat.zero_le _⟩ (Nat.le_of_ble_eq_true rfl) dX3_reshare_93 (fun r_93 h_93 p_93 => ?_)
            obtain ⟨hi_93, rfl⟩ := p_93
            refine g_istore5 dX3_reshare_96 (by decide) ?_
            have hE : dlM (tNd M (opL (M 1) s mem)) s (opV M s mem 0) k (gOf (M 1) s 2 + 1) 1 17 ≤ 20 := by rw [dlM_g _ _ _ _ _ _ (by decide) (by decide)]; exact hs17
            first | refine g_aload0 dX3_reshare_98 ?_ | refine g_aloadQ0 dX3_reshare_98 ?_ | refine g_aloadN0 dX3_reshare_98 ?_
            refine g_sipush (nI 400) dX3_reshare_99 (by decide) ?_
            refine g_iload1 dX3_reshare_102 ?_
            first | refine g_iaddN dX3_reshare_103 ?_ | refine g_iadd dX3_reshare_103 ?_
            refine g_V1v0 (ctX3_happens hA _ _ hE) kX3_happens q2269 tw_0 rfl rfl (by decide) ⟨rfl, rfl⟩ ⟨Nat.zero_le _, Nat.zero_le _⟩ (Nat.le_of_ble_eq_true rfl) dX3_reshare_104 (fun h_104 p_104 => ?_)
            subst p_104
            first | refine g_aload0 dX3_reshare_107 ?_ | refine g_aloadQ0 dX3_reshare_107 ?_ | refine g_aloadN0 dX3_reshare_107 ?_
            refine g_iload5 dX3_reshare_108 ?_
            refine g_V1n0 (ctX3_done hA _ _) kX3_done q2173 tw_0 rfl rfl (by decide) ⟨rfl, rfl⟩ ⟨Nat.zero_le _, Nat.zero_le _⟩ (Nat.le_of_ble_eq_true rfl) dX3_reshare_110 (fun r_110 h_110 p_110 => ?_)
            obtain ⟨rfl, rfl⟩ := p_110
            exact g_iret dX3_reshare_113 rfl ⟨_, rfl, (by first | exact t_fails (by unfold xc_reshare; (repeat' split) <;> omega) (by omega) (by unfold xm_reshare; rw [if_neg (by omega)]; exact tSame.rf) | exact t_fails (by unfold xc_reshare; rw [if_neg (by omega), if_neg (by omega), if_pos (by omega)]; omega) (by omega) (by unfold xm_reshare; rw [if_pos (by omega), if_neg (by omega)]; exact lo_same (by omega)) | exact t_fails (by unfold xc_reshare; rw [if_neg (by omega), if_neg (by omega), if_neg (by omega), if_pos (by omega)]) (by omega) (by unfold xm_reshare; rw [if_pos (by omega), if_pos (by omega), if_neg (by omega)]; exact tNd_same _ _) | exact t_done (by unfold xc_reshare; rw [if_neg (by omega), if_neg (by omega), if_neg (by omega), if_neg (by omega)]) (by unfold xv_reshare; exact hi_93) (by unfold xm_reshare; rw [if_pos (by omega), if_pos (by omega), if_pos (by omega)]; exact tSame.rf))⟩
          · first | refine g_aload0 dX3_reshare_64 ?_ | refine g_aloadQ0 dX3_reshare_64 ?_ | refine g_aloadN0 dX3_reshare_64 ?_
            refine g_iconst (nI 5) dX3_reshare_65 (by decide) ?_
            refine g_V1n0 (ctX3_fails hA _ _) kX3_fails q2196 tw_0 rfl rfl (by decide) ⟨rfl, rfl⟩ ⟨Nat.zero_le _, Nat.zero_le _⟩ (Nat.le_of_ble_eq_true rfl) dX3_reshare_66 (fun r_66 h_66 p_66 => ?_)
            obtain ⟨rfl, rfl⟩ := p_66
            exact g_iret dX3_reshare_69 rfl ⟨_, rfl, (by first | exact t_fails (by unfold xc_reshare; (repeat' split) <;> omega) (by omega) (by unfold xm_reshare; rw [if_neg (by omega)]; exact tSame.rf) | exact t_fails (by unfold xc_reshare; rw [if_neg (by omega), if_neg (by omega), if_pos (by omega)]; omega) (by omega) (by unfold xm_reshare; rw [if_pos (by omega), if_neg (by omega)]; exact lo_same (by omega)) | exact t_fails (by unfold xc_reshare; rw [if_neg (by omega), if_neg (by omega), if_neg (by omega), if_pos (by omega)]) (by omega) (by unfold xm_reshare; rw [if_pos (by omega), if_pos (by omega), if_neg (by omega)]; exact tNd_same _ _) | exact t_done (by unfold xc_reshare; rw [if_neg (by omega), if_neg (by omega), if_neg (by omega), if_neg (by omega)]) (by unfold xv_reshare; exact hi_93) (by unfold xm_reshare; rw [if_pos (by omega), if_pos (by omega), if_pos (by omega)]; exact tSame.rf))⟩
        · first | refine g_aload0 dX3_reshare_49 ?_ | refine g_aloadQ0 dX3_reshare_49 ?_ | refine g_aloadN0 dX3_reshare_49 ?_
          refine g_iload4 dX3_reshare_50 ?_
          refine g_V1n0 (ctX3_fails hA _ _) kX3_fails q2196 tw_0 rfl rfl (by decide) ⟨rfl, rfl⟩ ⟨Nat.zero_le _, Nat.zero_le _⟩ (Nat.le_of_ble_eq_true rfl) dX3_reshare_52 (fun r_52 h_52 p_52 => ?_)
          obtain ⟨rfl, rfl⟩ := p_52
          exact g_iret dX3_reshare_55 rfl ⟨_, rfl, (by first | exact t_fails (by unfold xc_reshare; (repeat' split) <;> omega) (by omega) (by unfold xm_reshare; rw [if_neg (by omega)]; exact tSame.rf) | exact t_fails (by unfold xc_reshare; rw [if_neg (by omega), if_neg (by omega), if_pos (by omega)]; omega) (by omega) (by unfold xm_reshare; rw [if_pos (by omega), if_neg (by omega)]; exact lo_same (by omega)) | exact t_fails (by unfold xc_reshare; rw [if_neg (by omega), if_neg (by omega), if_neg (by omega), if_pos (by omega)]) (by omega) (by unfold xm_reshare; rw [if_pos (by omega), if_pos (by omega), if_neg (by omega)]; exact tNd_same _ _) | exact t_done (by unfold xc_reshare; rw [if_neg (by omega), if_neg (by omega), if_neg (by omega), if_neg (by omega)]) (by unfold xv_reshare; exact hi_93) (by unfold xm_reshare; rw [if_pos (by omega), if_pos (by omega), if_pos (by omega)]; exact tSame.rf))⟩
      · first | refine g_aload0 dX3_reshare_30 ?_ | refine g_aloadQ0 dX3_reshare_30 ?_ | refine g_aloadN0 dX3_reshare_30 ?_
        refine g_iconst (nI 2) dX3_reshare_31 (by decide) ?_
        refine g_V1n0 (ctX3_fails hA _ _) kX3_fails q2196 tw_0 rfl rfl (by decide) ⟨rfl, rfl⟩ ⟨Nat.zero_le _, Nat.zero_le _⟩ (Nat.le_of_ble_eq_true rfl) dX3_reshare_32 (fun r_32 h_32 p_32 => ?_)
        obtain ⟨rfl, rfl⟩ := p_32
        exact g_iret dX3_reshare_35 rfl ⟨_, rfl, (by first | exact t_fails (by unfold xc_reshare; (repeat' split) <;> omega) (by omega) (by unfold xm_reshare; rw [if_neg (by omega)]; exact tSame.rf) | exact t_fails (by unfold xc_reshare; rw [if_neg (by omega), if_neg (by omega), if_pos (by omega)]; omega) (by omega) (by unfold xm_reshare; rw [if_pos (by omega), if_neg (by omega)]; exact lo_same (by omega)) | exact t_fails (by unfold xc_reshare; rw [if_neg (by omega), if_neg (by omega), if_neg (by omega), if_pos (by omega)]) (by omega) (by unfold xm_reshare; rw [if_pos (by omega), if_pos (by omega), if_neg (by omega)]; exact tNd_same _ _) | exact t_done (by unfold xc_reshare; rw [if_neg (by omega), if_neg (by omega), if_neg (by omega), if_neg (by omega)]) (by unfold xv_reshare; exact hi_93) (by unfold xm_reshare; rw [if_pos (by omega), if_pos (by omega), if_pos (by omega)]; exact tSame.rf))⟩
  · first | refine g_aload0 dX3_reshare_7 ?_ | refine g_aloadQ0 dX3_reshare_7 ?_ | refine g_aloadN0 dX3_reshare_7 ?_
    refine g_iconst (nI 1) dX3_reshare_8 (by decide) ?_
    refine g_V1n0 (ctX3_fails hA _ _) kX3_fails q2196 tw_0 rfl rfl (by decide) ⟨rfl, rfl⟩ ⟨Nat.zero_le _, Nat.zero_le _⟩ (Nat.le_of_ble_eq_true rfl) dX3_reshare_9 (fun r_9 h_9 p_9 => ?_)
    obtain ⟨rfl, rfl⟩ := p_9
    exact g_iret dX3_reshare_12 rfl ⟨_, rfl, (by first | exact t_fails (by unfold xc_reshare; (repeat' split) <;> omega) (by omega) (by unfold xm_reshare; rw [if_neg (by omega)]; exact tSame.rf) | exact t_fails (by unfold xc_reshare; rw [if_neg (by omega), if_neg (by omega), if_pos (by omega)]; omega) (by omega) (by unfold xm_reshare; rw [if_pos (by omega), if_neg (by omega)]; exact lo_same (by omega)) | exact t_fails (by unfold xc_reshare; rw [if_neg (by omega), if_neg (by omega), if_neg (by omega), if_pos (by omega)]) (by omega) (by unfold xm_reshare; rw [if_pos (by omega), if_pos (by omega), if_neg (by omega)]; exact tNd_same _ _) | exact t_done (by unfold xc_reshare; rw [if_neg (by omega), if_neg (by omega), if_neg (by omega), if_neg (by omega)]) (by unfold xv_reshare; exact hi_93) (by unfold xm_reshare; rw [if_pos (by omega), if_pos (by omega), if_pos (by omega)]; exact tSame.rf))⟩
