/-! THE TWIN: what a policy is like -/
set_option maxRecDepth 100000
abbrev mX3_isDigitAt : GM := (yX3_isDigitAt, 3, (some .boolean), [], { frames := 1, cells := 0, slots := 0, locals := 22 }, 255)
theorem kX3_isDigitAt : gCv cX3_isDigitAt mX3_isDigitAt 2 := ⟨q2480, qs62, q90, q2481, ⟨by decide +kernel, by decide +kernel, by decide +kernel⟩, rfl⟩
set_option maxHeartbeats 400000 in
theorem ctX3_isDigitAt {E : GE} {h : AH} {A : Nat → Nat} (hA : twA A) (M : TW) (s k : Nat) (hB : twB M) (hs : s < 4) (hk : k ≤ 40) : Ct E cX3_isDigitAt mX3_isDigitAt [.ref (A 0), .int (nI s), .int (nI k)] (twO E A M h) (pN fun r h' => r < 2 ∧ (r = 1 ↔ dgt (pT (M 1) s) k) ∧ h' = twO E A M h) noX := by
  refine g_enter (own := "SecretVaultModel") [some (.ref (A 0)), some (.int (nI s)), some (.int (nI k))] (by decide +kernel) rfl rfl (Nat.le_of_ble_eq_true rfl) rfl rfl (fun X => ?_)
  first | refine g_aload0 dX3_isDigitAt_0 ?_ | refine g_aloadQ0 dX3_isDigitAt_0 ?_ | refine g_aloadN0 dX3_isDigitAt_0 ?_
  refine g_iload1 dX3_isDigitAt_1 ?_
  refine g_bipush (nI 12) dX3_isDigitAt_2 (by decide) ?_
  refine g_iload2 dX3_isDigitAt_4 ?_
  first | refine g_iaddN dX3_isDigitAt_5 ?_ | refine g_iadd dX3_isDigitAt_5 ?_
  refine g_V2n0 (ctX3_of hA _ _ _ (by omega) (by omega)) kX3_of q2220 tw_0 rfl rfl (by decide) ⟨rfl, rfl⟩ ⟨Nat.zero_le _, Nat.zero_le _⟩ (Nat.le_of_ble_eq_true rfl) dX3_isDigitAt_6 (fun r_6 h_6 p_6 => ?_)
  obtain ⟨rfl, rfl⟩ := p_6
  rw [show gOf (M 1) s (12 + k) = pT (M 1) s k from rfl]
  refine g_bipush (nI 48) dX3_isDigitAt_9 (by decide) ?_
  refine g_bipush (nI 57) dX3_isDigitAt_11 (by decide) ?_
  refine g_S3n0 (ctX3_in _ _ _ (by first | omega | exact hB _ _) (by omega) (by omega)) kX3_in q2193 (by decide) ⟨rfl, rfl⟩ ⟨Nat.zero_le _, Nat.zero_le _⟩ (Nat.le_of_ble_eq_true rfl) dX3_isDigitAt_13 (fun r_13 h_13 p_13 => ?_)
  obtain ⟨hr_13, hi_13, rfl⟩ := p_13
  exact g_zret dX3_isDigitAt_16 rfl (nar_zb (by first | omega | exact hB _ _)) ⟨_, rfl, by omega, hi_13, rfl⟩
abbrev mX3_countsAround : GM := (yX3_countsAround, 7, (some .int), [], { frames := 2, cells := 0, slots := 0, locals := 45 }, 255)
theorem kX3_countsAround : gCv cX3_countsAround mX3_countsAround 2 := ⟨q2484, qs63, q90, q2485, ⟨by decide +kernel, by decide +kernel, by decide +kernel⟩, rfl⟩
set_option maxHeartbeats 400000 in
theorem ctX3_countsAround {E : GE} {h : AH} {A : Nat → Nat} (hA : twA A) (M : TW) (s at' : Nat) (hB : twB M) (hs : s < 4) (hn : (gOf (M 1) s 11) ≤ 40) (ha : at' < (gOf (M 1) s 11)) (hE : ∀ j, j < (gOf (M 1) s 11) → dgt (pT (M 1) s) j → cnC (pT (M 1) s) (gOf (M 1) s 11) j → j + 3 < (gOf (M 1) s 11) ∧ pT (M 1) s (j + 3) = 40 ∧ ∃ e, enO (pT (M 1) s) ((gOf (M 1) s 11) - (j + 3)) (j + 3) 0 = some e) : Ct E cX3_countsAround mX3_countsAround [.ref (A 0), .int (nI s), .int (nI at')] (twO E A M h) (pN fun r h' => r = (caS (pT (M 1) s) (gOf (M 1) s 11) at' 0 at') ∧ h' = twO E A M h) noX := by
  refine g_enter (own := "SecretVaultModel") [some (.ref (A 0)), some (.int (nI s)), some (.int (nI at')), none, none, none, none] (by decide +kernel) rfl rfl (Nat.le_of_ble_eq_true rfl) rfl rfl (fun X => ?_)
  have L : ∀ i, 0 ≤ i → i ≤ at' → ∀ o5 o6, V E cX3_countsAround "SecretVaultModel" mX3_countsAround (pN fun r h' => r = (caS (pT (M 1) s) (gOf (M 1) s 11) at' 0 at') ∧ h' = twO E A M h) noX X (twO E A M h) 0 0 5 [some (.ref (A 0)), some (.int (nI (s))), some (.int (nI (at'))), some (.int (nI (caS (pT (M 1) s) (gOf (M 1) s 11) at' 0 (i)))), some (.int (nI (i))), o5, o6] [] := by
    refine g_for _ 0 at' ?_ ?_
    · intro o5 o6
      refine g_iload4 dX3_countsAround_5 ?_
      refine g_iload2 dX3_countsAround_7 ?_
      first | refine g_icmpN_ge (tgt := 119) dX3_countsAround_8 (by decide) (by omega) (by omega) (fun c_8 => ?_) (fun c_8 => ?_) | refine g_icmp_ge (tgt := 119) dX3_countsAround_8 (by decide) (fun c_8 => ?_) (fun c_8 => ?_)
      · refine g_iload3 dX3_countsAround_119 ?_
        exact g_iret dX3_countsAround_120 rfl ⟨_, rfl, rfl, rfl⟩
      · omega
    · intro i h0 hi ih o5 o6
      have hS0 : ∀ (x : Nat), x = (if dgt (pT (M 1) s) (0 + i) ∧ cnC (pT (M 1) s) (gOf (M 1) s 11) (0 + i) ∧ at' < enE (pT (M 1) s) (gOf (M 1) s 11) (0 + i) then 1 else 0) → caS (pT (M 1) s) (gOf (M 1) s 11) at' 0 (i + 1) = caS (pT (M 1) s) (gOf (M 1) s 11) at' 0 i + x := fun x hx => by rw [hx]; rfl
      rw [Nat.zero_add] at hS0
      have L2 : dgt (pT (M 1) s) i → cnC (pT (M 1) s) (gOf (M 1) s 11) i → ∀ u e d, e + u = (gOf (M 1) s 11) → i < e → (0 < d ∨ pT (M 1) s e = 40) → d ≤ e → enO (pT (M 1) s) u e d = some (enE (pT (M 1) s) (gOf (M 1) s 11) i) → V E cX3_countsAround "SecretVaultModel" mX3_countsAround (pN fun r h' => r = (caS (pT (M 1) s) (gOf (M 1) s 11) at' 0 at') ∧ h' = twO E A M h) noX X (twO E A M h) 0 0 47 [some (.ref (A 0)), some (.int (nI (s))), some (.int (nI (at'))), some (.int (nI (caS (pT (M 1) s) (gOf (M 1) s 11) at' 0 i))), some (.int (nI (i))), some (.int (nI (d))), some (.int (nI (e)))] [] := by
        intro hdg hcn u
        induction u with
        | zero => intro e d _ _ _ _ h; exact nomatch h
        | succ u ihu =>
          intro e d heu hie hd0 hde h
          have htb : pT (M 1) s e < 4294967296 := hB _ _
          refine g_iload5 dX3_countsAround_47 ?_
          first | refine g_aload0 dX3_countsAround_49 ?_ | refine g_aloadQ0 dX3_countsAround_49 ?_ | refine g_aloadN0 dX3_countsAround_49 ?_
          refine g_iload1 dX3_countsAround_50 ?_
          refine g_bipush (nI 12) dX3_countsAround_51 (by decide) ?_
          refine g_iload6 dX3_countsAround_53 ?_
          first | refine g_iaddN dX3_countsAround_55 ?_ | refine g_iadd dX3_countsAround_55 ?_
          refine g_V2n0 (ctX3_of hA _ _ _ (by omega) (by omega)) kX3_of q2220 tw_0 rfl rfl (by decide) ⟨rfl, rfl⟩ ⟨Nat.zero_le _, Nat.zero_le _⟩ (Nat.le_of_ble_eq_true rfl) dX3_countsAround_56 (fun r_56 h_56 p_56 => ?_)
          obtain ⟨rfl, rfl⟩ := p_56
          rw [show gOf (M 1) s (12 + e) = pT (M 1) s e from rfl]
          refine g_bipush (nI 40) dX3_countsAround_59 (by decide) ?_
          first | refine g_icmpN_ne (tgt := 68) dX3_countsAround_61 (by decide) (by first | omega | exact hB _ _) (by first | omega | exact hB _ _) (fun c_61 => ?_) (fun c_61 => ?_) | refine g_icmpU_ne (tgt := 68) dX3_countsAround_61 (by decide) (by first | omega | exact hB _ _) (by first | omega | exact hB _ _) (fun c_61 => ?_) (fun c_61 => ?_) | refine g_icmp_ne (tgt := 68) dX3_countsAround_61 (by decide) (fun c_61 => ?_) (fun c_61 => ?_)
          · first | refine g_aload0 dX3_countsAround_68 ?_ | refine g_aloadQ0 dX3_countsAround_68 ?_ | refine g_aloadN0 dX3_countsAround_68 ?_
            refine g_iload1 dX3_countsAround_69 ?_
            refine g_bipush (nI 12) dX3_countsAround_70 (by decide) ?_
            refine g_iload6 dX3_countsAround_72 ?_
            first | refine g_iaddN dX3_countsAround_74 ?_ | refine g_iadd dX3_countsAround_74 ?_
            refine g_V2n0 (ctX3_of hA _ _ _ (by omega) (by omega)) kX3_of q2220 tw_0 rfl rfl (by decide) ⟨rfl, rfl⟩ ⟨Nat.zero_le _, Nat.zero_le _⟩ (Nat.le_of_ble_eq_true rfl) dX3_countsAround_75 (fun r_75 h_75 p_75 => ?_)
            obtain ⟨rfl, rfl⟩ := p_75
            rw [show gOf (M 1) s (12 + e) = pT (M 1) s e from rfl]
            refine g_bipush (nI 41) dX3_countsAround_78 (by decide) ?_
            first | refine g_icmpN_ne (tgt := 87) dX3_countsAround_80 (by decide) (by first | omega | exact hB _ _) (by first | omega | exact hB _ _) (fun c_80 => ?_) (fun c_80 => ?_) | refine g_icmpU_ne (tgt := 87) dX3_countsAround_80 (by decide) (by first | omega | exact hB _ _) (by first | omega | exact hB _ _) (fun c_80 => ?_) (fun c_80 => ?_) | refine g_icmp_ne (tgt := 87) dX3_countsAround_80 (by decide) (fun c_80 => ?_) (fun c_80 => ?_)
            · refine g_iconst (nI 0) dX3_countsAround_87 (by decide) ?_
              first | refine g_iaddN dX3_countsAround_88 ?_ | refine g_iadd dX3_countsAround_88 ?_
              first
                | (have es : stp d (pT (M 1) s e) = d + 1 := by unfold stp; rw [if_pos (by omega)])
                | (have es : stp d (pT (M 1) s e) = d - 1 := by unfold stp; rw [if_neg (by omega), if_pos (by omega)])
                | (have es : stp d (pT (M 1) s e) = d := stp_0 (by omega) (by omega))
              refine g_istore5 dX3_countsAround_89 (by decide) ?_
              first | refine g_iincN6 1 dX3_countsAround_91 (by decide) (by decide) ?_ | refine g_iinc6 _ dX3_countsAround_91 rfl (by decide) ?_
              refine g_iload5 dX3_countsAround_94 ?_
              first | refine g_ifN_gt (tgt := 47) dX3_countsAround_96 (by decide) (by first | omega | exact hB _ _) (fun c_96 => ?_) (fun c_96 => ?_) | refine g_if_gt (tgt := 47) dX3_countsAround_96 (by decide) (fun c_96 => ?_) (fun c_96 => ?_)
              · rw [enO_s (by omega), es] at h
                first | exact ihu _ _ (by omega) (by omega) (by omega) (by omega) h | exact ihu _ _ (by omega) (by omega) (Or.inl (by omega)) (by omega) h
              · have eE : enE (pT (M 1) s) (gOf (M 1) s 11) i = e + 1 := by rw [enO_h (by omega)] at h; injection h with h; exact h.symm
                refine g_iload3 dX3_countsAround_99 ?_
                refine g_iload2 dX3_countsAround_100 ?_
                refine g_iload6 dX3_countsAround_101 ?_
                first | refine g_icmpN_ge (tgt := 110) dX3_countsAround_103 (by decide) (by first | omega | exact hB _ _) (by first | omega | exact hB _ _) (fun c_103 => ?_) (fun c_103 => ?_) | refine g_icmp_ge (tgt := 110) dX3_countsAround_103 (by decide) (fun c_103 => ?_) (fun c_103 => ?_)
                · refine g_iconst (nI 0) dX3_countsAround_110 (by decide) ?_
                  first | refine g_iaddN dX3_countsAround_111 ?_ | refine g_iadd dX3_countsAround_111 ?_
                  refine g_istore3 dX3_countsAround_112 (by decide) ?_
                  first | refine g_iincN4 1 dX3_countsAround_113 (by decide) (by decide) ?_ | refine g_iinc4 _ dX3_countsAround_113 rfl (by decide) ?_
                  refine g_goto (tgt := 5) dX3_countsAround_116 (by decide) ?_
                  first | (rw [hS0 1 (by rw [if_pos ⟨hdg, hcn, by omega⟩])] at ih; exact ih _ _) | (rw [hS0 0 (by rw [if_neg (fun z => by have := z.2.2; omega)])] at ih; exact ih _ _)
                · refine g_iconst (nI 1) dX3_countsAround_106 (by decide) ?_
                  refine g_goto (tgt := 111) dX3_countsAround_107 (by decide) ?_
                  first | refine g_iaddN dX3_countsAround_111 ?_ | refine g_iadd dX3_countsAround_111 ?_
                  refine g_istore3 dX3_countsAround_112 (by decide) ?_
                  first | refine g_iincN4 1 dX3_countsAround_113 (by decide) (by decide) ?_ | refine g_iinc4 _ dX3_countsAround_113 rfl (by decide) ?_
                  refine g_goto (tgt := 5) dX3_countsAround_116 (by decide) ?_
                  first | (rw [hS0 1 (by rw [if_pos ⟨hdg, hcn, by omega⟩])] at ih; exact ih _ _) | (rw [hS0 0 (by rw [if_neg (fun z => by have := z.2.2; omega)])] at ih; exact ih _ _)
            · refine g_iconst (nI 4294967295) dX3_countsAround_83 (by decide) ?_
              refine g_goto (tgt := 88) dX3_countsAround_84 (by decide) ?_
              first | refine g_iaddN dX3_countsAround_88 ?_ | refine g_iadd dX3_countsAround_88 ?_
              first
                | (have es : stp d (pT (M 1) s e) = d + 1 := by unfold stp; rw [if_pos (by omega)])
                | (have es : stp d (pT (M 1) s e) = d - 1 := by unfold stp; rw [if_neg (by omega), if_pos (by omega)])
                | (have es : stp d (pT (M 1) s e) = d := stp_0 (by omega) (by omega))
              refine g_top (congrArg Value.int (nI_dm1 (by omega))) ?_
              refine g_istore5 dX3_countsAround_89 (by decide) ?_
              first | refine g_iincN6 1 dX3_countsAround_91 (by decide) (by decide) ?_ | refine g_iinc6 _ dX3_countsAround_91 rfl (by decide) ?_
              refine g_iload5 dX3_countsAround_94 ?_
              first | refine g_ifN_gt (tgt := 47) dX3_countsAround_96 (by decide) (by first | omega | exact hB _ _) (fun c_96 => ?_) (fun c_96 => ?_) | refine g_if_gt (tgt := 47) dX3_countsAround_96 (by decide) (fun c_96 => ?_) (fun c_96 => ?_)
              · rw [enO_s (by omega), es] at h
                first | exact ihu _ _ (by omega) (by omega) (by omega) (by omega) h | exact ihu _ _ (by omega) (by omega) (Or.inl (by omega)) (by omega) h
              · have eE : enE (pT (M 1) s) (gOf (M 1) s 11) i = e + 1 := by rw [enO_h (by omega)] at h; injection h with h; exact h.symm
                refine g_iload3 dX3_countsAround_99 ?_
                refine g_iload2 dX3_countsAround_100 ?_
                refine g_iload6 dX3_countsAround_101 ?_
                first | refine g_icmpN_ge (tgt := 110) dX3_countsAround_103 (by decide) (by first | omega | exact hB _ _) (by first | omega | exact hB _ _) (fun c_103 => ?_) (fun c_103 => ?_) | refine g_icmp_ge (tgt := 110) dX3_countsAround_103 (by decide) (fun c_103 => ?_) (fun c_103 => ?_)
                · refine g_iconst (nI 0) dX3_countsAround_110 (by decide) ?_
                  first | refine g_iaddN dX3_countsAround_111 ?_ | refine g_iadd dX3_countsAround_111 ?_
                  refine g_istore3 dX3_countsAround_112 (by decide) ?_
                  first | refine g_iincN4 1 dX3_countsAround_113 (by decide) (by decide) ?_ | refine g_iinc4 _ dX3_countsAround_113 rfl (by decide) ?_
                  refine g_goto (tgt := 5) dX3_countsAround_116 (by decide) ?_
                  first | (rw [hS0 1 (by rw [if_pos ⟨hdg, hcn, by omega⟩])] at ih; exact ih _ _) | (rw [hS0 0 (by rw [if_neg (fun z => by have := z.2.2; omega)])] at ih; exact ih _ _)
                · refine g_iconst (nI 1) dX3_countsAround_106 (by decide) ?_
                  refine g_goto (tgt := 111) dX3_countsAround_107 (by decide) ?_
                  first | refine g_iaddN dX3_countsAround_111 ?_ | refine g_iadd dX3_countsAround_111 ?_
                  refine g_istore3 dX3_countsAround_112 (by decide) ?_
                  first | refine g_iincN4 1 dX3_countsAround_113 (by decide) (by decide) ?_ | refine g_iinc4 _ dX3_countsAround_113 rfl (by decide) ?_
                  refine g_goto (tgt := 5) dX3_countsAround_116 (by decide) ?_
                  first | (rw [hS0 1 (by rw [if_pos ⟨hdg, hcn, by omega⟩])] at ih; exact ih _ _) | (rw [hS0 0 (by rw [if_neg (fun z => by have := z.2.2; omega)])] at ih; exact ih _ _)
          · refine g_iconst (nI 1) dX3_countsAround_64 (by decide) ?_
            refine g_goto (tgt := 88) dX3_countsAround_65 (by decide) ?_
            first | refine g_iaddN dX3_countsAround_88 ?_ | refine g_iadd dX3_countsAround_88 ?_
            first
              | (have es : stp d (pT (M 1) s e) = d + 1 := by unfold stp; rw [if_pos (by omega)])
              | (have es : stp d (pT (M 1) s e) = d - 1 := by unfold stp; rw [if_neg (by omega), if_pos (by omega)])
              | (have es : stp d (pT (M 1) s e) = d := stp_0 (by omega) (by omega))
            refine g_istore5 dX3_countsAround_89 (by decide) ?_
            first | refine g_iincN6 1 dX3_countsAround_91 (by decide) (by decide) ?_ | refine g_iinc6 _ dX3_countsAround_91 rfl (by decide) ?_
            refine g_iload5 dX3_countsAround_94 ?_
            first | refine g_ifN_gt (tgt := 47) dX3_countsAround_96 (by decide) (by first | omega | exact hB _ _) (fun c_96 => ?_) (fun c_96 => ?_) | refine g_if_gt (tgt := 47) dX3_countsAround_96 (by decide) (fun c_96 => ?_) (fun c_96 => ?_)
            · rw [enO_s (by omega), es] at h
              first | exact ihu _ _ (by omega) (by omega) (by omega) (by omega) h | exact ihu _ _ (by omega) (by omega) (Or.inl (by omega)) (by omega) h
            · have eE : enE (pT (M 1) s) (gOf (M 1) s 11) i = e + 1 := by rw [enO_h (by omega)] at h; injection h with h; exact h.symm
              refine g_iload3 dX3_countsAround_99 ?_
              refine g_iload2 dX3_countsAround_100 ?_
              refine g_iload6 dX3_countsAround_101 ?_
              first | refine g_icmpN_ge (tgt := 110) dX3_countsAround_103 (by decide) (by first | omega | exact hB _ _) (by first | omega | exact hB _ _) (fun c_103 => ?_) (fun c_103 => ?_) | refine g_icmp_ge (tgt := 110) dX3_countsAround_103 (by decide) (fun c_103 => ?_) (fun c_103 => ?_)
              · refine g_iconst (nI 0) dX3_countsAround_110 (by decide) ?_
                first | refine g_iaddN dX3_countsAround_111 ?_ | refine g_iadd dX3_countsAround_111 ?_
                refine g_istore3 dX3_countsAround_112 (by decide) ?_
                first | refine g_iincN4 1 dX3_countsAround_113 (by decide) (by decide) ?_ | refine g_iinc4 _ dX3_countsAround_113 rfl (by decide) ?_
                refine g_goto (tgt := 5) dX3_countsAround_116 (by decide) ?_
                first | (rw [hS0 1 (by rw [if_pos ⟨hdg, hcn, by omega⟩])] at ih; exact ih _ _) | (rw [hS0 0 (by rw [if_neg (fun z => by have := z.2.2; omega)])] at ih; exact ih _ _)
              · refine g_iconst (nI 1) dX3_countsAround_106 (by decide) ?_
                refine g_goto (tgt := 111) dX3_countsAround_107 (by decide) ?_
                first | refine g_iaddN dX3_countsAround_111 ?_ | refine g_iadd dX3_countsAround_111 ?_
                refine g_istore3 dX3_countsAround_112 (by decide) ?_
                first | refine g_iincN4 1 dX3_countsAround_113 (by decide) (by decide) ?_ | refine g_iinc4 _ dX3_countsAround_113 rfl (by decide) ?_
                refine g_goto (tgt := 5) dX3_countsAround_116 (by decide) ?_
                first | (rw [hS0 1 (by rw [if_pos ⟨hdg, hcn, by omega⟩])] at ih; exact ih _ _) | (rw [hS0 0 (by rw [if_neg (fun z => by have := z.2.2; omega)])] at ih; exact ih _ _)
      refine g_iload4 dX3_countsAround_5 ?_
      refine g_iload2 dX3_countsAround_7 ?_
      first | refine g_icmpN_ge (tgt := 119) dX3_countsAround_8 (by decide) (by omega) (by omega) (fun c_8 => ?_) (fun c_8 => ?_) | refine g_icmp_ge (tgt := 119) dX3_countsAround_8 (by decide) (fun c_8 => ?_) (fun c_8 => ?_)
      · omega
      · first | refine g_aload0 dX3_countsAround_11 ?_ | refine g_aloadQ0 dX3_countsAround_11 ?_ | refine g_aloadN0 dX3_countsAround_11 ?_
        refine g_iload1 dX3_countsAround_12 ?_
        refine g_iload4 dX3_countsAround_13 ?_
        refine g_V2n0 (ctX3_isDigitAt hA _ _ _ hB (by omega) (by omega)) kX3_isDigitAt q2478 tw_0 rfl rfl (by decide) ⟨rfl, rfl⟩ ⟨Nat.zero_le _, Nat.zero_le _⟩ (Nat.le_of_ble_eq_true rfl) dX3_countsAround_15 (fun r_15 h_15 p_15 => ?_)
        obtain ⟨hr_15, hi_15, rfl⟩ := p_15
        first | refine g_ifN_eq (tgt := 113) dX3_countsAround_18 (by decide) (by omega) (fun c_18 => ?_) (fun c_18 => ?_) | refine g_if_eq (tgt := 113) dX3_countsAround_18 (by decide) (fun c_18 => ?_) (fun c_18 => ?_)
        · first | refine g_iincN4 1 dX3_countsAround_113 (by decide) (by decide) ?_ | refine g_iinc4 _ dX3_countsAround_113 rfl (by decide) ?_
          refine g_goto (tgt := 5) dX3_countsAround_116 (by decide) ?_
          rw [hS0 0 (by rw [if_neg (by omega)])] at ih
          exact ih _ _
        · first | refine g_aload0 dX3_countsAround_21 ?_ | refine g_aloadQ0 dX3_countsAround_21 ?_ | refine g_aloadN0 dX3_countsAround_21 ?_
          refine g_iload1 dX3_countsAround_22 ?_
          refine g_iload4 dX3_countsAround_23 ?_
          first | refine g_aload0 dX3_countsAround_25 ?_ | refine g_aloadQ0 dX3_countsAround_25 ?_ | refine g_aloadN0 dX3_countsAround_25 ?_
          refine g_iload1 dX3_countsAround_26 ?_
          refine g_bipush (nI 11) dX3_countsAround_27 (by decide) ?_
          refine g_V2n0 (ctX3_of hA _ _ _ (by omega) (by omega)) kX3_of q2220 tw_0 rfl rfl (by decide) ⟨rfl, rfl⟩ ⟨Nat.zero_le _, Nat.zero_le _⟩ (Nat.le_of_ble_eq_true rfl) dX3_countsAround_29 (fun r_29 h_29 p_29 => ?_)
          obtain ⟨rfl, rfl⟩ := p_29
          refine g_V3n0 (ctX3_isCount hA _ _ _ _ hB (by omega) (by omega) (by omega)) kX3_isCount q2323 tw_0 rfl rfl (by decide) ⟨rfl, rfl⟩ ⟨Nat.zero_le _, Nat.zero_le _⟩ (Nat.le_of_ble_eq_true rfl) dX3_countsAround_32 (fun r_32 h_32 p_32 => ?_)
          obtain ⟨hr_32, hi_32, rfl⟩ := p_32
          first | refine g_ifN_eq (tgt := 113) dX3_countsAround_35 (by decide) (by omega) (fun c_35 => ?_) (fun c_35 => ?_) | refine g_if_eq (tgt := 113) dX3_countsAround_35 (by decide) (fun c_35 => ?_) (fun c_35 => ?_)
          · first | refine g_iincN4 1 dX3_countsAround_113 (by decide) (by decide) ?_ | refine g_iinc4 _ dX3_countsAround_113 rfl (by decide) ?_
            refine g_goto (tgt := 5) dX3_countsAround_116 (by decide) ?_
            rw [hS0 0 (by rw [if_neg (by omega)])] at ih
            exact ih _ _
          · refine g_iconst (nI 0) dX3_countsAround_38 (by decide) ?_
            refine g_istore5 dX3_countsAround_39 (by decide) ?_
            refine g_iload4 dX3_countsAround_41 ?_
            refine g_iconst (nI 3) dX3_countsAround_43 (by decide) ?_
            first | refine g_iaddN dX3_countsAround_44 ?_ | refine g_iadd dX3_countsAround_44 ?_
            refine g_istore6 dX3_countsAround_45 (by decide) ?_
            exact L2 (by omega) (by omega) ((gOf (M 1) s 11) - (i + 3)) (i + 3) 0 (by have := hE i (by omega) (by omega) (by omega); omega) (by omega) (Or.inr (hE i (by omega) (by omega) (by omega)).2.1) (by omega) (by obtain ⟨z0, z1, e, z2⟩ := hE i (by omega) (by omega) (by omega); unfold enE; rw [z2]; rfl)
  refine g_iconst (nI 0) dX3_countsAround_0 (by decide) ?_
  refine g_istore3 dX3_countsAround_1 (by decide) ?_
  refine g_iconst (nI 0) dX3_countsAround_2 (by decide) ?_
  refine g_istore4 dX3_countsAround_3 (by decide) ?_
  exact L 0 (by omega) (by omega) _ _
theorem enO_pos {t : Nat → Nat} {u e d x : Nat} (h : enO t u e d = some x) : 0 < u := by
  cases u with
  | zero => exact nomatch h
  | succ u => exact Nat.succ_pos u
theorem plW.ends {g : Nat → Nat} {s : Nat} (h : plW g s) (h0 : 0 < gOf g s 11) : ∀ j, j < gOf g s 11 → dgt (pT g s) j → cnC (pT g s) (gOf g s 11) j → j + 3 < gOf g s 11 ∧ pT g s (j + 3) = 40 ∧ ∃ e, enO (pT g s) (gOf g s 11 - (j + 3)) (j + 3) 0 = some e := by
  intro j hj h1 h2
  obtain ⟨z1, e, z2, -⟩ := (h.seg h0).ens (n := gOf g s 11) (by omega) (by omega) j (Nat.zero_le _) (by omega) h1 h2
  have z3 := enO_pos z2
  exact ⟨by omega, z1, e, z2⟩
theorem plW.whole {g : Nat → Nat} {s : Nat} (h : plW g s) (h0 : 0 < gOf g s 11) : poR (pT g s) (gOf g s 11) 0 (0, 0, 0) (gOf g s 11) = (aS (plA g s), aD (plA g s), aM (plA g s)) := (h.seg h0).whole
theorem caS_le (t : Nat → Nat) (n x a m : Nat) : caS t n x a m ≤ m := by
  induction m with
  | zero => exact Nat.le_refl _
  | succ m ih =>
    rw [caS]
    split <;> omega
theorem poR_d (t : Nat → Nat) (n : Nat) : ∀ m, m ≤ 40 → (poR t n 0 (0, 0, 0) m).2.1 ≤ 41 := by
  intro m
  induction m with
  | zero => intro _; exact Nat.zero_le _
  | succ m ih =>
    intro hm
    have i1 := ih (by omega)
    have i2 := caS_le t n (0 + m) 0 (0 + m)
    rw [poR]
    unfold po1
    split
    · refine Nat.max_le.mpr ⟨i1, ?_⟩
      split <;> omega
    · exact i1
abbrev mX3_policy : GM := (yX3_policy, 9, (some .int), [], { frames := 3, cells := 0, slots := 0, locals := 71 }, 255)
theorem kX3_policy : gCv cX3_policy mX3_policy 2 := ⟨q2475, q2476, q90, q2477, ⟨by decide +kernel, by decide +kernel, by decide +kernel⟩, rfl⟩
def xc_policy (M : TW) (s w : Nat) : Nat := if ¬ s ≤ 3 then 1 else if ¬ w ≤ 2 then 2 else if gOf (M 1) s 0 = 0 ∨ gOf (M 1) s 11 = 0 then 3 else 0
def xv_policy (M : TW) (s w : Nat) : Nat := if w = 0 then aS (plA (M 1) s) else if w = 1 then aD (plA (M 1) s) else aM (plA (M 1) s)
def xm_policy (M : TW) (s w : Nat) : TW := M
set_option maxHeartbeats 400000 in
theorem ctX3_policy {E : GE} {h : AH} {A : Nat → Nat} (hA : twA A) (M : TW) (s w : Nat) (hW : tWF M) (hWp : ∀ s, s < 4 → plW (M 1) s) (hs : s < 4294967296) (hw : w < 4294967296) : Ct E cX3_policy mX3_policy [.ref (A 0), .int (nI s), .int (nI w)] (twO E A M h) (pN fun r h' => tEnd E A h (xc_policy M s w ) (xv_policy M s w ) (xm_policy M s w ) r h') noX := by
  refine g_enter (own := "SecretVaultModel") [some (.ref (A 0)), some (.int (nI s)), some (.int (nI w)), none, none, none, none, none, none] (by decide +kernel) rfl rfl (Nat.le_of_ble_eq_true rfl) rfl rfl (fun X => ?_)
  have hB := hW.1
  have L : ∀ i, 0 ≤ i → i ≤ (gOf (M 1) s 11) → s ≤ 3 → w ≤ 2 → ¬ gOf (M 1) s 0 = 0 → 0 < gOf (M 1) s 11 → ∀ o7 o8, V E cX3_policy "SecretVaultModel" mX3_policy (pN fun r h' => tEnd E A h (xc_policy M s w ) (xv_policy M s w ) (xm_policy M s w ) r h') noX X (twO E A M h) 0 0 62 [some (.ref (A 0)), some (.int (nI (s))), some (.int (nI (w))), some (.int (nI ((poR (pT (M 1) s) (gOf (M 1) s 11) 0 (0, 0, 0) (i)).1))), some (.int (nI ((poR (pT (M 1) s) (gOf (M 1) s 11) 0 (0, 0, 0) (i)).2.1))), some (.int (nI ((poR (pT (M 1) s) (gOf (M 1) s 11) 0 (0, 0, 0) (i)).2.2))), some (.int (nI (i))), o7, o8] [] := by
    intro i h00 h01 hs3 hw2 hh hp0
    have hP := hWp s (by omega)
    have hn40 : gOf (M 1) s 11 ≤ 40 := hP.1
    have hE := hP.ends hp0
    have hwh := hP.whole hp0
    refine g_for (fun i => ∀ o7 o8, V E cX3_policy "SecretVaultModel" mX3_policy (pN fun r h' => tEnd E A h (xc_policy M s w ) (xv_policy M s w ) (xm_policy M s w ) r h') noX X (twO E A M h) 0 0 62 [some (.ref (A 0)), some (.int (nI (s))), some (.int (nI (w))), some (.int (nI ((poR (pT (M 1) s) (gOf (M 1) s 11) 0 (0, 0, 0) (i)).1))), some (.int (nI ((poR (pT (M 1) s) (gOf (M 1) s 11) 0 (0, 0, 0) (i)).2.1))), some (.int (nI ((poR (pT (M 1) s) (gOf (M 1) s 11) 0 (0, 0, 0) (i)).2.2))), some (.int (nI (i))), o7, o8] []) 0 (gOf (M 1) s 11) ?_ ?_ i h00 h01
    · intro o7 o8
      rw [hwh]
      refine g_iload6 dX3_policy_62 ?_
      first | refine g_aload0 dX3_policy_64 ?_ | refine g_aloadQ0 dX3_policy_64 ?_ | refine g_aloadN0 dX3_policy_64 ?_
      refine g_iload1 dX3_policy_65 ?_
      refine g_bipush (nI 11) dX3_policy_66 (by decide) ?_
      refine g_V2n0 (ctX3_of hA _ _ _ (by omega) (by omega)) kX3_of q2220 tw_0 rfl rfl (by decide) ⟨rfl, rfl⟩ ⟨Nat.zero_le _, Nat.zero_le _⟩ (Nat.le_of_ble_eq_true rfl) dX3_policy_68 (fun r_68 h_68 p_68 => ?_)
      obtain ⟨rfl, rfl⟩ := p_68
      first | refine g_icmpN_ge (tgt := 174) dX3_policy_71 (by decide) (by first | omega | exact hB _ _ | (split <;> omega)) (by first | omega | exact hB _ _ | (split <;> omega)) (fun c_71 => ?_) (fun c_71 => ?_) | refine g_icmp_ge (tgt := 174) dX3_policy_71 (by decide) (fun c_71 => ?_) (fun c_71 => ?_)
      · first | refine g_aload0 dX3_policy_174 ?_ | refine g_aloadQ0 dX3_policy_174 ?_ | refine g_aloadN0 dX3_policy_174 ?_
        refine g_iload2 dX3_policy_175 ?_
        first | refine g_ifN_ne (tgt := 183) dX3_policy_176 (by decide) (by first | omega | exact hB _ _ | (split <;> omega)) (fun c_176 => ?_) (fun c_176 => ?_) | refine g_if_ne (tgt := 183) dX3_policy_176 (by decide) (fun c_176 => ?_) (fun c_176 => ?_)
        · refine g_iload2 dX3_policy_183 ?_
          refine g_iconst (nI 1) dX3_policy_184 (by decide) ?_
          first | refine g_icmpN_ne (tgt := 193) dX3_policy_185 (by decide) (by first | omega | exact hB _ _ | (split <;> omega)) (by first | omega | exact hB _ _ | (split <;> omega)) (fun c_185 => ?_) (fun c_185 => ?_) | refine g_icmpU_ne (tgt := 193) dX3_policy_185 (by decide) (by first | omega | exact hB _ _ | (split <;> omega)) (by first | omega | exact hB _ _ | (split <;> omega)) (fun c_185 => ?_) (fun c_185 => ?_) | refine g_icmp_ne (tgt := 193) dX3_policy_185 (by decide) (fun c_185 => ?_) (fun c_185 => ?_)
          · refine g_iload5 dX3_policy_193 ?_
            refine g_V1n0 (ctX3_done hA _ _) kX3_done q2173 tw_0 rfl rfl (by decide) ⟨rfl, rfl⟩ ⟨Nat.zero_le _, Nat.zero_le _⟩ (Nat.le_of_ble_eq_true rfl) dX3_policy_195 (fun r_195 h_195 p_195 => ?_)
            obtain ⟨rfl, rfl⟩ := p_195
            exact g_iret dX3_policy_198 rfl ⟨_, rfl, t_done (by unfold xc_policy; (repeat' split) <;> omega) (by unfold xv_policy; first | rw [if_pos (by omega)] | rw [if_neg (by omega), if_pos (by omega)] | rw [if_neg (by omega), if_neg (by omega)]) (by unfold xm_policy; exact tSame.rf)⟩
          · refine g_iload4 dX3_policy_188 ?_
            refine g_goto (tgt := 195) dX3_policy_190 (by decide) ?_
            refine g_V1n0 (ctX3_done hA _ _) kX3_done q2173 tw_0 rfl rfl (by decide) ⟨rfl, rfl⟩ ⟨Nat.zero_le _, Nat.zero_le _⟩ (Nat.le_of_ble_eq_true rfl) dX3_policy_195 (fun r_195 h_195 p_195 => ?_)
            obtain ⟨rfl, rfl⟩ := p_195
            exact g_iret dX3_policy_198 rfl ⟨_, rfl, t_done (by unfold xc_policy; (repeat' split) <;> omega) (by unfold xv_policy; first | rw [if_pos (by omega)] | rw [if_neg (by omega), if_pos (by omega)] | rw [if_neg (by omega), if_neg (by omega)]) (by unfold xm_policy; exact tSame.rf)⟩
        · refine g_iload3 dX3_policy_179 ?_
          refine g_goto (tgt := 195) dX3_policy_180 (by decide) ?_
          refine g_V1n0 (ctX3_done hA _ _) kX3_done q2173 tw_0 rfl rfl (by decide) ⟨rfl, rfl⟩ ⟨Nat.zero_le _, Nat.zero_le _⟩ (Nat.le_of_ble_eq_true rfl) dX3_policy_195 (fun r_195 h_195 p_195 => ?_)
          obtain ⟨rfl, rfl⟩ := p_195
          exact g_iret dX3_policy_198 rfl ⟨_, rfl, t_done (by unfold xc_policy; (repeat' split) <;> omega) (by unfold xv_policy; first | rw [if_pos (by omega)] | rw [if_neg (by omega), if_pos (by omega)] | rw [if_neg (by omega), if_neg (by omega)]) (by unfold xm_policy; exact tSame.rf)⟩
      · omega
    · intro i h0 hi ih o7 o8
      have hca := caS_le (pT (M 1) s) (gOf (M 1) s 11) i 0 i
      have hdm : (poR (pT (M 1) s) (gOf (M 1) s 11) 0 (0, 0, 0) (i)).2.1 ≤ 41 := poR_d _ _ _ (by omega)
      have hS1 : ∀ S, po1 (pT (M 1) s) (gOf (M 1) s 11) i (poR (pT (M 1) s) (gOf (M 1) s 11) 0 (0, 0, 0) (i)) = S → (poR (pT (M 1) s) (gOf (M 1) s 11) 0 (0, 0, 0) (i + 1)) = S := fun S hS => by rw [poR, Nat.zero_add]; exact hS
      have hSn : ¬ dgt (pT (M 1) s) i → (poR (pT (M 1) s) (gOf (M 1) s 11) 0 (0, 0, 0) (i + 1)) = (poR (pT (M 1) s) (gOf (M 1) s 11) 0 (0, 0, 0) (i)) := fun z => hS1 _ (po1_n z)
      have hSd : dgt (pT (M 1) s) i → (poR (pT (M 1) s) (gOf (M 1) s 11) 0 (0, 0, 0) (i + 1)) = ((poR (pT (M 1) s) (gOf (M 1) s 11) 0 (0, 0, 0) (i)).1 + 1, max (poR (pT (M 1) s) (gOf (M 1) s 11) 0 (0, 0, 0) (i)).2.1 (caS (pT (M 1) s) (gOf (M 1) s 11) i 0 i + (if cnC (pT (M 1) s) (gOf (M 1) s 11) i then 1 else 0)), (poR (pT (M 1) s) (gOf (M 1) s 11) 0 (0, 0, 0) (i)).2.2 ||| (if cnC (pT (M 1) s) (gOf (M 1) s 11) i then 0 else 1 * 2 ^ ((pT (M 1) s) i - 48))) := fun z => hS1 _ (if_pos z)
      refine g_iload6 dX3_policy_62 ?_
      first | refine g_aload0 dX3_policy_64 ?_ | refine g_aloadQ0 dX3_policy_64 ?_ | refine g_aloadN0 dX3_policy_64 ?_
      refine g_iload1 dX3_policy_65 ?_
      refine g_bipush (nI 11) dX3_policy_66 (by decide) ?_
      refine g_V2n0 (ctX3_of hA _ _ _ (by omega) (by omega)) kX3_of q2220 tw_0 rfl rfl (by decide) ⟨rfl, rfl⟩ ⟨Nat.zero_le _, Nat.zero_le _⟩ (Nat.le_of_ble_eq_true rfl) dX3_policy_68 (fun r_68 h_68 p_68 => ?_)
      obtain ⟨rfl, rfl⟩ := p_68
      first | refine g_icmpN_ge (tgt := 174) dX3_policy_71 (by decide) (by first | omega | exact hB _ _ | (have := Nat.pow_lt_pow_right (a := 2) (by decide) (show pT (M 1) s i - 48 < 31 by omega); omega)) (by first | omega | exact hB _ _ | (have := Nat.pow_lt_pow_right (a := 2) (by decide) (show pT (M 1) s i - 48 < 31 by omega); omega)) (fun c_71 => ?_) (fun c_71 => ?_) | refine g_icmp_ge (tgt := 174) dX3_policy_71 (by decide) (fun c_71 => ?_) (fun c_71 => ?_)
      · omega
      · first | refine g_aload0 dX3_policy_74 ?_ | refine g_aloadQ0 dX3_policy_74 ?_ | refine g_aloadN0 dX3_policy_74 ?_
        refine g_iload1 dX3_policy_75 ?_
        refine g_iload6 dX3_policy_76 ?_
        refine g_V2n0 (ctX3_isDigitAt hA _ _ _ hB (by omega) (by omega)) kX3_isDigitAt q2478 tw_0 rfl rfl (by decide) ⟨rfl, rfl⟩ ⟨Nat.zero_le _, Nat.zero_le _⟩ (Nat.le_of_ble_eq_true rfl) dX3_policy_78 (fun r_78 h_78 p_78 => ?_)
        obtain ⟨hr_78, hi_78, rfl⟩ := p_78
        first | refine g_ifN_eq (tgt := 168) dX3_policy_81 (by decide) (by first | omega | exact hB _ _ | (have := Nat.pow_lt_pow_right (a := 2) (by decide) (show pT (M 1) s i - 48 < 31 by omega); omega)) (fun c_81 => ?_) (fun c_81 => ?_) | refine g_if_eq (tgt := 168) dX3_policy_81 (by decide) (fun c_81 => ?_) (fun c_81 => ?_)
        · first | refine g_iincN6 1 dX3_policy_168 (by decide) (by decide) ?_ | refine g_iinc6 _ dX3_policy_168 rfl (by decide) ?_
          refine g_goto (tgt := 62) dX3_policy_171 (by decide) ?_
          first | (rw [hSn (by omega)] at ih; exact ih _ _) | ((first | rw [if_pos (show cnC (pT (M 1) s) (gOf (M 1) s 11) i by omega), if_pos (show cnC (pT (M 1) s) (gOf (M 1) s 11) i by omega)] at hSe | rw [if_neg (show ¬ cnC (pT (M 1) s) (gOf (M 1) s 11) i by omega), if_neg (show ¬ cnC (pT (M 1) s) (gOf (M 1) s 11) i by omega)] at hSe); (first | rw [Nat.max_eq_right (by omega)] at hSe | rw [Nat.max_eq_left (by omega)] at hSe); rw [hSe] at ih; exact ih _ _)
        · first | refine g_aload0 dX3_policy_84 ?_ | refine g_aloadQ0 dX3_policy_84 ?_ | refine g_aloadN0 dX3_policy_84 ?_
          refine g_iload1 dX3_policy_85 ?_
          refine g_iload6 dX3_policy_86 ?_
          first | refine g_aload0 dX3_policy_88 ?_ | refine g_aloadQ0 dX3_policy_88 ?_ | refine g_aloadN0 dX3_policy_88 ?_
          refine g_iload1 dX3_policy_89 ?_
          refine g_bipush (nI 11) dX3_policy_90 (by decide) ?_
          refine g_V2n0 (ctX3_of hA _ _ _ (by omega) (by omega)) kX3_of q2220 tw_0 rfl rfl (by decide) ⟨rfl, rfl⟩ ⟨Nat.zero_le _, Nat.zero_le _⟩ (Nat.le_of_ble_eq_true rfl) dX3_policy_92 (fun r_92 h_92 p_92 => ?_)
          obtain ⟨rfl, rfl⟩ := p_92
          refine g_V3n0 (ctX3_isCount hA _ _ _ _ hB (by omega) (by omega) (by omega)) kX3_isCount q2323 tw_0 rfl rfl (by decide) ⟨rfl, rfl⟩ ⟨Nat.zero_le _, Nat.zero_le _⟩ (Nat.le_of_ble_eq_true rfl) dX3_policy_95 (fun r_95 h_95 p_95 => ?_)
          obtain ⟨hr_95, hi_95, rfl⟩ := p_95
          have hSe := hSd (by omega)
          refine g_istore7 dX3_policy_98 (by decide) ?_
          first | refine g_aload0 dX3_policy_100 ?_ | refine g_aloadQ0 dX3_policy_100 ?_ | refine g_aloadN0 dX3_policy_100 ?_
          refine g_iload1 dX3_policy_101 ?_
          refine g_iload6 dX3_policy_102 ?_
          refine g_V2n0 (ctX3_countsAround hA _ _ _ hB (by omega) (by omega) (by omega) hE) kX3_countsAround q2482 tw_0 rfl rfl (by decide) ⟨rfl, rfl⟩ ⟨Nat.zero_le _, Nat.zero_le _⟩ (Nat.le_of_ble_eq_true rfl) dX3_policy_104 (fun r_104 h_104 p_104 => ?_)
          obtain ⟨rfl, rfl⟩ := p_104
          refine g_iload7 dX3_policy_107 ?_
          first | refine g_ifN_eq (tgt := 116) dX3_policy_109 (by decide) (by first | omega | exact hB _ _ | (have := Nat.pow_lt_pow_right (a := 2) (by decide) (show pT (M 1) s i - 48 < 31 by omega); omega)) (fun c_109 => ?_) (fun c_109 => ?_) | refine g_if_eq (tgt := 116) dX3_policy_109 (by decide) (fun c_109 => ?_) (fun c_109 => ?_)
          · refine g_iconst (nI 0) dX3_policy_116 (by decide) ?_
            first | refine g_iaddN dX3_policy_117 ?_ | refine g_iadd dX3_policy_117 ?_
            refine g_istore8 dX3_policy_118 (by decide) ?_
            first | refine g_iincN3 1 dX3_policy_120 (by decide) (by decide) ?_ | refine g_iinc3 _ dX3_policy_120 rfl (by decide) ?_
            refine g_iload8 dX3_policy_123 ?_
            refine g_iload4 dX3_policy_125 ?_
            first | refine g_icmpN_le (tgt := 135) dX3_policy_127 (by decide) (by first | omega | exact hB _ _ | (have := Nat.pow_lt_pow_right (a := 2) (by decide) (show pT (M 1) s i - 48 < 31 by omega); omega)) (by first | omega | exact hB _ _ | (have := Nat.pow_lt_pow_right (a := 2) (by decide) (show pT (M 1) s i - 48 < 31 by omega); omega)) (fun c_127 => ?_) (fun c_127 => ?_) | refine g_icmp_le (tgt := 135) dX3_policy_127 (by decide) (fun c_127 => ?_) (fun c_127 => ?_)
            · refine g_iload4 dX3_policy_135 ?_
              refine g_istore4 dX3_policy_137 (by decide) ?_
              refine g_iload5 dX3_policy_139 ?_
              refine g_iload7 dX3_policy_141 ?_
              first | refine g_ifN_eq (tgt := 150) dX3_policy_143 (by decide) (by first | omega | exact hB _ _ | (have := Nat.pow_lt_pow_right (a := 2) (by decide) (show pT (M 1) s i - 48 < 31 by omega); omega)) (fun c_143 => ?_) (fun c_143 => ?_) | refine g_if_eq (tgt := 150) dX3_policy_143 (by decide) (fun c_143 => ?_) (fun c_143 => ?_)
              · refine g_iconst (nI 1) dX3_policy_150 (by decide) ?_
                first | refine g_aload0 dX3_policy_151 ?_ | refine g_aloadQ0 dX3_policy_151 ?_ | refine g_aloadN0 dX3_policy_151 ?_
                refine g_iload1 dX3_policy_152 ?_
                refine g_bipush (nI 12) dX3_policy_153 (by decide) ?_
                refine g_iload6 dX3_policy_155 ?_
                first | refine g_iaddN dX3_policy_157 ?_ | refine g_iadd dX3_policy_157 ?_
                refine g_V2n0 (ctX3_of hA _ _ _ (by omega) (by omega)) kX3_of q2220 tw_0 rfl rfl (by decide) ⟨rfl, rfl⟩ ⟨Nat.zero_le _, Nat.zero_le _⟩ (Nat.le_of_ble_eq_true rfl) dX3_policy_158 (fun r_158 h_158 p_158 => ?_)
                obtain ⟨rfl, rfl⟩ := p_158
                rw [show gOf (M 1) s (12 + i) = (pT (M 1) s) i from rfl]
                refine g_bipush (nI 48) dX3_policy_161 (by decide) ?_
                first | refine g_isubN dX3_policy_163 (by first | omega | exact hB _ _ | (have := Nat.pow_lt_pow_right (a := 2) (by decide) (show pT (M 1) s i - 48 < 31 by omega); omega)) ?_ | refine g_isub dX3_policy_163 ?_
                refine g_ishlN dX3_policy_164 (by first | omega | exact hB _ _ | (have := Nat.pow_lt_pow_right (a := 2) (by decide) (show pT (M 1) s i - 48 < 31 by omega); omega)) (by first | omega | exact hB _ _ | (have := Nat.pow_lt_pow_right (a := 2) (by decide) (show pT (M 1) s i - 48 < 31 by omega); omega)) ?_
                first | refine g_iorN dX3_policy_165 ?_ | refine g_ior dX3_policy_165 ?_
                refine g_istore5 dX3_policy_166 (by decide) ?_
                first | refine g_iincN6 1 dX3_policy_168 (by decide) (by decide) ?_ | refine g_iinc6 _ dX3_policy_168 rfl (by decide) ?_
                refine g_goto (tgt := 62) dX3_policy_171 (by decide) ?_
                first | (rw [hSn (by omega)] at ih; exact ih _ _) | ((first | rw [if_pos (show cnC (pT (M 1) s) (gOf (M 1) s 11) i by omega), if_pos (show cnC (pT (M 1) s) (gOf (M 1) s 11) i by omega)] at hSe | rw [if_neg (show ¬ cnC (pT (M 1) s) (gOf (M 1) s 11) i by omega), if_neg (show ¬ cnC (pT (M 1) s) (gOf (M 1) s 11) i by omega)] at hSe); (first | rw [Nat.max_eq_right (by omega)] at hSe | rw [Nat.max_eq_left (by omega)] at hSe); rw [hSe] at ih; exact ih _ _)
              · omega
            · refine g_iload8 dX3_policy_130 ?_
              refine g_goto (tgt := 137) dX3_policy_132 (by decide) ?_
              refine g_istore4 dX3_policy_137 (by decide) ?_
              refine g_iload5 dX3_policy_139 ?_
              refine g_iload7 dX3_policy_141 ?_
              first | refine g_ifN_eq (tgt := 150) dX3_policy_143 (by decide) (by first | omega | exact hB _ _ | (have := Nat.pow_lt_pow_right (a := 2) (by decide) (show pT (M 1) s i - 48 < 31 by omega); omega)) (fun c_143 => ?_) (fun c_143 => ?_) | refine g_if_eq (tgt := 150) dX3_policy_143 (by decide) (fun c_143 => ?_) (fun c_143 => ?_)
              · refine g_iconst (nI 1) dX3_policy_150 (by decide) ?_
                first | refine g_aload0 dX3_policy_151 ?_ | refine g_aloadQ0 dX3_policy_151 ?_ | refine g_aloadN0 dX3_policy_151 ?_
                refine g_iload1 dX3_policy_152 ?_
                refine g_bipush (nI 12) dX3_policy_153 (by decide) ?_
                refine g_iload6 dX3_policy_155 ?_
                first | refine g_iaddN dX3_policy_157 ?_ | refine g_iadd dX3_policy_157 ?_
                refine g_V2n0 (ctX3_of hA _ _ _ (by omega) (by omega)) kX3_of q2220 tw_0 rfl rfl (by decide) ⟨rfl, rfl⟩ ⟨Nat.zero_le _, Nat.zero_le _⟩ (Nat.le_of_ble_eq_true rfl) dX3_policy_158 (fun r_158 h_158 p_158 => ?_)
                obtain ⟨rfl, rfl⟩ := p_158
                rw [show gOf (M 1) s (12 + i) = (pT (M 1) s) i from rfl]
                refine g_bipush (nI 48) dX3_policy_161 (by decide) ?_
                first | refine g_isubN dX3_policy_163 (by first | omega | exact hB _ _ | (have := Nat.pow_lt_pow_right (a := 2) (by decide) (show pT (M 1) s i - 48 < 31 by omega); omega)) ?_ | refine g_isub dX3_policy_163 ?_
                refine g_ishlN dX3_policy_164 (by first | omega | exact hB _ _ | (have := Nat.pow_lt_pow_right (a := 2) (by decide) (show pT (M 1) s i - 48 < 31 by omega); omega)) (by first | omega | exact hB _ _ | (have := Nat.pow_lt_pow_right (a := 2) (by decide) (show pT (M 1) s i - 48 < 31 by omega); omega)) ?_
                first | refine g_iorN dX3_policy_165 ?_ | refine g_ior dX3_policy_165 ?_
                refine g_istore5 dX3_policy_166 (by decide) ?_
                first | refine g_iincN6 1 dX3_policy_168 (by decide) (by decide) ?_ | refine g_iinc6 _ dX3_policy_168 rfl (by decide) ?_
                refine g_goto (tgt := 62) dX3_policy_171 (by decide) ?_
                first | (rw [hSn (by omega)] at ih; exact ih _ _) | ((first | rw [if_pos (show cnC (pT (M 1) s) (gOf (M 1) s 11) i by omega), if_pos (show cnC (pT (M 1) s) (gOf (M 1) s 11) i by omega)] at hSe | rw [if_neg (show ¬ cnC (pT (M 1) s) (gOf (M 1) s 11) i by omega), if_neg (show ¬ cnC (pT (M 1) s) (gOf (M 1) s 11) i by omega)] at hSe); (first | rw [Nat.max_eq_right (by omega)] at hSe | rw [Nat.max_eq_left (by omega)] at hSe); rw [hSe] at ih; exact ih _ _)
              · omega
          · refine g_iconst (nI 1) dX3_policy_112 (by decide) ?_
            refine g_goto (tgt := 117) dX3_policy_113 (by decide) ?_
            first | refine g_iaddN dX3_policy_117 ?_ | refine g_iadd dX3_policy_117 ?_
            refine g_istore8 dX3_policy_118 (by decide) ?_
            first | refine g_iincN3 1 dX3_policy_120 (by decide) (by decide) ?_ | refine g_iinc3 _ dX3_policy_120 rfl (by decide) ?_
            refine g_iload8 dX3_policy_123 ?_
            refine g_iload4 dX3_policy_125 ?_
            first | refine g_icmpN_le (tgt := 135) dX3_policy_127 (by decide) (by first | omega | exact hB _ _ | (have := Nat.pow_lt_pow_right (a := 2) (by decide) (show pT (M 1) s i - 48 < 31 by omega); omega)) (by first | omega | exact hB _ _ | (have := Nat.pow_lt_pow_right (a := 2) (by decide) (show pT (M 1) s i - 48 < 31 by omega); omega)) (fun c_127 => ?_) (fun c_127 => ?_) | refine g_icmp_le (tgt := 135) dX3_policy_127 (by decide) (fun c_127 => ?_) (fun c_127 => ?_)
            · refine g_iload4 dX3_policy_135 ?_
              refine g_istore4 dX3_policy_137 (by decide) ?_
              refine g_iload5 dX3_policy_139 ?_
              refine g_iload7 dX3_policy_141 ?_
              first | refine g_ifN_eq (tgt := 150) dX3_policy_143 (by decide) (by first | omega | exact hB _ _ | (have := Nat.pow_lt_pow_right (a := 2) (by decide) (show pT (M 1) s i - 48 < 31 by omega); omega)) (fun c_143 => ?_) (fun c_143 => ?_) | refine g_if_eq (tgt := 150) dX3_policy_143 (by decide) (fun c_143 => ?_) (fun c_143 => ?_)
              · omega
              · refine g_iconst (nI 0) dX3_policy_146 (by decide) ?_
                refine g_goto (tgt := 165) dX3_policy_147 (by decide) ?_
                first | refine g_iorN dX3_policy_165 ?_ | refine g_ior dX3_policy_165 ?_
                refine g_istore5 dX3_policy_166 (by decide) ?_
                first | refine g_iincN6 1 dX3_policy_168 (by decide) (by decide) ?_ | refine g_iinc6 _ dX3_policy_168 rfl (by decide) ?_
                refine g_goto (tgt := 62) dX3_policy_171 (by decide) ?_
                first | (rw [hSn (by omega)] at ih; exact ih _ _) | ((first | rw [if_pos (show cnC (pT (M 1) s) (gOf (M 1) s 11) i by omega), if_pos (show cnC (pT (M 1) s) (gOf (M 1) s 11) i by omega)] at hSe | rw [if_neg (show ¬ cnC (pT (M 1) s) (gOf (M 1) s 11) i by omega), if_neg (show ¬ cnC (pT (M 1) s) (gOf (M 1) s 11) i by omega)] at hSe); (first | rw [Nat.max_eq_right (by omega)] at hSe | rw [Nat.max_eq_left (by omega)] at hSe); rw [hSe] at ih; exact ih _ _)
            · refine g_iload8 dX3_policy_130 ?_
              refine g_goto (tgt := 137) dX3_policy_132 (by decide) ?_
              refine g_istore4 dX3_policy_137 (by decide) ?_
              refine g_iload5 dX3_policy_139 ?_
              refine g_iload7 dX3_policy_141 ?_
              first | refine g_ifN_eq (tgt := 150) dX3_policy_143 (by decide) (by first | omega | exact hB _ _ | (have := Nat.pow_lt_pow_right (a := 2) (by decide) (show pT (M 1) s i - 48 < 31 by omega); omega)) (fun c_143 => ?_) (fun c_143 => ?_) | refine g_if_eq (tgt := 150) dX3_policy_143 (by decide) (fun c_143 => ?_) (fun c_143 => ?_)
              · omega
              · refine g_iconst (nI 0) dX3_policy_146 (by decide) ?_
                refine g_goto (tgt := 165) dX3_policy_147 (by decide) ?_
                first | refine g_iorN dX3_policy_165 ?_ | refine g_ior dX3_policy_165 ?_
                refine g_istore5 dX3_policy_166 (by decide) ?_
                first | refine g_iincN6 1 dX3_policy_168 (by decide) (by decide) ?_ | refine g_iinc6 _ dX3_policy_168 rfl (by decide) ?_
                refine g_goto (tgt := 62) dX3_policy_171 (by decide) ?_
                first | (rw [hSn (by omega)] at ih; exact ih _ _) | ((first | rw [if_pos (show cnC (pT (M 1) s) (gOf (M 1) s 11) i by omega), if_pos (show cnC (pT (M 1) s) (gOf (M 1) s 11) i by omega)] at hSe | rw [if_neg (show ¬ cnC (pT (M 1) s) (gOf (M 1) s 11) i by omega), if_neg (show ¬ cnC (pT (M 1) s) (gOf (M 1) s 11) i by omega)] at hSe); (first | rw [Nat.max_eq_right (by omega)] at hSe | rw [Nat.max_eq_left (by omega)] at hSe); rw [hSe] at ih; exact ih _ _)
  refine g_iload1 dX3_policy_0 ?_
  refine g_S1n0 (ctX3_isSlot _ (by omega)) kX3_isSlot q2235 (by decide) ⟨rfl, rfl⟩ ⟨Nat.zero_le _, Nat.zero_le _⟩ (Nat.le_of_ble_eq_true rfl) dX3_policy_1 (fun r_1 h_1 p_1 => ?_)
  obtain ⟨hr_1, hi_1, rfl⟩ := p_1
  first | refine g_ifN_ne (tgt := 13) dX3_policy_4 (by decide) (by first | omega | exact hB _ _ | (split <;> omega)) (fun c_4 => ?_) (fun c_4 => ?_) | refine g_if_ne (tgt := 13) dX3_policy_4 (by decide) (fun c_4 => ?_) (fun c_4 => ?_)
  · refine g_iload2 dX3_policy_13 ?_
    refine g_iconst (nI 0) dX3_policy_14 (by decide) ?_
    refine g_iconst (nI 2) dX3_policy_15 (by decide) ?_
    refine g_S3n0 (ctX3_in _ _ _ (by first | omega | exact hB _ _) (by omega) (by omega)) kX3_in q2193 (by decide) ⟨rfl, rfl⟩ ⟨Nat.zero_le _, Nat.zero_le _⟩ (Nat.le_of_ble_eq_true rfl) dX3_policy_16 (fun r_16 h_16 p_16 => ?_)
    obtain ⟨hr_16, hi_16, rfl⟩ := p_16
    first | refine g_ifN_ne (tgt := 28) dX3_policy_19 (by decide) (by first | omega | exact hB _ _ | (split <;> omega)) (fun c_19 => ?_) (fun c_19 => ?_) | refine g_if_ne (tgt := 28) dX3_policy_19 (by decide) (fun c_19 => ?_) (fun c_19 => ?_)
    · first | refine g_aload0 dX3_policy_28 ?_ | refine g_aloadQ0 dX3_policy_28 ?_ | refine g_aloadN0 dX3_policy_28 ?_
      refine g_iload1 dX3_policy_29 ?_
      refine g_iconst (nI 0) dX3_policy_30 (by decide) ?_
      refine g_V2n0 (ctX3_of hA _ _ _ (by omega) (by omega)) kX3_of q2220 tw_0 rfl rfl (by decide) ⟨rfl, rfl⟩ ⟨Nat.zero_le _, Nat.zero_le _⟩ (Nat.le_of_ble_eq_true rfl) dX3_policy_31 (fun r_31 h_31 p_31 => ?_)
      obtain ⟨rfl, rfl⟩ := p_31
      first | refine g_ifN_eq (tgt := 45) dX3_policy_34 (by decide) (by first | omega | exact hB _ _ | (split <;> omega)) (fun c_34 => ?_) (fun c_34 => ?_) | refine g_if_eq (tgt := 45) dX3_policy_34 (by decide) (fun c_34 => ?_) (fun c_34 => ?_)
      · first | refine g_aload0 dX3_policy_45 ?_ | refine g_aloadQ0 dX3_policy_45 ?_ | refine g_aloadN0 dX3_policy_45 ?_
        refine g_iconst (nI 3) dX3_policy_46 (by decide) ?_
        refine g_V1n0 (ctX3_fails hA _ _) kX3_fails q2196 tw_0 rfl rfl (by decide) ⟨rfl, rfl⟩ ⟨Nat.zero_le _, Nat.zero_le _⟩ (Nat.le_of_ble_eq_true rfl) dX3_policy_47 (fun r_47 h_47 p_47 => ?_)
        obtain ⟨rfl, rfl⟩ := p_47
        exact g_iret dX3_policy_50 rfl ⟨_, rfl, t_fails (by unfold xc_policy; (repeat' split) <;> omega) (by omega) (by unfold xm_policy; exact tSame.rf)⟩
      · first | refine g_aload0 dX3_policy_37 ?_ | refine g_aloadQ0 dX3_policy_37 ?_ | refine g_aloadN0 dX3_policy_37 ?_
        refine g_iload1 dX3_policy_38 ?_
        have hp11 := (hW.2.2.2.2 s (by omega)).2.2.2.2.2.1
        refine g_V1n0 (ctX3_hasPolicy hA _ _ (by omega) hp11) kX3_hasPolicy q2312 tw_0 rfl rfl (by decide) ⟨rfl, rfl⟩ ⟨Nat.zero_le _, Nat.zero_le _⟩ (Nat.le_of_ble_eq_true rfl) dX3_policy_39 (fun r_39 h_39 p_39 => ?_)
        obtain ⟨hr_39, hi_39, rfl⟩ := p_39
        first | refine g_ifN_ne (tgt := 51) dX3_policy_42 (by decide) (by first | omega | exact hB _ _ | (split <;> omega)) (fun c_42 => ?_) (fun c_42 => ?_) | refine g_if_ne (tgt := 51) dX3_policy_42 (by decide) (fun c_42 => ?_) (fun c_42 => ?_)
        · refine g_iconst (nI 0) dX3_policy_51 (by decide) ?_
          refine g_istore3 dX3_policy_52 (by decide) ?_
          refine g_iconst (nI 0) dX3_policy_53 (by decide) ?_
          refine g_istore4 dX3_policy_54 (by decide) ?_
          refine g_iconst (nI 0) dX3_policy_56 (by decide) ?_
          refine g_istore5 dX3_policy_57 (by decide) ?_
          refine g_iconst (nI 0) dX3_policy_59 (by decide) ?_
          refine g_istore6 dX3_policy_60 (by decide) ?_
          exact L 0 (by omega) (by omega) (by omega) (by omega) (by omega) (by omega) _ _
        · first | refine g_aload0 dX3_policy_45 ?_ | refine g_aloadQ0 dX3_policy_45 ?_ | refine g_aloadN0 dX3_policy_45 ?_
          refine g_iconst (nI 3) dX3_policy_46 (by decide) ?_
          refine g_V1n0 (ctX3_fails hA _ _) kX3_fails q2196 tw_0 rfl rfl (by decide) ⟨rfl, rfl⟩ ⟨Nat.zero_le _, Nat.zero_le _⟩ (Nat.le_of_ble_eq_true rfl) dX3_policy_47 (fun r_47 h_47 p_47 => ?_)
          obtain ⟨rfl, rfl⟩ := p_47
          exact g_iret dX3_policy_50 rfl ⟨_, rfl, t_fails (by unfold xc_policy; (repeat' split) <;> omega) (by omega) (by unfold xm_policy; exact tSame.rf)⟩
    · first | refine g_aload0 dX3_policy_22 ?_ | refine g_aloadQ0 dX3_policy_22 ?_ | refine g_aloadN0 dX3_policy_22 ?_
      refine g_iconst (nI 2) dX3_policy_23 (by decide) ?_
      refine g_V1n0 (ctX3_fails hA _ _) kX3_fails q2196 tw_0 rfl rfl (by decide) ⟨rfl, rfl⟩ ⟨Nat.zero_le _, Nat.zero_le _⟩ (Nat.le_of_ble_eq_true rfl) dX3_policy_24 (fun r_24 h_24 p_24 => ?_)
      obtain ⟨rfl, rfl⟩ := p_24
      exact g_iret dX3_policy_27 rfl ⟨_, rfl, t_fails (by unfold xc_policy; (repeat' split) <;> omega) (by omega) (by unfold xm_policy; exact tSame.rf)⟩
  · first | refine g_aload0 dX3_policy_7 ?_ | refine g_aloadQ0 dX3_policy_7 ?_ | refine g_aloadN0 dX3_policy_7 ?_
    refine g_iconst (nI 1) dX3_policy_8 (by decide) ?_
    refine g_V1n0 (ctX3_fails hA _ _) kX3_fails q2196 tw_0 rfl rfl (by decide) ⟨rfl, rfl⟩ ⟨Nat.zero_le _, Nat.zero_le _⟩ (Nat.le_of_ble_eq_true rfl) dX3_policy_9 (fun r_9 h_9 p_9 => ?_)
    obtain ⟨rfl, rfl⟩ := p_9
    exact g_iret dX3_policy_12 rfl ⟨_, rfl, t_fails (by unfold xc_policy; (repeat' split) <;> omega) (by omega) (by unfold xm_policy; exact tSame.rf)⟩
