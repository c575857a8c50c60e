/-! THE TWIN: a part is read; a policy is set -/
set_option maxRecDepth 100000
set_option maxHeartbeats 400000 in
theorem step_X3_readsPart {E : GE} {A : Nat → Nat} (hA : twA A) (M : TW) (hT : tpW M) {h : AH} (N : Nat) (ih : ∀ (k a : Nat), k ≤ N → a ≤ M 0 15 → 4 * M 0 15 + 3 ≤ k + 4 * a → Ct E cX3_readsPolicy (mX3_readsPolicy N) [.ref (A 0)] (twO E A (tset M 0 17 (a)) h) (pN fun r h' => r = (prs (hrF (M 14) (M 0 15)) k 0 (a)).1 ∧ h' = twO E A (tset M 0 17 (prs (hrF (M 14) (M 0 15)) k 0 (a)).2.1) h) noX) (k a : Nat) (hk : k ≤ N + 1) (ha : a ≤ M 0 15) (hf : 4 * M 0 15 + 3 ≤ k + 4 * a + 2) : Ct E cX3_readsPart (mX3_readsPart (N + 1)) [.ref (A 0)] (twO E A (tset M 0 17 (a)) h) (pN fun r h' => r = (prs (hrF (M 14) (M 0 15)) k 2 (a)).1 ∧ h' = twO E A (tset M 0 17 (prs (hrF (M 14) (M 0 15)) k 2 (a)).2.1) h) noX := by
  have hT1 := hT.1
  have hz : ∀ x, (hrF (M 14) (M 0 15)) x ≠ 0 → x < M 0 15 := fun x hx => (hrF_nz hx).1
  have hl0 := hrF_lt hT a
  have hl1 := hrF_lt hT (a + 1)
  have hz0 := hz a
  have hz1 := hz (a + 1)
  have hz2 := hz (a + 2)
  have hz3 := hz (a + 3)
  obtain ⟨k, rfl⟩ : ∃ k1, k = k1 + 1 := ⟨k - 1, by omega⟩
  refine g_enter (own := "SecretVaultModel") [some (.ref (A 0)), none] (show plainName yX3_readsPart.cls = true by decide +kernel) rfl rfl (Nat.le_of_ble_eq_true rfl) rfl rfl (fun X => ?_)
  first | refine g_aload0 dX3_readsPart_0 ?_ | refine g_aloadQ0 dX3_readsPart_0 ?_ | refine g_aloadN0 dX3_readsPart_0 ?_
  refine g_bipush (nI 40) dX3_readsPart_1 (by decide) ?_
  refine g_V1n0 (ctX3_eatsA hA _ _ _ hT (by omega) (by decide)) kX3_eats q2432 tw_0 rfl rfl ⟨by show 1 + 1 ≤ (N + 1) + 6; omega, by show 8 + (3 + 11) + (20) ≤ 60 * (N + 1) + 200; omega⟩ ⟨rfl, rfl⟩ ⟨Nat.zero_le _, Nat.zero_le _⟩ (Nat.le_of_ble_eq_true rfl) dX3_readsPart_3 (fun r_3 h_3 p_3 => ?_)
  obtain ⟨hr_3, hi_3, rfl⟩ := p_3
  first | refine g_ifN_eq (tgt := 31) dX3_readsPart_6 (by decide) (by omega) (fun c_6 => ?_) (fun c_6 => ?_) | refine g_if_eq (tgt := 31) dX3_readsPart_6 (by decide) (fun c_6 => ?_) (fun c_6 => ?_)
  · rw [show a + r_3 = a by omega]
    first | refine g_aload0 dX3_readsPart_31 ?_ | refine g_aloadQ0 dX3_readsPart_31 ?_ | refine g_aloadN0 dX3_readsPart_31 ?_
    refine g_V0n0 (ctX3_hereA hA _ _ hT (by omega)) kX3_here q2428 tw_0 rfl rfl ⟨by show 0 + 1 ≤ (N + 1) + 6; omega, by show 8 + (1 + 11) + (0) ≤ 60 * (N + 1) + 200; omega⟩ ⟨rfl, rfl⟩ ⟨Nat.zero_le _, Nat.zero_le _⟩ (Nat.le_of_ble_eq_true rfl) dX3_readsPart_32 (fun r_32 h_32 p_32 => ?_)
    obtain ⟨rfl, rfl⟩ := p_32
    refine g_istore1 dX3_readsPart_35 (show ¬ 1 = 255 + 1 by decide) ?_
    refine g_iload1 dX3_readsPart_36 ?_
    refine g_bipush (nI 48) dX3_readsPart_37 (by decide) ?_
    refine g_bipush (nI 57) dX3_readsPart_39 (by decide) ?_
    refine g_S3n0 (ctX3_in _ _ _ (by omega) (by omega) (by omega)) kX3_in q2193 ⟨by show 0 + 1 ≤ (N + 1) + 6; omega, by show 8 + (3 + 11) + (0) ≤ 60 * (N + 1) + 200; omega⟩ ⟨rfl, rfl⟩ ⟨Nat.zero_le _, Nat.zero_le _⟩ (Nat.le_of_ble_eq_true rfl) dX3_readsPart_41 (fun r_41 h_41 p_41 => ?_)
    obtain ⟨hr_41, hi_41, rfl⟩ := p_41
    first | refine g_ifN_ne (tgt := 49) dX3_readsPart_44 (by decide) (by omega) (fun c_44 => ?_) (fun c_44 => ?_) | refine g_if_ne (tgt := 49) dX3_readsPart_44 (by decide) (fun c_44 => ?_) (fun c_44 => ?_)
    · 
      first | refine g_aload0 dX3_readsPart_49 ?_ | refine g_aloadQ0 dX3_readsPart_49 ?_ | refine g_aloadN0 dX3_readsPart_49 ?_
      refine g_dup dX3_readsPart_50 rfl ?_
      refine t_get17 hA q2114 dX3_readsPart_51 ?_
      rw [tset_ss]
      refine g_iconst (nI 1) dX3_readsPart_54 (by decide) ?_
      first | refine g_iaddN dX3_readsPart_55 ?_ | refine g_iadd dX3_readsPart_55 ?_
      refine t_put17 hA q2114 dX3_readsPart_56 ?_
      rw [tset_tt]
      first | refine g_aload0 dX3_readsPart_59 ?_ | refine g_aloadQ0 dX3_readsPart_59 ?_ | refine g_aloadN0 dX3_readsPart_59 ?_
      refine g_V0n0 (ctX3_hereA hA _ _ hT (by omega)) kX3_here q2428 tw_0 rfl rfl ⟨by show 0 + 1 ≤ (N + 1) + 6; omega, by show 8 + (1 + 11) + (0) ≤ 60 * (N + 1) + 200; omega⟩ ⟨rfl, rfl⟩ ⟨Nat.zero_le _, Nat.zero_le _⟩ (Nat.le_of_ble_eq_true rfl) dX3_readsPart_60 (fun r_60 h_60 p_60 => ?_)
      obtain ⟨rfl, rfl⟩ := p_60
      refine g_bipush (nI 111) dX3_readsPart_63 (by decide) ?_
      first | refine g_icmpN_ne (tgt := 74) dX3_readsPart_65 (by decide) (by omega) (by omega) (fun c_65 => ?_) (fun c_65 => ?_) | refine g_icmpU_ne (tgt := 74) dX3_readsPart_65 (by decide) (by omega) (by omega) (fun c_65 => ?_) (fun c_65 => ?_) | refine g_icmp_ne (tgt := 74) dX3_readsPart_65 (by decide) (fun c_65 => ?_) (fun c_65 => ?_)
      · refine g_iload1 dX3_readsPart_74 ?_
        refine g_bipush (nI 55) dX3_readsPart_75 (by decide) ?_
        first | refine g_icmpN_gt (tgt := 84) dX3_readsPart_77 (by decide) (by omega) (by omega) (fun c_77 => ?_) (fun c_77 => ?_) | refine g_icmp_gt (tgt := 84) dX3_readsPart_77 (by decide) (fun c_77 => ?_) (fun c_77 => ?_)
        · have he1 : (prs (hrF (M 14) (M 0 15)) (k + 1) 2 a).1 = 0 := by rw [prs, if_pos rfl, if_neg (by omega), if_neg (by omega), if_pos (by omega), if_neg (by omega)]
          have he2 : (prs (hrF (M 14) (M 0 15)) (k + 1) 2 a).2.1 = a + 1 := by rw [prs, if_pos rfl, if_neg (by omega), if_neg (by omega), if_pos (by omega), if_neg (by omega)]
          refine g_iconst (nI 0) dX3_readsPart_84 (by decide) ?_
          exact g_zret (hk := Nat.zero_le _) (hn := Nat.zero_le _) dX3_readsPart_85 rfl (nar_zb (by omega)) ⟨_, rfl, by omega, congrArg (fun x => twO E A (tset M 0 17 x) h) (by omega)⟩
        · have he1 : (prs (hrF (M 14) (M 0 15)) (k + 1) 2 a).1 = 1 := by rw [prs, if_pos rfl, if_neg (by omega), if_neg (by omega), if_pos (by omega), if_pos (by omega)]
          have he2 : (prs (hrF (M 14) (M 0 15)) (k + 1) 2 a).2.1 = a + 1 := by rw [prs, if_pos rfl, if_neg (by omega), if_neg (by omega), if_pos (by omega), if_pos (by omega)]
          refine g_iconst (nI 1) dX3_readsPart_80 (by decide) ?_
          refine g_goto (tgt := 85) dX3_readsPart_81 (by decide) ?_
          exact g_zret (hk := Nat.zero_le _) (hn := Nat.zero_le _) dX3_readsPart_85 rfl (nar_zb (by omega)) ⟨_, rfl, by omega, congrArg (fun x => twO E A (tset M 0 17 x) h) (by omega)⟩
      · refine g_iload1 dX3_readsPart_68 ?_
        refine g_bipush (nI 48) dX3_readsPart_69 (by decide) ?_
        first | refine g_icmpN_ne (tgt := 86) dX3_readsPart_71 (by decide) (by omega) (by omega) (fun c_71 => ?_) (fun c_71 => ?_) | refine g_icmpU_ne (tgt := 86) dX3_readsPart_71 (by decide) (by omega) (by omega) (fun c_71 => ?_) (fun c_71 => ?_) | refine g_icmp_ne (tgt := 86) dX3_readsPart_71 (by decide) (fun c_71 => ?_) (fun c_71 => ?_)
        · first | refine g_aload0 dX3_readsPart_86 ?_ | refine g_aloadQ0 dX3_readsPart_86 ?_ | refine g_aloadN0 dX3_readsPart_86 ?_
          refine g_dup dX3_readsPart_87 rfl ?_
          refine t_get17 hA q2114 dX3_readsPart_88 ?_
          rw [tset_ss]
          refine g_iconst (nI 1) dX3_readsPart_91 (by decide) ?_
          first | refine g_iaddN dX3_readsPart_92 ?_ | refine g_iadd dX3_readsPart_92 ?_
          refine t_put17 hA q2114 dX3_readsPart_93 ?_
          rw [tset_tt, show a + 1 + 1 = a + 2 by omega]
          first | refine g_aload0 dX3_readsPart_96 ?_ | refine g_aloadQ0 dX3_readsPart_96 ?_ | refine g_aloadN0 dX3_readsPart_96 ?_
          refine g_bipush (nI 102) dX3_readsPart_97 (by decide) ?_
          refine g_V1n0 (ctX3_eatsA hA _ _ _ hT (by omega) (by decide)) kX3_eats q2432 tw_0 rfl rfl ⟨by show 1 + 1 ≤ (N + 1) + 6; omega, by show 8 + (3 + 11) + (20) ≤ 60 * (N + 1) + 200; omega⟩ ⟨rfl, rfl⟩ ⟨Nat.zero_le _, Nat.zero_le _⟩ (Nat.le_of_ble_eq_true rfl) dX3_readsPart_99 (fun r_99 h_99 p_99 => ?_)
          obtain ⟨hr_99, hi_99, rfl⟩ := p_99
          first | refine g_ifN_eq (tgt := 121) dX3_readsPart_102 (by decide) (by omega) (fun c_102 => ?_) (fun c_102 => ?_) | refine g_if_eq (tgt := 121) dX3_readsPart_102 (by decide) (fun c_102 => ?_) (fun c_102 => ?_)
          · obtain rfl : r_99 = 0 := by omega
            have he1 : (prs (hrF (M 14) (M 0 15)) (k + 1) 2 a).1 = 0 := by rw [prs, if_pos rfl, if_neg (by omega), if_neg (by omega), if_neg (by omega), if_pos (by omega)]
            have he2 : (prs (hrF (M 14) (M 0 15)) (k + 1) 2 a).2.1 = a + 2 := by rw [prs, if_pos rfl, if_neg (by omega), if_neg (by omega), if_neg (by omega), if_pos (by omega)]
            refine g_iconst (nI 0) dX3_readsPart_121 (by decide) ?_
            exact g_zret (hk := Nat.zero_le _) (hn := Nat.zero_le _) dX3_readsPart_122 rfl (nar_zb (by omega)) ⟨_, rfl, by omega, congrArg (fun x => twO E A (tset M 0 17 x) h) (by omega)⟩
          · obtain rfl : r_99 = 1 := by omega
            rw [show a + 2 + 1 = a + 3 by omega]
            first | refine g_aload0 dX3_readsPart_105 ?_ | refine g_aloadQ0 dX3_readsPart_105 ?_ | refine g_aloadN0 dX3_readsPart_105 ?_
            refine g_bipush (nI 40) dX3_readsPart_106 (by decide) ?_
            refine g_V1n0 (ctX3_eatsA hA _ _ _ hT (by omega) (by decide)) kX3_eats q2432 tw_0 rfl rfl ⟨by show 1 + 1 ≤ (N + 1) + 6; omega, by show 8 + (3 + 11) + (20) ≤ 60 * (N + 1) + 200; omega⟩ ⟨rfl, rfl⟩ ⟨Nat.zero_le _, Nat.zero_le _⟩ (Nat.le_of_ble_eq_true rfl) dX3_readsPart_108 (fun r_108 h_108 p_108 => ?_)
            obtain ⟨hr_108, hi_108, rfl⟩ := p_108
            first | refine g_ifN_eq (tgt := 121) dX3_readsPart_111 (by decide) (by omega) (fun c_111 => ?_) (fun c_111 => ?_) | refine g_if_eq (tgt := 121) dX3_readsPart_111 (by decide) (fun c_111 => ?_) (fun c_111 => ?_)
            · obtain rfl : r_108 = 0 := by omega
              have he1 : (prs (hrF (M 14) (M 0 15)) (k + 1) 2 a).1 = 0 := by rw [prs, if_pos rfl, if_neg (by omega), if_neg (by omega), if_neg (by omega), if_neg (by omega), if_pos (by omega)]
              have he2 : (prs (hrF (M 14) (M 0 15)) (k + 1) 2 a).2.1 = a + 3 := by rw [prs, if_pos rfl, if_neg (by omega), if_neg (by omega), if_neg (by omega), if_neg (by omega), if_pos (by omega)]
              refine g_iconst (nI 0) dX3_readsPart_121 (by decide) ?_
              exact g_zret (hk := Nat.zero_le _) (hn := Nat.zero_le _) dX3_readsPart_122 rfl (nar_zb (by omega)) ⟨_, rfl, by omega, congrArg (fun x => twO E A (tset M 0 17 x) h) (by omega)⟩
            · obtain rfl : r_108 = 1 := by omega
              rw [show a + 3 + 1 = a + 4 by omega]
              obtain ⟨k, rfl⟩ : ∃ k2, k = k2 + 1 := ⟨k - 1, by omega⟩
              have h01 := prs_01 (hrF (M 14) (M 0 15)) k 0 (a + 4)
              have hpl := prs_le (t := M 14) (n := M 0 15) (k := k) (q := 0) (a := a + 4) (by omega)
              have hpg := prs_ge (hrF (M 14) (M 0 15)) k 0 (a + 4)
              have ht0 : ((prs (hrF (M 14) (M 0 15)) (k + 1) 3 (a + 4)).1, (prs (hrF (M 14) (M 0 15)) (k + 1) 3 (a + 4)).2.1) = tl (hrF (M 14) (M 0 15)) k 3 (prs (hrF (M 14) (M 0 15)) k 0 (a + 4)).1 (prs (hrF (M 14) (M 0 15)) k 0 (a + 4)).2.1 := prs_tl (hrF (M 14) (M 0 15)) k 3 (a + 4) (by decide)
              first | refine g_aload0 dX3_readsPart_114 ?_ | refine g_aloadQ0 dX3_readsPart_114 ?_ | refine g_aloadN0 dX3_readsPart_114 ?_
              refine g_S1n0 (ih k _ (by omega) (by omega) (by omega)) (kX3_readsPolicy _) q2444 ⟨by show N + 6 + 1 ≤ (N + 1) + 6; omega, by show 8 + (2 + 11) + (60 * N + 200) ≤ 60 * (N + 1) + 200; omega⟩ ⟨rfl, rfl⟩ ⟨Nat.zero_le _, Nat.zero_le _⟩ (Nat.le_of_ble_eq_true rfl) dX3_readsPart_115 (fun r_115 h_115 p_115 => ?_)
              obtain ⟨hi_115, rfl⟩ := p_115
              first | refine g_ifN_ne (tgt := 123) dX3_readsPart_118 (by decide) (by omega) (fun c_118 => ?_) (fun c_118 => ?_) | refine g_if_ne (tgt := 123) dX3_readsPart_118 (by decide) (fun c_118 => ?_) (fun c_118 => ?_)
              · 
                have hp1 : (prs (hrF (M 14) (M 0 15)) k 0 (a + 4)).1 = 1 := by omega
                have ht : tl (hrF (M 14) (M 0 15)) k 3 1 (prs (hrF (M 14) (M 0 15)) k 0 (a + 4)).2.1 = ((prs (hrF (M 14) (M 0 15)) (k + 1) 3 (a + 4)).1, (prs (hrF (M 14) (M 0 15)) (k + 1) 3 (a + 4)).2.1) := by rw [ht0, ← hp1]
                have hE1 : (prs (hrF (M 14) (M 0 15)) (k + 1 + 1) 2 a).1 = (if (prs (hrF (M 14) (M 0 15)) (k + 1) 3 (a + 4)).1 = 1 ∧ (hrF (M 14) (M 0 15)) (prs (hrF (M 14) (M 0 15)) (k + 1) 3 (a + 4)).2.1 = 41 then 1 else 0) := by
                  rw [prs, if_pos rfl, if_neg (by omega), if_neg (by omega), if_neg (by omega), if_neg (by omega), if_neg (by omega)]
                  by_cases c1 : (prs (hrF (M 14) (M 0 15)) (k + 1) 3 (a + 4)).1 = 1
                  · rw [if_pos c1]
                    by_cases c2 : (hrF (M 14) (M 0 15)) (prs (hrF (M 14) (M 0 15)) (k + 1) 3 (a + 4)).2.1 = 41
                    · rw [if_pos c2, if_pos ⟨c1, c2⟩]
                    · rw [if_neg c2, if_neg (fun z => c2 z.2)]
                  · rw [if_neg c1, if_neg (fun z => c1 z.1)]
                have hE2 : (prs (hrF (M 14) (M 0 15)) (k + 1 + 1) 2 a).2.1 = (prs (hrF (M 14) (M 0 15)) (k + 1) 3 (a + 4)).2.1 + (if (prs (hrF (M 14) (M 0 15)) (k + 1) 3 (a + 4)).1 = 1 ∧ (hrF (M 14) (M 0 15)) (prs (hrF (M 14) (M 0 15)) (k + 1) 3 (a + 4)).2.1 = 41 then 1 else 0) := by
                  rw [prs, if_pos rfl, if_neg (by omega), if_neg (by omega), if_neg (by omega), if_neg (by omega), if_neg (by omega)]
                  by_cases c1 : (prs (hrF (M 14) (M 0 15)) (k + 1) 3 (a + 4)).1 = 1
                  · rw [if_pos c1]
                    by_cases c2 : (hrF (M 14) (M 0 15)) (prs (hrF (M 14) (M 0 15)) (k + 1) 3 (a + 4)).2.1 = 41
                    · rw [if_pos c2, if_pos ⟨c1, c2⟩]
                    · rw [if_neg c2, if_neg (fun z => c2 z.2)]; rfl
                  · rw [if_neg c1, if_neg (fun z => c1 z.1)]; rfl
                rw [hE1, hE2]
                exact tail_X3_readsPart hA M hT N _ _ _ ih k _ (by omega) (by omega) (by omega) ht
              · have ht : ((prs (hrF (M 14) (M 0 15)) (k + 1) 3 (a + 4)).1, (prs (hrF (M 14) (M 0 15)) (k + 1) 3 (a + 4)).2.1) = ((prs (hrF (M 14) (M 0 15)) k 0 (a + 4)).1, (prs (hrF (M 14) (M 0 15)) k 0 (a + 4)).2.1) := ht0.trans (if_neg (fun z => by have := z.1; omega))
                injection ht with ht1 ht2
                have he1 : (prs (hrF (M 14) (M 0 15)) (k + 1 + 1) 2 a).1 = 0 := by rw [prs, if_pos rfl, if_neg (by omega), if_neg (by omega), if_neg (by omega), if_neg (by omega), if_neg (by omega), if_neg (by omega)]
                have he2 : (prs (hrF (M 14) (M 0 15)) (k + 1 + 1) 2 a).2.1 = (prs (hrF (M 14) (M 0 15)) k 0 (a + 4)).2.1 := by rw [prs, if_pos rfl, if_neg (by omega), if_neg (by omega), if_neg (by omega), if_neg (by omega), if_neg (by omega), if_neg (by omega)]; exact ht2
                refine g_iconst (nI 0) dX3_readsPart_121 (by decide) ?_
                exact g_zret (hk := Nat.zero_le _) (hn := Nat.zero_le _) dX3_readsPart_122 rfl (nar_zb (by omega)) ⟨_, rfl, by omega, congrArg (fun x => twO E A (tset M 0 17 x) h) (by omega)⟩
        · refine g_iload1 dX3_readsPart_74 ?_
          refine g_bipush (nI 55) dX3_readsPart_75 (by decide) ?_
          first | refine g_icmpN_gt (tgt := 84) dX3_readsPart_77 (by decide) (by omega) (by omega) (fun c_77 => ?_) (fun c_77 => ?_) | refine g_icmp_gt (tgt := 84) dX3_readsPart_77 (by decide) (fun c_77 => ?_) (fun c_77 => ?_)
          · have he1 : (prs (hrF (M 14) (M 0 15)) (k + 1) 2 a).1 = 0 := by rw [prs, if_pos rfl, if_neg (by omega), if_neg (by omega), if_pos (by omega), if_neg (by omega)]
            have he2 : (prs (hrF (M 14) (M 0 15)) (k + 1) 2 a).2.1 = a + 1 := by rw [prs, if_pos rfl, if_neg (by omega), if_neg (by omega), if_pos (by omega), if_neg (by omega)]
            refine g_iconst (nI 0) dX3_readsPart_84 (by decide) ?_
            exact g_zret (hk := Nat.zero_le _) (hn := Nat.zero_le _) dX3_readsPart_85 rfl (nar_zb (by omega)) ⟨_, rfl, by omega, congrArg (fun x => twO E A (tset M 0 17 x) h) (by omega)⟩
          · have he1 : (prs (hrF (M 14) (M 0 15)) (k + 1) 2 a).1 = 1 := by rw [prs, if_pos rfl, if_neg (by omega), if_neg (by omega), if_pos (by omega), if_pos (by omega)]
            have he2 : (prs (hrF (M 14) (M 0 15)) (k + 1) 2 a).2.1 = a + 1 := by rw [prs, if_pos rfl, if_neg (by omega), if_neg (by omega), if_pos (by omega), if_pos (by omega)]
            refine g_iconst (nI 1) dX3_readsPart_80 (by decide) ?_
            refine g_goto (tgt := 85) dX3_readsPart_81 (by decide) ?_
            exact g_zret (hk := Nat.zero_le _) (hn := Nat.zero_le _) dX3_readsPart_85 rfl (nar_zb (by omega)) ⟨_, rfl, by omega, congrArg (fun x => twO E A (tset M 0 17 x) h) (by omega)⟩
    · have he1 : (prs (hrF (M 14) (M 0 15)) (k + 1) 2 a).1 = 0 := by rw [prs, if_pos rfl, if_neg (by omega), if_pos (by omega)]
      have he2 : (prs (hrF (M 14) (M 0 15)) (k + 1) 2 a).2.1 = a := by rw [prs, if_pos rfl, if_neg (by omega), if_pos (by omega)]
      refine g_iconst (nI 0) dX3_readsPart_47 (by decide) ?_
      exact g_zret (hk := Nat.zero_le _) (hn := Nat.zero_le _) dX3_readsPart_48 rfl (nar_zb (by omega)) ⟨_, rfl, by omega, congrArg (fun x => twO E A (tset M 0 17 x) h) (by omega)⟩
  · obtain rfl : r_3 = 1 := by omega
    have h01 := prs_01 (hrF (M 14) (M 0 15)) k 0 (a + 1)
    have hpl := prs_le (t := M 14) (n := M 0 15) (k := k) (q := 0) (a := a + 1) (by omega)
    first | refine g_aload0 dX3_readsPart_9 ?_ | refine g_aloadQ0 dX3_readsPart_9 ?_ | refine g_aloadN0 dX3_readsPart_9 ?_
    refine g_S1n0 (ih k _ (by omega) (by omega) (by omega)) (kX3_readsPolicy _) q2444 ⟨by show N + 6 + 1 ≤ (N + 1) + 6; omega, by show 8 + (2 + 11) + (60 * N + 200) ≤ 60 * (N + 1) + 200; omega⟩ ⟨rfl, rfl⟩ ⟨Nat.zero_le _, Nat.zero_le _⟩ (Nat.le_of_ble_eq_true rfl) dX3_readsPart_10 (fun r_10 h_10 p_10 => ?_)
    obtain ⟨hi_10, rfl⟩ := p_10
    first | refine g_ifN_eq (tgt := 29) dX3_readsPart_13 (by decide) (by omega) (fun c_13 => ?_) (fun c_13 => ?_) | refine g_if_eq (tgt := 29) dX3_readsPart_13 (by decide) (fun c_13 => ?_) (fun c_13 => ?_)
    · have he1 : (prs (hrF (M 14) (M 0 15)) (k + 1) 2 a).1 = 0 := by rw [prs, if_pos rfl, if_pos (by omega), if_neg (by omega)]
      have he2 : (prs (hrF (M 14) (M 0 15)) (k + 1) 2 a).2.1 = (prs (hrF (M 14) (M 0 15)) k 0 (a + 1)).2.1 := by rw [prs, if_pos rfl, if_pos (by omega), if_neg (by omega)]
      refine g_iconst (nI 0) dX3_readsPart_29 (by decide) ?_
      exact g_zret (hk := Nat.zero_le _) (hn := Nat.zero_le _) dX3_readsPart_30 rfl (nar_zb (by omega)) ⟨_, rfl, by omega, congrArg (fun x => twO E A (tset M 0 17 x) h) (by omega)⟩
    · 
      first | refine g_aload0 dX3_readsPart_16 ?_ | refine g_aloadQ0 dX3_readsPart_16 ?_ | refine g_aloadN0 dX3_readsPart_16 ?_
      refine g_bipush (nI 41) dX3_readsPart_17 (by decide) ?_
      refine g_V1n0 (ctX3_eatsA hA _ _ _ hT (by omega) (by decide)) kX3_eats q2432 tw_0 rfl rfl ⟨by show 1 + 1 ≤ (N + 1) + 6; omega, by show 8 + (3 + 11) + (20) ≤ 60 * (N + 1) + 200; omega⟩ ⟨rfl, rfl⟩ ⟨Nat.zero_le _, Nat.zero_le _⟩ (Nat.le_of_ble_eq_true rfl) dX3_readsPart_19 (fun r_19 h_19 p_19 => ?_)
      obtain ⟨hr_19, hi_19, rfl⟩ := p_19
      first | refine g_ifN_eq (tgt := 29) dX3_readsPart_22 (by decide) (by omega) (fun c_22 => ?_) (fun c_22 => ?_) | refine g_if_eq (tgt := 29) dX3_readsPart_22 (by decide) (fun c_22 => ?_) (fun c_22 => ?_)
      · have he1 : (prs (hrF (M 14) (M 0 15)) (k + 1) 2 a).1 = 0 := by rw [prs, if_pos rfl, if_pos (by omega), if_pos (by omega), if_neg (by omega)]
        have he2 : (prs (hrF (M 14) (M 0 15)) (k + 1) 2 a).2.1 = (prs (hrF (M 14) (M 0 15)) k 0 (a + 1)).2.1 := by rw [prs, if_pos rfl, if_pos (by omega), if_pos (by omega), if_neg (by omega)]
        refine g_iconst (nI 0) dX3_readsPart_29 (by decide) ?_
        exact g_zret (hk := Nat.zero_le _) (hn := Nat.zero_le _) dX3_readsPart_30 rfl (nar_zb (by omega)) ⟨_, rfl, by omega, congrArg (fun x => twO E A (tset M 0 17 x) h) (by omega)⟩
      · have he1 : (prs (hrF (M 14) (M 0 15)) (k + 1) 2 a).1 = 1 := by rw [prs, if_pos rfl, if_pos (by omega), if_pos (by omega), if_pos (by omega)]
        have he2 : (prs (hrF (M 14) (M 0 15)) (k + 1) 2 a).2.1 = (prs (hrF (M 14) (M 0 15)) k 0 (a + 1)).2.1 + 1 := by rw [prs, if_pos rfl, if_pos (by omega), if_pos (by omega), if_pos (by omega)]
        refine g_iconst (nI 1) dX3_readsPart_25 (by decide) ?_
        refine g_goto (tgt := 30) dX3_readsPart_26 (by decide) ?_
        exact g_zret (hk := Nat.zero_le _) (hn := Nat.zero_le _) dX3_readsPart_30 rfl (nar_zb (by omega)) ⟨_, rfl, by omega, congrArg (fun x => twO E A (tset M 0 17 x) h) (by omega)⟩
set_option maxHeartbeats 400000 in
theorem ctX3_reads {E : GE} {A : Nat → Nat} (hA : twA A) (M : TW) (hT : tpW M) {h : AH} : ∀ N : Nat,
    (∀ (k a : Nat), k ≤ N → a ≤ M 0 15 → 4 * M 0 15 + 3 ≤ k + 4 * a + 2 → Ct E cX3_readsPart (mX3_readsPart N) [.ref (A 0)] (twO E A (tset M 0 17 (a)) h) (pN fun r h' => r = (prs (hrF (M 14) (M 0 15)) k 2 (a)).1 ∧ h' = twO E A (tset M 0 17 (prs (hrF (M 14) (M 0 15)) k 2 (a)).2.1) h) noX) ∧
    (∀ (k a : Nat), k ≤ N → a ≤ M 0 15 → 4 * M 0 15 + 3 ≤ k + 4 * a + 1 → Ct E cX3_readsAll (mX3_readsAll N) [.ref (A 0)] (twO E A (tset M 0 17 (a)) h) (pN fun r h' => r = (prs (hrF (M 14) (M 0 15)) k 1 (a)).1 ∧ h' = twO E A (tset M 0 17 (prs (hrF (M 14) (M 0 15)) k 1 (a)).2.1) h) noX) ∧
    (∀ (k a : Nat), k ≤ N → a ≤ M 0 15 → 4 * M 0 15 + 3 ≤ k + 4 * a → Ct E cX3_readsPolicy (mX3_readsPolicy N) [.ref (A 0)] (twO E A (tset M 0 17 (a)) h) (pN fun r h' => r = (prs (hrF (M 14) (M 0 15)) k 0 (a)).1 ∧ h' = twO E A (tset M 0 17 (prs (hrF (M 14) (M 0 15)) k 0 (a)).2.1) h) noX) := by
  intro N
  induction N with
  | zero => exact ⟨fun k a h1 h2 h3 => absurd h3 (by omega), fun k a h1 h2 h3 => absurd h3 (by omega), fun k a h1 h2 h3 => absurd h3 (by omega)⟩
  | succ N ih => exact ⟨fun k a h1 h2 h3 => step_X3_readsPart hA M hT N ih.2.2 k a h1 h2 h3, fun k a h1 h2 h3 => step_X3_readsAll hA M hT N ih.1 k a h1 h2 h3, fun k a h1 h2 h3 => step_X3_readsPolicy hA M hT N ih.2.1 k a h1 h2 h3⟩
/-- what is read of the tape -/
def plT (M : TW) : Nat × Nat × List Att := prs (hrF (M 14) (M 0 15)) 200 0 0
def rdG (M : TW) : Nat := if M 0 15 = 0 ∨ ((plT M).1 = 1 ∧ (plT M).2.1 = M 0 15) then 1 else 0
theorem rdG_0 {M : TW} (h : M 0 15 = 0) : rdG M = 1 := if_pos (Or.inl h)
theorem rdG_1 {M : TW} (h1 : (plT M).1 = 1) (h2 : (plT M).2.1 = M 0 15) : rdG M = 1 := if_pos (Or.inr ⟨h1, h2⟩)
theorem rdG_n {M : TW} (h : ¬ M 0 15 = 0) (h1 : ¬ ((plT M).1 = 1 ∧ (plT M).2.1 = M 0 15)) : rdG M = 0 := if_neg (fun z => z.elim h h1)
/-- a policy is laid into a slot -/
def tPo (M : TW) (s n : Nat) (t : Nat → Nat) : Nat → TW
  | 0 => tset M 1 (38 + 124 * s + 11) n
  | k + 1 => tset (tPo M s n t k) 1 (38 + 124 * s + (12 + k)) (t k)
theorem tPo_n (M : TW) (s n : Nat) (t : Nat → Nat) (k b : Nat) (h : b ≠ 1) : tPo M s n t k b = M b := by
  induction k with
  | zero => exact tset_n _ _ _ h
  | succ k ih => rw [tPo, tset_n _ _ _ h, ih]
theorem tSame.po {M M1 : TW} (h : tSame M M1) (s n : Nat) (t : Nat → Nat) (k : Nat) : tSame (tPo M s n t k) (tPo M1 s n t k) := by
  induction k with
  | zero => exact h.up 1 _ _ (Or.inl rfl)
  | succ k ih => exact ih.up 1 _ _ (Or.inl rfl)
theorem ctX3_readsAt {E : GE} {A : Nat → Nat} (hA : twA A) (M : TW) (hT : tpW M) {h : AH} : Ct E cX3_readsPolicy (mX3_readsPolicy 200) [.ref (A 0)] (twO E A (tset M 0 17 0) h) (pN fun r h' => r = (plT M).1 ∧ h' = twO E A (tset M 0 17 (plT M).2.1) h) noX := by
  have hT1 := hT.1
  exact (ctX3_reads hA M hT 200).2.2 200 0 (Nat.le_refl _) (Nat.zero_le _) (by omega)
abbrev mX3_setPolicy : GM := (yX3_setPolicy, 5, (some .boolean), [], { frames := 207, cells := 0, slots := 0, locals := 12221 }, 255)
theorem kX3_setPolicy : gCv cX3_setPolicy mX3_setPolicy 1 := ⟨q2441, q2442, q90, q2443, ⟨by decide +kernel, by decide +kernel, by decide +kernel⟩, rfl⟩
def xc_setPolicy (M : TW) (s : Nat) : Nat := if ¬ s ≤ 3 then 1 else if gOf (M 1) s 0 = 0 then 2 else if rdG M = 1 then 0 else 3
def xv_setPolicy (M : TW) (s : Nat) : Nat := if 0 < gOf (M 1) s 11 then 1 else 0
def xm_setPolicy (M : TW) (s : Nat) : TW := if s ≤ 3 ∧ ¬ gOf (M 1) s 0 = 0 then (if rdG M = 1 then tset (tPo (tset M 0 16 4294967295) s (M 0 15) (M 14) (M 0 15)) 0 15 0 else tset (tset M 0 16 (plT M).2.1) 0 15 0) else M
set_option maxHeartbeats 400000 in
theorem ctX3_setPolicy {E : GE} {h : AH} {A : Nat → Nat} (hA : twA A) (M : TW) (s : Nat) (hW : tWF M) (hT : tpW M) (hs : s < 4294967296) : Ct E cX3_setPolicy mX3_setPolicy [.ref (A 0), .int (nI s)] (twO E A M h) (pN fun r h' => tEnd E A h (xc_setPolicy M s ) (xv_setPolicy M s ) (xm_setPolicy M s ) r h') noX := by
  refine g_enter (own := "SecretVaultModel") [some (.ref (A 0)), some (.int (nI s)), none, none, none] (by decide +kernel) rfl rfl (Nat.le_of_ble_eq_true rfl) rfl rfl (fun X => ?_)
  have hB := hW.1
  have hT1 := hT.1
  have L : ∀ p hd i, 0 ≤ i → i ≤ M 0 15 → s ≤ 3 → ¬ gOf (M 1) s 0 = 0 → rdG M = 1 → hd < 2 → (hd = 1 ↔ 0 < gOf (M 1) s 11) → V E cX3_setPolicy "SecretVaultModel" mX3_setPolicy (pN fun r h' => tEnd E A h (xc_setPolicy M s ) (xv_setPolicy M s ) (xm_setPolicy M s ) r h') noX X (twO E A (tPo (tset (tset (tset M 0 0 0) 0 17 (p)) 0 16 4294967295) s (M 0 15) (M 14) (i)) h) 0 0 94 [some (.ref (A 0)), some (.int (nI (s))), some (.int (nI (1))), some (.int (nI (hd))), some (.int (nI (i)))] [] := by
    intro p hd i h0 h1 hs3 hh hg hd2 hdi
    refine g_for (fun i => V E cX3_setPolicy "SecretVaultModel" mX3_setPolicy (pN fun r h' => tEnd E A h (xc_setPolicy M s ) (xv_setPolicy M s ) (xm_setPolicy M s ) r h') noX X (twO E A (tPo (tset (tset (tset M 0 0 0) 0 17 (p)) 0 16 4294967295) s (M 0 15) (M 14) (i)) h) 0 0 94 [some (.ref (A 0)), some (.int (nI (s))), some (.int (nI (1))), some (.int (nI (hd))), some (.int (nI (i)))] []) 0 (M 0 15) ?_ ?_ i h0 h1
    · have e15 : (tPo (tset (tset (tset M 0 0 0) 0 17 (p)) 0 16 4294967295) s (M 0 15) (M 14) ((M 0 15))) 0 15 = M 0 15 := by rw [tPo_n _ _ _ _ _ _ (by decide)]; rfl
      have hsm : tSame (tset (tPo (tset M 0 16 4294967295) s (M 0 15) (M 14) (M 0 15)) 0 15 0) (tset (tPo (tset (tset (tset M 0 0 0) 0 17 (p)) 0 16 4294967295) s (M 0 15) (M 14) ((M 0 15))) 0 15 0) := ((((tSame.rf.f 0 0 (by decide)).f 17 p (by decide)).w 16 _ (by decide)).po _ _ _ _).w 15 _ (by decide)
      refine g_iload4 dX3_setPolicy_94 ?_
      first | refine g_aload0 dX3_setPolicy_96 ?_ | refine g_aloadQ0 dX3_setPolicy_96 ?_ | refine g_aloadN0 dX3_setPolicy_96 ?_
      refine t_get15 hA q2112 dX3_setPolicy_97 ?_
      rw [e15]
      first | refine g_icmpN_ge (tgt := 126) dX3_setPolicy_100 (by decide) (by first | omega | exact hB _ _ | (split <;> omega)) (by first | omega | exact hB _ _ | (split <;> omega)) (fun c_100 => ?_) (fun c_100 => ?_) | refine g_icmp_ge (tgt := 126) dX3_setPolicy_100 (by decide) (fun c_100 => ?_) (fun c_100 => ?_)
      · first | refine g_aload0 dX3_setPolicy_126 ?_ | refine g_aloadQ0 dX3_setPolicy_126 ?_ | refine g_aloadN0 dX3_setPolicy_126 ?_
        refine g_iconst (nI 0) dX3_setPolicy_127 (by decide) ?_
        refine t_put15 hA q2112 dX3_setPolicy_128 ?_
        first | refine g_aload0 dX3_setPolicy_131 ?_ | refine g_aloadQ0 dX3_setPolicy_131 ?_ | refine g_aloadN0 dX3_setPolicy_131 ?_
        refine g_iload2 dX3_setPolicy_132 ?_
        first | refine g_ifN_eq (tgt := 140) dX3_setPolicy_133 (by decide) (by first | omega | exact hB _ _ | (split <;> omega)) (fun c_133 => ?_) (fun c_133 => ?_) | refine g_if_eq (tgt := 140) dX3_setPolicy_133 (by decide) (fun c_133 => ?_) (fun c_133 => ?_)
        · omega
        · refine g_iconst (nI 0) dX3_setPolicy_136 (by decide) ?_
          refine g_goto (tgt := 141) dX3_setPolicy_137 (by decide) ?_
          refine t_put0 hA q2098 dX3_setPolicy_141 ?_
          refine g_iload2 dX3_setPolicy_144 ?_
          first | refine g_ifN_eq (tgt := 156) dX3_setPolicy_145 (by decide) (by first | omega | exact hB _ _ | (split <;> omega)) (fun c_145 => ?_) (fun c_145 => ?_) | refine g_if_eq (tgt := 156) dX3_setPolicy_145 (by decide) (fun c_145 => ?_) (fun c_145 => ?_)
          · omega
          · refine g_iload3 dX3_setPolicy_148 ?_
            first | refine g_ifN_eq (tgt := 156) dX3_setPolicy_149 (by decide) (by first | omega | exact hB _ _ | (split <;> omega)) (fun c_149 => ?_) (fun c_149 => ?_) | refine g_if_eq (tgt := 156) dX3_setPolicy_149 (by decide) (fun c_149 => ?_) (fun c_149 => ?_)
            · refine g_iconst (nI 0) dX3_setPolicy_156 (by decide) ?_
              exact g_zret dX3_setPolicy_157 rfl (nar_zb (by first | omega | exact hB _ _ | (split <;> omega))) ⟨_, rfl, ⟨_, rfl, by rw [tset_ss]; unfold xc_setPolicy; rw [if_neg (by omega), if_neg (by omega), if_pos hg], fun _ => by unfold xv_setPolicy; first | rw [if_pos (by omega)] | rw [if_neg (by omega)], by unfold xm_setPolicy; rw [if_pos (by omega), if_pos hg]; exact hsm.f 0 0 (by decide)⟩⟩
            · refine g_iconst (nI 1) dX3_setPolicy_152 (by decide) ?_
              refine g_goto (tgt := 157) dX3_setPolicy_153 (by decide) ?_
              exact g_zret dX3_setPolicy_157 rfl (nar_zb (by first | omega | exact hB _ _ | (split <;> omega))) ⟨_, rfl, ⟨_, rfl, by rw [tset_ss]; unfold xc_setPolicy; rw [if_neg (by omega), if_neg (by omega), if_pos hg], fun _ => by unfold xv_setPolicy; first | rw [if_pos (by omega)] | rw [if_neg (by omega)], by unfold xm_setPolicy; rw [if_pos (by omega), if_pos hg]; exact hsm.f 0 0 (by decide)⟩⟩
      · omega
    · intro i h0 hi ih
      have e15 : (tPo (tset (tset (tset M 0 0 0) 0 17 (p)) 0 16 4294967295) s (M 0 15) (M 14) (i)) 0 15 = M 0 15 := by rw [tPo_n _ _ _ _ _ _ (by decide)]; rfl
      have e14 : (tPo (tset (tset (tset M 0 0 0) 0 17 (p)) 0 16 4294967295) s (M 0 15) (M 14) (i)) 14 i = M 14 i := by rw [tPo_n _ _ _ _ _ _ (by decide)]; rfl
      refine g_iload4 dX3_setPolicy_94 ?_
      first | refine g_aload0 dX3_setPolicy_96 ?_ | refine g_aloadQ0 dX3_setPolicy_96 ?_ | refine g_aloadN0 dX3_setPolicy_96 ?_
      refine t_get15 hA q2112 dX3_setPolicy_97 ?_
      rw [e15]
      first | refine g_icmpN_ge (tgt := 126) dX3_setPolicy_100 (by decide) (by first | omega | exact hB _ _ | (split <;> omega)) (by first | omega | exact hB _ _ | (split <;> omega)) (fun c_100 => ?_) (fun c_100 => ?_) | refine g_icmp_ge (tgt := 126) dX3_setPolicy_100 (by decide) (fun c_100 => ?_) (fun c_100 => ?_)
      · omega
      · first | refine g_aload0 dX3_setPolicy_103 ?_ | refine g_aloadQ0 dX3_setPolicy_103 ?_ | refine g_aloadN0 dX3_setPolicy_103 ?_
        refine g_iload1 dX3_setPolicy_104 ?_
        refine g_bipush (nI 12) dX3_setPolicy_105 (by decide) ?_
        refine g_iload4 dX3_setPolicy_107 ?_
        first | refine g_iaddN dX3_setPolicy_109 ?_ | refine g_iadd dX3_setPolicy_109 ?_
        first | refine g_aload0 dX3_setPolicy_110 ?_ | refine g_aloadQ0 dX3_setPolicy_110 ?_ | refine g_aloadN0 dX3_setPolicy_110 ?_
        refine t_get14 hA q2111 dX3_setPolicy_111 ?_
        refine g_iload4 dX3_setPolicy_114 ?_
        refine t_ald14 hA (by first | omega | exact hB _ _ | (split <;> omega)) dX3_setPolicy_116 ?_
        rw [e14]
        refine g_V3v0 (ctX3_sets hA _ _ _ _ (by omega) (by omega)) kX3_sets q2242 tw_0 rfl rfl (by decide) ⟨rfl, rfl⟩ ⟨Nat.zero_le _, Nat.zero_le _⟩ (Nat.le_of_ble_eq_true rfl) dX3_setPolicy_117 (fun h_117 p_117 => ?_)
        subst p_117
        first | refine g_iincN4 1 dX3_setPolicy_120 (by decide) (by decide) ?_ | refine g_iinc4 _ dX3_setPolicy_120 rfl (by decide) ?_
        refine g_goto (tgt := 94) dX3_setPolicy_123 (by decide) ?_
        exact ih
  first | refine g_aload0 dX3_setPolicy_0 ?_ | refine g_aloadQ0 dX3_setPolicy_0 ?_ | refine g_aloadN0 dX3_setPolicy_0 ?_
  first | refine g_aload0 dX3_setPolicy_1 ?_ | refine g_aloadQ0 dX3_setPolicy_1 ?_ | refine g_aloadN0 dX3_setPolicy_1 ?_
  refine g_iload1 dX3_setPolicy_2 ?_
  refine g_V1n0 (ctX3_lacks hA _ _ hB (by omega)) kX3_lacks q2277 tw_0 rfl rfl (by decide) ⟨rfl, rfl⟩ ⟨Nat.zero_le _, Nat.zero_le _⟩ (Nat.le_of_ble_eq_true rfl) dX3_setPolicy_3 (fun r_3 h_3 p_3 => ?_)
  obtain ⟨hi_3, rfl⟩ := p_3
  refine t_put0 hA q2098 dX3_setPolicy_6 ?_
  first | refine g_aload0 dX3_setPolicy_9 ?_ | refine g_aloadQ0 dX3_setPolicy_9 ?_ | refine g_aloadN0 dX3_setPolicy_9 ?_
  refine t_get0 hA q2098 dX3_setPolicy_10 ?_
  rw [tset_ss]
  first | refine g_ifN_eq (tgt := 18) dX3_setPolicy_13 (by decide) (by first | omega | exact hB _ _ | (split <;> omega)) (fun c_13 => ?_) (fun c_13 => ?_) | refine g_if_eq (tgt := 18) dX3_setPolicy_13 (by decide) (fun c_13 => ?_) (fun c_13 => ?_)
  · obtain rfl : r_3 = 0 := by omega
    first | refine g_aload0 dX3_setPolicy_18 ?_ | refine g_aloadQ0 dX3_setPolicy_18 ?_ | refine g_aloadN0 dX3_setPolicy_18 ?_
    refine g_iconst (nI 0) dX3_setPolicy_19 (by decide) ?_
    refine t_put17 hA q2114 dX3_setPolicy_20 ?_
    first | refine g_aload0 dX3_setPolicy_23 ?_ | refine g_aloadQ0 dX3_setPolicy_23 ?_ | refine g_aloadN0 dX3_setPolicy_23 ?_
    refine t_get15 hA q2112 dX3_setPolicy_24 ?_
    rw [show tset (tset M 0 0 0) 0 17 0 0 15 = M 0 15 from rfl]
    first | refine g_ifN_eq (tgt := 48) dX3_setPolicy_27 (by decide) (by first | omega | exact hB _ _ | (split <;> omega)) (fun c_27 => ?_) (fun c_27 => ?_) | refine g_if_eq (tgt := 48) dX3_setPolicy_27 (by decide) (fun c_27 => ?_) (fun c_27 => ?_)
    · have hg := rdG_0 c_27
      refine g_iconst (nI 1) dX3_setPolicy_48 (by decide) ?_
      refine g_goto (tgt := 53) dX3_setPolicy_49 (by decide) ?_
      refine g_istore2 dX3_setPolicy_53 (by decide) ?_
      first | refine g_aload0 dX3_setPolicy_54 ?_ | refine g_aloadQ0 dX3_setPolicy_54 ?_ | refine g_aloadN0 dX3_setPolicy_54 ?_
      refine g_iload2 dX3_setPolicy_55 ?_
      first | refine g_ifN_eq (tgt := 63) dX3_setPolicy_56 (by decide) (by first | omega | exact hB _ _ | (split <;> omega)) (fun c_56 => ?_) (fun c_56 => ?_) | refine g_if_eq (tgt := 63) dX3_setPolicy_56 (by decide) (fun c_56 => ?_) (fun c_56 => ?_)
      · omega
      · refine g_iconst (nI 4294967295) dX3_setPolicy_59 (by decide) ?_
        refine g_goto (tgt := 67) dX3_setPolicy_60 (by decide) ?_
        refine t_put16 hA q2113 dX3_setPolicy_67 ?_
        first | refine g_aload0 dX3_setPolicy_70 ?_ | refine g_aloadQ0 dX3_setPolicy_70 ?_ | refine g_aloadN0 dX3_setPolicy_70 ?_
        refine g_iload1 dX3_setPolicy_71 ?_
        have hp11 := (hW.2.2.2.2 s (by omega)).2.2.2.2.2.1
        refine g_V1n0 (ctX3_hasPolicy hA _ _ (by omega) hp11) kX3_hasPolicy q2312 tw_0 rfl rfl (by decide) ⟨rfl, rfl⟩ ⟨Nat.zero_le _, Nat.zero_le _⟩ (Nat.le_of_ble_eq_true rfl) dX3_setPolicy_72 (fun r_72 h_72 p_72 => ?_)
        obtain ⟨hr_72, hi0_r, rfl⟩ := p_72
        have hi_72 : r_72 = 1 ↔ 0 < gOf (M 1) s 11 := hi0_r
        refine g_istore3 dX3_setPolicy_75 (by decide) ?_
        refine g_iload2 dX3_setPolicy_76 ?_
        first | refine g_ifN_eq (tgt := 126) dX3_setPolicy_77 (by decide) (by first | omega | exact hB _ _ | (split <;> omega)) (fun c_77 => ?_) (fun c_77 => ?_) | refine g_if_eq (tgt := 126) dX3_setPolicy_77 (by decide) (fun c_77 => ?_) (fun c_77 => ?_)
        · omega
        · first | refine g_aload0 dX3_setPolicy_80 ?_ | refine g_aloadQ0 dX3_setPolicy_80 ?_ | refine g_aloadN0 dX3_setPolicy_80 ?_
          refine g_iload1 dX3_setPolicy_81 ?_
          refine g_bipush (nI 11) dX3_setPolicy_82 (by decide) ?_
          first | refine g_aload0 dX3_setPolicy_84 ?_ | refine g_aloadQ0 dX3_setPolicy_84 ?_ | refine g_aloadN0 dX3_setPolicy_84 ?_
          refine t_get15 hA q2112 dX3_setPolicy_85 ?_
          first | rw [show tset (tset (tset M 0 0 0) 0 17 0) 0 16 4294967295 0 15 = M 0 15 from rfl] | rw [show tset (tset (tset M 0 0 0) 0 17 (plT M).2.1) 0 16 4294967295 0 15 = M 0 15 from rfl]
          refine g_V3v0 (ctX3_sets hA _ _ _ _ (by omega) (by omega)) kX3_sets q2242 tw_0 rfl rfl (by decide) ⟨rfl, rfl⟩ ⟨Nat.zero_le _, Nat.zero_le _⟩ (Nat.le_of_ble_eq_true rfl) dX3_setPolicy_88 (fun h_88 p_88 => ?_)
          subst p_88
          refine g_iconst (nI 0) dX3_setPolicy_91 (by decide) ?_
          refine g_istore4 dX3_setPolicy_92 (by decide) ?_
          exact L _ _ 0 (by omega) (by omega) (by omega) (by omega) hg hr_72 hi_72
    · have h01 : (plT M).1 ≤ 1 := prs_01 _ _ _ _
      have hpl : (plT M).2.1 ≤ M 0 15 := prs_le (Nat.zero_le _)
      first | refine g_aload0 dX3_setPolicy_30 ?_ | refine g_aloadQ0 dX3_setPolicy_30 ?_ | refine g_aloadN0 dX3_setPolicy_30 ?_
      refine g_S1n0 (ctX3_readsAt hA (tset M 0 0 0) hT) (kX3_readsPolicy _) q2444 (by decide) ⟨rfl, rfl⟩ ⟨Nat.zero_le _, Nat.zero_le _⟩ (Nat.le_of_ble_eq_true rfl) dX3_setPolicy_31 (fun r_31 h_31 p_31 => ?_)
      obtain ⟨hi0_r, rfl⟩ := p_31
      have hi_31 : r_31 = (plT M).1 := hi0_r
      rw [show plT (tset M 0 0 0) = plT M from rfl]
      first | refine g_ifN_eq (tgt := 52) dX3_setPolicy_34 (by decide) (by first | omega | exact hB _ _ | (split <;> omega)) (fun c_34 => ?_) (fun c_34 => ?_) | refine g_if_eq (tgt := 52) dX3_setPolicy_34 (by decide) (fun c_34 => ?_) (fun c_34 => ?_)
      · have hg := rdG_n c_27 (fun z => by have := z.1; omega)
        refine g_iconst (nI 0) dX3_setPolicy_52 (by decide) ?_
        refine g_istore2 dX3_setPolicy_53 (by decide) ?_
        first | refine g_aload0 dX3_setPolicy_54 ?_ | refine g_aloadQ0 dX3_setPolicy_54 ?_ | refine g_aloadN0 dX3_setPolicy_54 ?_
        refine g_iload2 dX3_setPolicy_55 ?_
        first | refine g_ifN_eq (tgt := 63) dX3_setPolicy_56 (by decide) (by first | omega | exact hB _ _ | (split <;> omega)) (fun c_56 => ?_) (fun c_56 => ?_) | refine g_if_eq (tgt := 63) dX3_setPolicy_56 (by decide) (fun c_56 => ?_) (fun c_56 => ?_)
        · first | refine g_aload0 dX3_setPolicy_63 ?_ | refine g_aloadQ0 dX3_setPolicy_63 ?_ | refine g_aloadN0 dX3_setPolicy_63 ?_
          refine t_get17 hA q2114 dX3_setPolicy_64 ?_
          rw [tset_ss]
          refine t_put16 hA q2113 dX3_setPolicy_67 ?_
          first | refine g_aload0 dX3_setPolicy_70 ?_ | refine g_aloadQ0 dX3_setPolicy_70 ?_ | refine g_aloadN0 dX3_setPolicy_70 ?_
          refine g_iload1 dX3_setPolicy_71 ?_
          have hp11 := (hW.2.2.2.2 s (by omega)).2.2.2.2.2.1
          refine g_V1n0 (ctX3_hasPolicy hA _ _ (by omega) hp11) kX3_hasPolicy q2312 tw_0 rfl rfl (by decide) ⟨rfl, rfl⟩ ⟨Nat.zero_le _, Nat.zero_le _⟩ (Nat.le_of_ble_eq_true rfl) dX3_setPolicy_72 (fun r_72 h_72 p_72 => ?_)
          obtain ⟨hr_72, hi0_r, rfl⟩ := p_72
          have hi_72 : r_72 = 1 ↔ 0 < gOf (M 1) s 11 := hi0_r
          refine g_istore3 dX3_setPolicy_75 (by decide) ?_
          refine g_iload2 dX3_setPolicy_76 ?_
          first | refine g_ifN_eq (tgt := 126) dX3_setPolicy_77 (by decide) (by first | omega | exact hB _ _ | (split <;> omega)) (fun c_77 => ?_) (fun c_77 => ?_) | refine g_if_eq (tgt := 126) dX3_setPolicy_77 (by decide) (fun c_77 => ?_) (fun c_77 => ?_)
          · first | refine g_aload0 dX3_setPolicy_126 ?_ | refine g_aloadQ0 dX3_setPolicy_126 ?_ | refine g_aloadN0 dX3_setPolicy_126 ?_
            refine g_iconst (nI 0) dX3_setPolicy_127 (by decide) ?_
            refine t_put15 hA q2112 dX3_setPolicy_128 ?_
            first | refine g_aload0 dX3_setPolicy_131 ?_ | refine g_aloadQ0 dX3_setPolicy_131 ?_ | refine g_aloadN0 dX3_setPolicy_131 ?_
            refine g_iload2 dX3_setPolicy_132 ?_
            first | refine g_ifN_eq (tgt := 140) dX3_setPolicy_133 (by decide) (by first | omega | exact hB _ _ | (split <;> omega)) (fun c_133 => ?_) (fun c_133 => ?_) | refine g_if_eq (tgt := 140) dX3_setPolicy_133 (by decide) (fun c_133 => ?_) (fun c_133 => ?_)
            · refine g_iconst (nI 3) dX3_setPolicy_140 (by decide) ?_
              refine t_put0 hA q2098 dX3_setPolicy_141 ?_
              refine g_iload2 dX3_setPolicy_144 ?_
              first | refine g_ifN_eq (tgt := 156) dX3_setPolicy_145 (by decide) (by first | omega | exact hB _ _ | (split <;> omega)) (fun c_145 => ?_) (fun c_145 => ?_) | refine g_if_eq (tgt := 156) dX3_setPolicy_145 (by decide) (fun c_145 => ?_) (fun c_145 => ?_)
              · refine g_iconst (nI 0) dX3_setPolicy_156 (by decide) ?_
                exact g_zret dX3_setPolicy_157 rfl (nar_zb (by first | omega | exact hB _ _ | (split <;> omega))) ⟨_, rfl, (by first | exact ⟨_, rfl, by rw [tset_ss]; unfold xc_setPolicy; rw [if_neg (by omega), if_neg (by omega), if_neg (by omega)], fun z => absurd z (by unfold xc_setPolicy; rw [if_neg (by omega), if_neg (by omega), if_neg (by omega)]; decide), by unfold xm_setPolicy; rw [if_pos (by omega), if_neg (by omega)]; exact ((((tSame.rf.f 0 0 (by decide)).f 17 _ (by decide)).w 16 _ (by decide)).w 15 _ (by decide)).f 0 _ (by decide)⟩ | exact ⟨_, rfl, by rw [tset_ss]; unfold xc_setPolicy; (repeat' split) <;> omega, fun z => absurd z (by unfold xc_setPolicy; (repeat' split) <;> omega), by unfold xm_setPolicy; rw [if_neg (by omega)]; exact tSame.rf.f 0 _ (by decide)⟩)⟩
              · omega
            · omega
          · omega
        · omega
      · 
        first | refine g_aload0 dX3_setPolicy_37 ?_ | refine g_aloadQ0 dX3_setPolicy_37 ?_ | refine g_aloadN0 dX3_setPolicy_37 ?_
        refine t_get17 hA q2114 dX3_setPolicy_38 ?_
        rw [tset_ss]
        first | refine g_aload0 dX3_setPolicy_41 ?_ | refine g_aloadQ0 dX3_setPolicy_41 ?_ | refine g_aloadN0 dX3_setPolicy_41 ?_
        refine t_get15 hA q2112 dX3_setPolicy_42 ?_
        rw [show tset (tset M 0 0 0) 0 17 (plT M).2.1 0 15 = M 0 15 from rfl]
        first | refine g_icmpN_ne (tgt := 52) dX3_setPolicy_45 (by decide) (by first | omega | exact hB _ _ | (split <;> omega)) (by first | omega | exact hB _ _ | (split <;> omega)) (fun c_45 => ?_) (fun c_45 => ?_) | refine g_icmpU_ne (tgt := 52) dX3_setPolicy_45 (by decide) (by first | omega | exact hB _ _ | (split <;> omega)) (by first | omega | exact hB _ _ | (split <;> omega)) (fun c_45 => ?_) (fun c_45 => ?_) | refine g_icmp_ne (tgt := 52) dX3_setPolicy_45 (by decide) (fun c_45 => ?_) (fun c_45 => ?_)
        · have hg := rdG_n c_27 (fun z => by have := z.2; omega)
          refine g_iconst (nI 0) dX3_setPolicy_52 (by decide) ?_
          refine g_istore2 dX3_setPolicy_53 (by decide) ?_
          first | refine g_aload0 dX3_setPolicy_54 ?_ | refine g_aloadQ0 dX3_setPolicy_54 ?_ | refine g_aloadN0 dX3_setPolicy_54 ?_
          refine g_iload2 dX3_setPolicy_55 ?_
          first | refine g_ifN_eq (tgt := 63) dX3_setPolicy_56 (by decide) (by first | omega | exact hB _ _ | (split <;> omega)) (fun c_56 => ?_) (fun c_56 => ?_) | refine g_if_eq (tgt := 63) dX3_setPolicy_56 (by decide) (fun c_56 => ?_) (fun c_56 => ?_)
          · first | refine g_aload0 dX3_setPolicy_63 ?_ | refine g_aloadQ0 dX3_setPolicy_63 ?_ | refine g_aloadN0 dX3_setPolicy_63 ?_
            refine t_get17 hA q2114 dX3_setPolicy_64 ?_
            rw [tset_ss]
            refine t_put16 hA q2113 dX3_setPolicy_67 ?_
            first | refine g_aload0 dX3_setPolicy_70 ?_ | refine g_aloadQ0 dX3_setPolicy_70 ?_ | refine g_aloadN0 dX3_setPolicy_70 ?_
            refine g_iload1 dX3_setPolicy_71 ?_
            have hp11 := (hW.2.2.2.2 s (by omega)).2.2.2.2.2.1
            refine g_V1n0 (ctX3_hasPolicy hA _ _ (by omega) hp11) kX3_hasPolicy q2312 tw_0 rfl rfl (by decide) ⟨rfl, rfl⟩ ⟨Nat.zero_le _, Nat.zero_le _⟩ (Nat.le_of_ble_eq_true rfl) dX3_setPolicy_72 (fun r_72 h_72 p_72 => ?_)
            obtain ⟨hr_72, hi0_r, rfl⟩ := p_72
            have hi_72 : r_72 = 1 ↔ 0 < gOf (M 1) s 11 := hi0_r
            refine g_istore3 dX3_setPolicy_75 (by decide) ?_
            refine g_iload2 dX3_setPolicy_76 ?_
            first | refine g_ifN_eq (tgt := 126) dX3_setPolicy_77 (by decide) (by first | omega | exact hB _ _ | (split <;> omega)) (fun c_77 => ?_) (fun c_77 => ?_) | refine g_if_eq (tgt := 126) dX3_setPolicy_77 (by decide) (fun c_77 => ?_) (fun c_77 => ?_)
            · first | refine g_aload0 dX3_setPolicy_126 ?_ | refine g_aloadQ0 dX3_setPolicy_126 ?_ | refine g_aloadN0 dX3_setPolicy_126 ?_
              refine g_iconst (nI 0) dX3_setPolicy_127 (by decide) ?_
              refine t_put15 hA q2112 dX3_setPolicy_128 ?_
              first | refine g_aload0 dX3_setPolicy_131 ?_ | refine g_aloadQ0 dX3_setPolicy_131 ?_ | refine g_aloadN0 dX3_setPolicy_131 ?_
              refine g_iload2 dX3_setPolicy_132 ?_
              first | refine g_ifN_eq (tgt := 140) dX3_setPolicy_133 (by decide) (by first | omega | exact hB _ _ | (split <;> omega)) (fun c_133 => ?_) (fun c_133 => ?_) | refine g_if_eq (tgt := 140) dX3_setPolicy_133 (by decide) (fun c_133 => ?_) (fun c_133 => ?_)
              · refine g_iconst (nI 3) dX3_setPolicy_140 (by decide) ?_
                refine t_put0 hA q2098 dX3_setPolicy_141 ?_
                refine g_iload2 dX3_setPolicy_144 ?_
                first | refine g_ifN_eq (tgt := 156) dX3_setPolicy_145 (by decide) (by first | omega | exact hB _ _ | (split <;> omega)) (fun c_145 => ?_) (fun c_145 => ?_) | refine g_if_eq (tgt := 156) dX3_setPolicy_145 (by decide) (fun c_145 => ?_) (fun c_145 => ?_)
                · refine g_iconst (nI 0) dX3_setPolicy_156 (by decide) ?_
                  exact g_zret dX3_setPolicy_157 rfl (nar_zb (by first | omega | exact hB _ _ | (split <;> omega))) ⟨_, rfl, (by first | exact ⟨_, rfl, by rw [tset_ss]; unfold xc_setPolicy; rw [if_neg (by omega), if_neg (by omega), if_neg (by omega)], fun z => absurd z (by unfold xc_setPolicy; rw [if_neg (by omega), if_neg (by omega), if_neg (by omega)]; decide), by unfold xm_setPolicy; rw [if_pos (by omega), if_neg (by omega)]; exact ((((tSame.rf.f 0 0 (by decide)).f 17 _ (by decide)).w 16 _ (by decide)).w 15 _ (by decide)).f 0 _ (by decide)⟩ | exact ⟨_, rfl, by rw [tset_ss]; unfold xc_setPolicy; (repeat' split) <;> omega, fun z => absurd z (by unfold xc_setPolicy; (repeat' split) <;> omega), by unfold xm_setPolicy; rw [if_neg (by omega)]; exact tSame.rf.f 0 _ (by decide)⟩)⟩
                · omega
              · omega
            · omega
          · omega
        · have hg := rdG_1 (M := M) (by omega) (by omega)
          refine g_iconst (nI 1) dX3_setPolicy_48 (by decide) ?_
          refine g_goto (tgt := 53) dX3_setPolicy_49 (by decide) ?_
          refine g_istore2 dX3_setPolicy_53 (by decide) ?_
          first | refine g_aload0 dX3_setPolicy_54 ?_ | refine g_aloadQ0 dX3_setPolicy_54 ?_ | refine g_aloadN0 dX3_setPolicy_54 ?_
          refine g_iload2 dX3_setPolicy_55 ?_
          first | refine g_ifN_eq (tgt := 63) dX3_setPolicy_56 (by decide) (by first | omega | exact hB _ _ | (split <;> omega)) (fun c_56 => ?_) (fun c_56 => ?_) | refine g_if_eq (tgt := 63) dX3_setPolicy_56 (by decide) (fun c_56 => ?_) (fun c_56 => ?_)
          · omega
          · refine g_iconst (nI 4294967295) dX3_setPolicy_59 (by decide) ?_
            refine g_goto (tgt := 67) dX3_setPolicy_60 (by decide) ?_
            refine t_put16 hA q2113 dX3_setPolicy_67 ?_
            first | refine g_aload0 dX3_setPolicy_70 ?_ | refine g_aloadQ0 dX3_setPolicy_70 ?_ | refine g_aloadN0 dX3_setPolicy_70 ?_
            refine g_iload1 dX3_setPolicy_71 ?_
            have hp11 := (hW.2.2.2.2 s (by omega)).2.2.2.2.2.1
            refine g_V1n0 (ctX3_hasPolicy hA _ _ (by omega) hp11) kX3_hasPolicy q2312 tw_0 rfl rfl (by decide) ⟨rfl, rfl⟩ ⟨Nat.zero_le _, Nat.zero_le _⟩ (Nat.le_of_ble_eq_true rfl) dX3_setPolicy_72 (fun r_72 h_72 p_72 => ?_)
            obtain ⟨hr_72, hi0_r, rfl⟩ := p_72
            have hi_72 : r_72 = 1 ↔ 0 < gOf (M 1) s 11 := hi0_r
            refine g_istore3 dX3_setPolicy_75 (by decide) ?_
            refine g_iload2 dX3_setPolicy_76 ?_
            first | refine g_ifN_eq (tgt := 126) dX3_setPolicy_77 (by decide) (by first | omega | exact hB _ _ | (split <;> omega)) (fun c_77 => ?_) (fun c_77 => ?_) | refine g_if_eq (tgt := 126) dX3_setPolicy_77 (by decide) (fun c_77 => ?_) (fun c_77 => ?_)
            · omega
            · first | refine g_aload0 dX3_setPolicy_80 ?_ | refine g_aloadQ0 dX3_setPolicy_80 ?_ | refine g_aloadN0 dX3_setPolicy_80 ?_
              refine g_iload1 dX3_setPolicy_81 ?_
              refine g_bipush (nI 11) dX3_setPolicy_82 (by decide) ?_
              first | refine g_aload0 dX3_setPolicy_84 ?_ | refine g_aloadQ0 dX3_setPolicy_84 ?_ | refine g_aloadN0 dX3_setPolicy_84 ?_
              refine t_get15 hA q2112 dX3_setPolicy_85 ?_
              first | rw [show tset (tset (tset M 0 0 0) 0 17 0) 0 16 4294967295 0 15 = M 0 15 from rfl] | rw [show tset (tset (tset M 0 0 0) 0 17 (plT M).2.1) 0 16 4294967295 0 15 = M 0 15 from rfl]
              refine g_V3v0 (ctX3_sets hA _ _ _ _ (by omega) (by omega)) kX3_sets q2242 tw_0 rfl rfl (by decide) ⟨rfl, rfl⟩ ⟨Nat.zero_le _, Nat.zero_le _⟩ (Nat.le_of_ble_eq_true rfl) dX3_setPolicy_88 (fun h_88 p_88 => ?_)
              subst p_88
              refine g_iconst (nI 0) dX3_setPolicy_91 (by decide) ?_
              refine g_istore4 dX3_setPolicy_92 (by decide) ?_
              exact L _ _ 0 (by omega) (by omega) (by omega) (by omega) hg hr_72 hi_72
  · refine g_iconst (nI 0) dX3_setPolicy_16 (by decide) ?_
    exact g_zret dX3_setPolicy_17 rfl (nar_zb (by first | omega | exact hB _ _ | (split <;> omega))) ⟨_, rfl, (by first | exact ⟨_, rfl, by rw [tset_ss]; unfold xc_setPolicy; rw [if_neg (by omega), if_neg (by omega), if_neg (by omega)], fun z => absurd z (by unfold xc_setPolicy; rw [if_neg (by omega), if_neg (by omega), if_neg (by omega)]; decide), by unfold xm_setPolicy; rw [if_pos (by omega), if_neg (by omega)]; exact ((((tSame.rf.f 0 0 (by decide)).f 17 _ (by decide)).w 16 _ (by decide)).w 15 _ (by decide)).f 0 _ (by decide)⟩ | exact ⟨_, rfl, by rw [tset_ss]; unfold xc_setPolicy; (repeat' split) <;> omega, fun z => absurd z (by unfold xc_setPolicy; (repeat' split) <;> omega), by unfold xm_setPolicy; rw [if_neg (by omega)]; exact tSame.rf.f 0 _ (by decide)⟩)⟩
