/-! THE VAULT: members -/
set_option maxRecDepth 100000
theorem p2_iff : ∀ m, m < 8 → ∀ k, k < 8 → (1 * 2 ^ m / 2 ^ k % 2 = 1 ↔ k = m) := by decide
/-- a member's shares of a slot, at the first k of the three places -/
def msF (g : Nat → Nat) (s m : Nat) : Nat → Nat
  | 0 => 0
  | k + 1 => msF g s m k + (if gSh g s (3 * m + 1 + k) 0 = 1 then 1 else 0)
theorem gdF_ms (g : Nat → Nat) (s m : Nat) : ∀ k, gdF g s m k ≤ msF g s m k
  | 0 => Nat.le_refl _
  | k + 1 => Nat.add_le_add (gdF_ms g s m k) (by
    by_cases q : gSh g s (3 * m + 1 + k) 0 = 1
    · rw [if_pos q]
      split <;> decide
    · rw [if_neg (fun z => q z.1)]
      exact Nat.zero_le _)
theorem tlL_m (g : Nat → Nat) (s m : Nat) (hm : m < 8) : (tlL g s (1 * 2 ^ m) 0 24).length = msF g s m 3 := by
  have st : ∀ n, n < 24 → (tlL g s (1 * 2 ^ m) 0 (n + 1)).length = (tlL g s (1 * 2 ^ m) 0 n).length + (if n / 3 = m ∧ gSh g s (n + 1) 0 = 1 then 1 else 0) := by
    intro n hn
    have e := p2_iff m hm (n / 3) (by omega)
    have e2 : tlC g s (1 * 2 ^ m) 0 (n + 1) ↔ (n / 3 = m ∧ gSh g s (n + 1) 0 = 1) := ⟨fun z => ⟨e.mp z.1, z.2.1⟩, fun z => ⟨e.mpr z.1, z.2, Or.inl rfl⟩⟩
    rw [tlL]
    by_cases q : n / 3 = m ∧ gSh g s (n + 1) 0 = 1
    · rw [if_pos (e2.mpr q), if_pos q, List.length_append]
      rfl
    · rw [if_neg (fun z => q (e2.mp z)), if_neg q]
      rfl
  have h0 : ∀ n, n ≤ 3 * m → (tlL g s (1 * 2 ^ m) 0 n).length = 0 := by
    intro n
    induction n with
    | zero => exact fun _ => rfl
    | succ n ih =>
      intro h
      rw [st n (by omega), ih (by omega), if_neg (fun z => by have := z.1; omega)]
  have h3 : (tlL g s (1 * 2 ^ m) 0 (3 * m + 3)).length = msF g s m 3 := by
    rw [st (3 * m + 2) (by omega), st (3 * m + 1) (by omega), st (3 * m) (by omega), h0 (3 * m) (Nat.le_refl _), show 3 * m / 3 = m by omega, show (3 * m + 1) / 3 = m by omega, show (3 * m + 2) / 3 = m by omega]
    simp only [true_and]
    rfl
  have up : ∀ j, 3 * m + 3 + j ≤ 24 → (tlL g s (1 * 2 ^ m) 0 (3 * m + 3 + j)).length = msF g s m 3 := by
    intro j
    induction j with
    | zero => exact fun _ => h3
    | succ j ih =>
      intro h
      rw [show 3 * m + 3 + (j + 1) = 3 * m + 3 + j + 1 from rfl, st _ (by omega), ih (by omega), if_neg (fun z => by have := z.1; omega), Nat.add_zero]
  have h24 := up (24 - (3 * m + 3)) (by omega)
  rwa [show 3 * m + 3 + (24 - (3 * m + 3)) = 24 by omega] at h24
theorem mbA_un (g : Nat → Nat) (m w s : Nat) : mbA g m w (3 * (s + 1)) = mbA g m w (3 * s) + (if mbD g w s (3 * m + 1 + 0) then 1 else 0) + (if mbD g w s (3 * m + 1 + 1) then 1 else 0) + (if mbD g w s (3 * m + 1 + 2) then 1 else 0) := by
  show mbA g m w (3 * s) + (if mbD g w (3 * s / 3) (3 * m + 1 + 3 * s % 3) then 1 else 0) + (if mbD g w ((3 * s + 1) / 3) (3 * m + 1 + (3 * s + 1) % 3) then 1 else 0) + (if mbD g w ((3 * s + 2) / 3) (3 * m + 1 + (3 * s + 2) % 3) then 1 else 0) = _
  rw [show 3 * s / 3 = s by omega, show (3 * s + 1) / 3 = s by omega, show (3 * s + 2) / 3 = s by omega, show 3 * s % 3 = 0 by omega, show (3 * s + 1) % 3 = 1 by omega, show (3 * s + 2) % 3 = 2 by omega]
theorem mbA_0 {g : Nat → Nat} {m w s : Nat} (hm : m < 8) (h : ∀ x, 1 ≤ x → x ≤ 24 → ¬ gSh g s x 0 = 1) : mbA g m w (3 * (s + 1)) = mbA g m w (3 * s) := by
  rw [mbA_un, if_neg (fun z => h _ (by omega) (by omega) z.1), if_neg (fun z => h _ (by omega) (by omega) z.1), if_neg (fun z => h _ (by omega) (by omega) z.1)]
  rfl
theorem mbA_2 (g : Nat → Nat) (m s : Nat) : mbA g m 2 (3 * (s + 1)) = mbA g m 2 (3 * s) + msF g s m 3 := by
  have it : ∀ x, (if mbD g 2 s x then 1 else 0) = (if gSh g s x 0 = 1 then 1 else 0) := fun x => by
    by_cases q : gSh g s x 0 = 1
    · rw [if_pos q, if_pos ⟨q, Or.inl rfl⟩]
    · rw [if_neg q, if_neg (fun z => q z.1)]
  have hms : msF g s m 3 = 0 + (if gSh g s (3 * m + 1 + 0) 0 = 1 then 1 else 0) + (if gSh g s (3 * m + 1 + 1) 0 = 1 then 1 else 0) + (if gSh g s (3 * m + 1 + 2) 0 = 1 then 1 else 0) := rfl
  rw [mbA_un, it, it, it, hms, Nat.zero_add, ← Nat.add_assoc, ← Nat.add_assoc]
theorem mbA_3 {g : Nat → Nat} {m w s : Nat} (hw : ¬ w = 2) : mbA g m w (3 * (s + 1)) + gdF g s m 3 = mbA g m w (3 * s) + msF g s m 3 := by
  have it : ∀ x, (if mbD g w s x then 1 else 0) + (if gSh g s x 0 = 1 ∧ stF g s x = 0 then 1 else 0) = (if gSh g s x 0 = 1 then 1 else 0) := fun x => by
    by_cases q : gSh g s x 0 = 1
    · by_cases q2 : stF g s x = 0
      · rw [if_neg (fun z => z.2.elim hw (fun y => y q2)), if_pos ⟨q, q2⟩, if_pos q]
      · rw [if_pos ⟨q, Or.inr q2⟩, if_neg (fun z => q2 z.2), if_pos q]
    · rw [if_neg (fun z => q z.1), if_neg (fun z => q z.1), if_neg q]
  have hms : msF g s m 3 = 0 + (if gSh g s (3 * m + 1 + 0) 0 = 1 then 1 else 0) + (if gSh g s (3 * m + 1 + 1) 0 = 1 then 1 else 0) + (if gSh g s (3 * m + 1 + 2) 0 = 1 then 1 else 0) := rfl
  have hgd : gdF g s m 3 = 0 + (if gSh g s (3 * m + 1 + 0) 0 = 1 ∧ stF g s (3 * m + 1 + 0) = 0 then 1 else 0) + (if gSh g s (3 * m + 1 + 1) 0 = 1 ∧ stF g s (3 * m + 1 + 1) = 0 then 1 else 0) + (if gSh g s (3 * m + 1 + 2) 0 = 1 ∧ stF g s (3 * m + 1 + 2) = 0 then 1 else 0) := rfl
  have i0 := it (3 * m + 1 + 0)
  have i1 := it (3 * m + 1 + 1)
  have i2 := it (3 * m + 1 + 2)
  rw [mbA_un, hgd, hms]
  omega
theorem p2_le : ∀ m, m ≤ 7 → 1 * 2 ^ m ≤ 128 := fun m h => by
  rw [Nat.one_mul]
  exact Nat.pow_le_pow_right (n := 2) (by decide) h
abbrev mX1_member : GM := (yX1_member, 9, (some .int), [], { frames := 30, cells := 900, slots := 90000, locals := 1700 }, 255)
theorem kX1_member : gCv cX1_member mX1_member 2 := ⟨q957, q958, q67, q959, ⟨by decide +kernel, by decide +kernel, by decide +kernel⟩, rfl⟩
theorem uX1_member : gCu cX1_member mX1_member 2 := ⟨q957, q67, q959, ⟨by decide +kernel, by decide +kernel, by decide +kernel⟩, rfl⟩
set_option maxHeartbeats 400000 in
theorem ctX1_member {E : GE} {h : AH} {v : Nat} {L9 : List Nat} (M : TW) (m9 : Nat) (w9 : Nat) (hV : VO E M v L9 h) (hW : vW M) (hm9 : m9 < 4294967296) (hw9 : w9 < 4294967296)  : Ct E cX1_member mX1_member [.ref v, .int (nI m9), .int (nI w9)] (h) (pN fun r h' => xc_member M m9 w9 = 0 ∧ r = xv_member M m9 w9 ∧ Fr tP h h') (fun C _ h' => cX ["java/lang/IndexOutOfBoundsException", "java/lang/IllegalArgumentException"] C (xc_member M m9 w9) ∧ Fr tP h h') := by
  refine g_enter (own := "SecretVault") [some (.ref v), some (.int (nI m9)), some (.int (nI w9)), none, none, none, none, none, none] (by decide +kernel) rfl rfl (Nat.le_of_ble_eq_true rfl) rfl rfl (fun X => ?_)
  obtain ⟨w, b, sv, hv, ⟨aw, ap, az, ad, fw, fp, fz, x1, x2, x3, x4, x5, x6, x7, x8⟩, hsv, hsb, hlen, hch⟩ := id hV
  have K : m9 ≤ 7 → 2 ≤ w9 → w9 ≤ 3 → ∀ n y (hq : AH) k nn l7 l8, n + y = 4 → Fr tP h hq → k ≤ 10 + 25 * y → nn ≤ 100 + 1539 * y → V E cX1_member "SecretVault" mX1_member (pN fun r h' => xc_member M m9 w9 = 0 ∧ r = xv_member M m9 w9 ∧ Fr tP h h') (fun C _ h' => cX ["java/lang/IndexOutOfBoundsException", "java/lang/IllegalArgumentException"] C (xc_member M m9 w9) ∧ Fr tP h h') X (hq) k nn 71 [some (.ref v), some (.int (nI m9)), some (.int (nI w9)), some (.int (nI (mbA (M 1) m9 w9 (3 * y)))), some (.ref az), some (.int (nI 4)), some (.int (nI y)), l7, l8] [] := by
    intro hm7 hw2 hw3 n
    induction n with
    | zero =>
      intro y hq k nn l7 l8 hn0 hF hk hnn
      obtain rfl : y = 4 := by omega
      refine g_iload6 dX1_member_71 ?_
      refine g_iload5 dX1_member_73 ?_
      first | refine g_icmpN_ge (tgt := 133) dX1_member_75 (by decide) (by omega) (by omega) (fun c_75 => ?_) (fun c_75 => ?_) | refine g_icmp_ge (tgt := 133) dX1_member_75 (by decide) (fun c_75 => ?_) (fun c_75 => ?_)
      · refine g_iload3 dX1_member_133 ?_
        exact g_iret (hk := by show _ ≤ 900; omega) (hn := by show _ ≤ 90000; omega) dX1_member_134 rfl ⟨_, rfl, (by unfold xc_member; rw [if_neg (by omega), if_neg (by omega)]), (by unfold xv_member; rw [if_neg (by omega), if_neg (by omega)]), hF⟩
      · omega
    | succ n ih =>
      intro y hq k nn l7 l8 hn0 hF hk hnn
      have hz6 := hF _ _ _ x6 (by decide)
      have hsl := hW.s4 y (by omega)
      have hp2 := p2_le m9 hm7
      have hg3 := gdF_le (M 1) y m9 3
      have hg4 := gdF_ms (M 1) y m9 3
      rcases x7 y (by omega) with ⟨g1, a, z2, hse0⟩ | ⟨g1, z2⟩
      · have hse := hse0.fr hF (fun t ht => by omega) (by decide) (by decide)
        refine g_iload6 dX1_member_71 ?_
        refine g_iload5 dX1_member_73 ?_
        first | refine g_icmpN_ge (tgt := 133) dX1_member_75 (by decide) (by omega) (by omega) (fun c_75 => ?_) (fun c_75 => ?_) | refine g_icmp_ge (tgt := 133) dX1_member_75 (by decide) (fun c_75 => ?_) (fun c_75 => ?_)
        · omega
        · first | refine g_aload4 dX1_member_78 ?_ | refine g_aloadQ4 dX1_member_78 ?_ | refine g_aloadN4 dX1_member_78 ?_
          refine g_iload6 dX1_member_80 ?_
          refine g_aald (by first | assumption | exact g_up_self _ _ _ | (refine g_upf ?_ ?_ <;> assumption) | (refine g_upt ?_ ?_ (by decide) <;> assumption)) rfl (by omega) (by omega) dX1_member_82 ?_
          first | refine g_astore7 dX1_member_83 (by decide) ?_ | refine g_astoreQ7 dX1_member_83 (by decide) ?_ | refine g_astoreN7 dX1_member_83 (by decide) ?_
          first | refine g_aload7 dX1_member_85 ?_ | refine g_aloadQ7 dX1_member_85 ?_ | refine g_aloadN7 dX1_member_85 ?_
          rw [z2]
          refine g_ifnullR dX1_member_87 ?_
          first | refine g_aload7 dX1_member_90 ?_ | refine g_aloadQ7 dX1_member_90 ?_ | refine g_aloadN7 dX1_member_90 ?_
          refine g_iconst (nI 1) dX1_member_92 (by decide) ?_
          refine g_iload1 dX1_member_93 ?_
          refine g_ishlN dX1_member_94 (by omega) (by omega) ?_
          refine g_callVR (ctX5_sharesOf 1000 _ hse hsl g1 (by have := p2_le m9 hm7; omega) (by omega) (by decide)) kX5_sharesOf q960 hse.rv (by decide) ⟨by show k + 25 ≤ 900; omega, by show nn + 1539 ≤ 90000; omega⟩ rfl (Nat.le_of_ble_eq_true rfl) dX1_member_95 k_x (k_r (fun r_95 h_95 p_95 => ?_))
          obtain ⟨hp9, f_95⟩ := p_95
          refine V.wide (k' := k + 25) (n' := nn + 1539) (Nat.le_refl _) (Nat.le_refl _) ?_
          have hse2 := hse.fr f_95 (fun t ht => by omega) (by decide) (by decide)
          have hl9 := tlL_m (M 1) y m9 (by omega)
          have hx6 := f_95 _ _ _ hz6 (by decide)
          refine g_callF (ctJ21_size _ hp9.li) uJ21_size q1017 q1020 ⟨q1019, q1018, q1023, q1021, q994⟩ ⟨⟨by decide, by decide⟩, rfl⟩ (LI.at hp9.li).choose_spec rfl (by decide) ⟨by show k + 25 + 0 ≤ 900; omega, by show nn + 1539 + 0 ≤ 90000; omega⟩ rfl (Nat.le_of_ble_eq_true rfl) dX1_member_98 k_x (k_n (fun r_98 h_98 p_98 => ?_))
          obtain ⟨e98, z_98⟩ := p_98
          have e98 := e98.trans (hp9.choose_spec.1.trans hl9)
          subst e98
          rw [z_98]
          refine V.wide (k' := k + 25) (n' := nn + 1539) (Nat.le_refl _) (Nat.le_refl _) ?_
          refine g_istore8 dX1_member_103 (by decide) ?_
          refine g_iload3 dX1_member_105 ?_
          refine g_iload2 dX1_member_106 ?_
          refine g_iconst (nI 2) dX1_member_107 (by decide) ?_
          first | refine g_icmpN_ne (tgt := 116) dX1_member_108 (by decide) (by omega) (by omega) (fun c_108 => ?_) (fun c_108 => ?_) | refine g_icmpU_ne (tgt := 116) dX1_member_108 (by decide) (by omega) (by omega) (fun c_108 => ?_) (fun c_108 => ?_) | refine g_icmp_ne (tgt := 116) dX1_member_108 (by decide) (fun c_108 => ?_) (fun c_108 => ?_)
          · have e9 := mbA_3 (g := M 1) (m := m9) (s := y) c_108
            refine g_iload8 dX1_member_116 ?_
            first | refine g_aload7 dX1_member_118 ?_ | refine g_aloadQ7 dX1_member_118 ?_ | refine g_aloadN7 dX1_member_118 ?_
            refine g_iload1 dX1_member_120 ?_
            refine g_callVR (ctX5_goodOf m9 hse2 hsl g1 hm7) kX5_goodOf q1025 hse2.rv (by decide) ⟨by show k + 25 + 0 ≤ 900; omega, by show nn + 1539 + 0 ≤ 90000; omega⟩ rfl (Nat.le_of_ble_eq_true rfl) dX1_member_121 k_x (k_n (fun r_121 h_121 p_121 => ?_))
            obtain ⟨rfl, z_121⟩ := p_121
            rw [z_121]
            refine V.wide (k' := k + 25) (n' := nn + 1539) (Nat.le_refl _) (Nat.le_refl _) ?_
            first | refine g_isubN dX1_member_124 (by omega) ?_ | refine g_isub dX1_member_124 ?_
            first | refine g_iaddN dX1_member_125 ?_ | refine g_iadd dX1_member_125 ?_
            refine g_istore3 dX1_member_126 (by decide) ?_
            first | refine g_iincN6 1 dX1_member_127 (by decide) (by decide) ?_ | refine g_iinc6 _ dX1_member_127 rfl (by decide) ?_
            refine g_goto (tgt := 71) dX1_member_130 (by decide) ?_
            first | (rw [show mbA (M 1) m9 w9 (3 * y) + msF (M 1) y m9 3 = mbA (M 1) m9 w9 (3 * (y + 1)) from (by subst c_108; exact e9.symm)]; exact ih (y + 1) _ _ _ _ _ (by omega) (hF.tr (f_95.mono (fun u z => by omega))) (by omega) (by omega)) | (rw [show mbA (M 1) m9 w9 (3 * y) + (msF (M 1) y m9 3 - gdF (M 1) y m9 3) = mbA (M 1) m9 w9 (3 * (y + 1)) by omega]; exact ih (y + 1) _ _ _ _ _ (by omega) (hF.tr (f_95.mono (fun u z => by omega))) (by omega) (by omega))
          · have e9 := mbA_2 (M 1) m9 y
            refine g_iload8 dX1_member_111 ?_
            refine g_goto (tgt := 125) dX1_member_113 (by decide) ?_
            first | refine g_iaddN dX1_member_125 ?_ | refine g_iadd dX1_member_125 ?_
            refine g_istore3 dX1_member_126 (by decide) ?_
            first | refine g_iincN6 1 dX1_member_127 (by decide) (by decide) ?_ | refine g_iinc6 _ dX1_member_127 rfl (by decide) ?_
            refine g_goto (tgt := 71) dX1_member_130 (by decide) ?_
            first | (rw [show mbA (M 1) m9 w9 (3 * y) + msF (M 1) y m9 3 = mbA (M 1) m9 w9 (3 * (y + 1)) from (by subst c_108; exact e9.symm)]; exact ih (y + 1) _ _ _ _ _ (by omega) (hF.tr (f_95.mono (fun u z => by omega))) (by omega) (by omega)) | (rw [show mbA (M 1) m9 w9 (3 * y) + (msF (M 1) y m9 3 - gdF (M 1) y m9 3) = mbA (M 1) m9 w9 (3 * (y + 1)) by omega]; exact ih (y + 1) _ _ _ _ _ (by omega) (hF.tr (f_95.mono (fun u z => by omega))) (by omega) (by omega))
      · have e9 := mbA_0 (g := M 1) (m := m9) (w := w9) (s := y) (by omega) (fun x x1 x2 z => by have := (hsl.2.2.2.2.2.2 x x1 x2).1; have := hsl.1; omega)
        refine g_iload6 dX1_member_71 ?_
        refine g_iload5 dX1_member_73 ?_
        first | refine g_icmpN_ge (tgt := 133) dX1_member_75 (by decide) (by omega) (by omega) (fun c_75 => ?_) (fun c_75 => ?_) | refine g_icmp_ge (tgt := 133) dX1_member_75 (by decide) (fun c_75 => ?_) (fun c_75 => ?_)
        · omega
        · first | refine g_aload4 dX1_member_78 ?_ | refine g_aloadQ4 dX1_member_78 ?_ | refine g_aloadN4 dX1_member_78 ?_
          refine g_iload6 dX1_member_80 ?_
          refine g_aald (by first | assumption | exact g_up_self _ _ _ | (refine g_upf ?_ ?_ <;> assumption) | (refine g_upt ?_ ?_ (by decide) <;> assumption)) rfl (by omega) (by omega) dX1_member_82 ?_
          first | refine g_astore7 dX1_member_83 (by decide) ?_ | refine g_astoreQ7 dX1_member_83 (by decide) ?_ | refine g_astoreN7 dX1_member_83 (by decide) ?_
          first | refine g_aload7 dX1_member_85 ?_ | refine g_aloadQ7 dX1_member_85 ?_ | refine g_aloadN7 dX1_member_85 ?_
          rw [z2]
          refine g_ifnullN (tgt := 127) dX1_member_87 (by decide) ?_
          first | refine g_iincN6 1 dX1_member_127 (by decide) (by decide) ?_ | refine g_iinc6 _ dX1_member_127 rfl (by decide) ?_
          refine g_goto (tgt := 71) dX1_member_130 (by decide) ?_
          rw [← e9]
          exact ih (y + 1) _ _ _ _ _ (by omega) hF (by omega) (by omega)
  refine g_iload1 dX1_member_0 ?_
  refine g_callS (ctX1_requireMember m9 (by omega)) kX1_requireMember q914 (by decide) ⟨Nat.le_of_ble_eq_true rfl, Nat.le_of_ble_eq_true rfl⟩ rfl (Nat.le_of_ble_eq_true rfl) dX1_member_1 (fun C_ q_ h2_ px => by obtain ⟨rfl, c_1, rfl⟩ := px; exact gx_out0 rfl ⟨(by unfold cX xc_member; (repeat' split) <;> first | exact ⟨Nat.zero_lt_succ _, rfl⟩ | (exfalso; omega)), Fr.rf⟩ (Nat.le_of_ble_eq_true rfl) (Nat.le_of_ble_eq_true rfl)) (k_v (fun h_1 p_1 => ?_))
  obtain ⟨i_1, z_1⟩ := p_1
  rw [z_1]
  refine g_iload2 dX1_member_4 ?_
  refine g_iconst (nI 0) dX1_member_5 (by decide) ?_
  refine g_iconst (nI 3) dX1_member_6 (by decide) ?_
  refine g_callS (ctX1_in w9 0 3 (by omega) (by omega) (by omega)) kX1_in q935 (by decide) ⟨Nat.le_of_ble_eq_true rfl, Nat.le_of_ble_eq_true rfl⟩ rfl (Nat.le_of_ble_eq_true rfl) dX1_member_7 k_x (k_n (fun r_7 h_7 p_7 => ?_))
  obtain ⟨b_7, i_7, z_7⟩ := p_7
  rw [z_7]
  refine g_callS (ctX1_require _ (by omega)) kX1_require q938 (by decide) ⟨Nat.le_of_ble_eq_true rfl, Nat.le_of_ble_eq_true rfl⟩ rfl (Nat.le_of_ble_eq_true rfl) dX1_member_10 (fun C_ q_ h2_ px => by obtain ⟨rfl, c_10, rfl⟩ := px; exact gx_out0 rfl ⟨(by unfold cX xc_member; (repeat' split) <;> first | exact ⟨Nat.zero_lt_succ _, rfl⟩ | (exfalso; omega)), Fr.rf⟩ (Nat.le_of_ble_eq_true rfl) (Nat.le_of_ble_eq_true rfl)) (k_v (fun h_10 p_10 => ?_))
  obtain ⟨b_10, z_10⟩ := p_10
  rw [z_10]
  refine g_iload2 dX1_member_13 ?_
  refine g_iconst (nI 2) dX1_member_14 (by decide) ?_
  first | refine g_icmpN_ge (tgt := 52) dX1_member_15 (by decide) (by omega) (by omega) (fun c_15 => ?_) (fun c_15 => ?_) | refine g_icmp_ge (tgt := 52) dX1_member_15 (by decide) (fun c_15 => ?_) (fun c_15 => ?_)
  · refine g_iconst (nI 0) dX1_member_52 (by decide) ?_
    refine g_istore3 dX1_member_53 (by decide) ?_
    first | refine g_aload0 dX1_member_54 ?_ | refine g_aloadQ0 dX1_member_54 ?_ | refine g_aloadN0 dX1_member_54 ?_
    refine g_get (k0 := 0) (by first | assumption | exact g_up_self _ _ _ | (refine g_upf ?_ ?_ <;> assumption) | (refine g_upt ?_ ?_ (by decide) <;> assumption)) in_X1 q577 rfl (by decide) rfl dX1_member_55 ?_
    refine g_getN (k0 := 2) (by first | assumption | exact g_up_self _ _ _ | (refine g_upf ?_ ?_ <;> assumption) | (refine g_upt ?_ ?_ (by decide) <;> assumption)) in_X2 q176 rfl (by decide) rfl dX1_member_58 ?_
    first | refine g_astore4 dX1_member_61 (by decide) ?_ | refine g_astoreQ4 dX1_member_61 (by decide) ?_ | refine g_astoreN4 dX1_member_61 (by decide) ?_
    first | refine g_aload4 dX1_member_63 ?_ | refine g_aloadQ4 dX1_member_63 ?_ | refine g_aloadN4 dX1_member_63 ?_
    refine g_alen (by first | assumption | exact g_up_self _ _ _ | (refine g_upf ?_ ?_ <;> assumption) | (refine g_upt ?_ ?_ (by decide) <;> assumption)) (by first | exact Or.inl ⟨_, rfl⟩ | exact Or.inr (Or.inr (Or.inl ⟨_, rfl⟩)) | exact Or.inr (Or.inr (Or.inr (Or.inl ⟨_, rfl⟩))) | exact Or.inr (Or.inr (Or.inr (Or.inr (Or.inr ⟨_, _, by decide, by decide, rfl⟩))))) rfl dX1_member_65 ?_
    refine g_istore5 dX1_member_66 (by decide) ?_
    refine g_iconst (nI 0) dX1_member_68 (by decide) ?_
    refine g_istore6 dX1_member_69 (by decide) ?_
    refine V.wide (k' := 10) (n' := 100) (by decide) (by decide) ?_
    exact K (by omega) (by omega) (by omega) 4 0 h _ _ _ _ (by omega) Fr.rf (by omega) (by omega)
  · refine g_iload2 dX1_member_18 ?_
    first | refine g_ifN_ne (tgt := 34) dX1_member_19 (by decide) (by omega) (fun c_19 => ?_) (fun c_19 => ?_) | refine g_if_ne (tgt := 34) dX1_member_19 (by decide) (fun c_19 => ?_) (fun c_19 => ?_)
    · first | refine g_aload0 dX1_member_34 ?_ | refine g_aloadQ0 dX1_member_34 ?_ | refine g_aloadN0 dX1_member_34 ?_
      refine g_get (k0 := 0) (by first | assumption | exact g_up_self _ _ _ | (refine g_upf ?_ ?_ <;> assumption) | (refine g_upt ?_ ?_ (by decide) <;> assumption)) in_X1 q577 rfl (by decide) rfl dX1_member_35 ?_
      refine g_getN (k0 := 1) (by first | assumption | exact g_up_self _ _ _ | (refine g_upf ?_ ?_ <;> assumption) | (refine g_upt ?_ ?_ (by decide) <;> assumption)) in_X2 q174 rfl (by decide) rfl dX1_member_38 ?_
      refine g_iload1 dX1_member_41 ?_
      have e1 := x5 m9 (by omega)
      have e2 := hW.1.2.2.1 m9 (by omega)
      refine g_zaldN x4 (by omega) (by omega) dX1_member_42 ?_
      rw [e1]
      first | refine g_ifN_eq (tgt := 50) dX1_member_43 (by decide) (by omega) (fun c_43 => ?_) (fun c_43 => ?_) | refine g_if_eq (tgt := 50) dX1_member_43 (by decide) (fun c_43 => ?_) (fun c_43 => ?_)
      · refine g_iconst (nI 0) dX1_member_50 (by decide) ?_
        exact g_iret dX1_member_51 rfl ⟨_, rfl, (by unfold xc_member; rw [if_neg (by omega), if_neg (by omega)]), (by unfold xv_member; first | rw [if_pos (by omega)] | (rw [if_neg (by omega), if_pos (by omega)]; omega)), Fr.rf⟩
      · refine g_iconst (nI 1) dX1_member_46 (by decide) ?_
        refine g_goto (tgt := 51) dX1_member_47 (by decide) ?_
        exact g_iret dX1_member_51 rfl ⟨_, rfl, (by unfold xc_member; rw [if_neg (by omega), if_neg (by omega)]), (by unfold xv_member; first | rw [if_pos (by omega)] | (rw [if_neg (by omega), if_pos (by omega)]; omega)), Fr.rf⟩
    · first | refine g_aload0 dX1_member_22 ?_ | refine g_aloadQ0 dX1_member_22 ?_ | refine g_aloadN0 dX1_member_22 ?_
      refine g_get (k0 := 0) (by first | assumption | exact g_up_self _ _ _ | (refine g_upf ?_ ?_ <;> assumption) | (refine g_upt ?_ ?_ (by decide) <;> assumption)) in_X1 q577 rfl (by decide) rfl dX1_member_23 ?_
      refine g_getN (k0 := 0) (by first | assumption | exact g_up_self _ _ _ | (refine g_upf ?_ ?_ <;> assumption) | (refine g_upt ?_ ?_ (by decide) <;> assumption)) in_X2 q171 rfl (by decide) rfl dX1_member_26 ?_
      refine g_iload1 dX1_member_29 ?_
      have e1 := x3 m9 (by omega)
      have e2 := hW.1.2.1 m9 (by omega)
      refine g_ialdN x2 (by omega) (by omega) dX1_member_30 ?_
      rw [e1]
      refine g_goto (tgt := 51) dX1_member_31 (by decide) ?_
      exact g_iret dX1_member_51 rfl ⟨_, rfl, (by unfold xc_member; rw [if_neg (by omega), if_neg (by omega)]), (by unfold xv_member; first | rw [if_pos (by omega)] | (rw [if_neg (by omega), if_pos (by omega)]; omega)), Fr.rf⟩
