/-! THE TWIN: policies -/
set_option maxRecDepth 100000
/-- a slot's policy as a text -/
def pT (g : Nat → Nat) (s : Nat) : Nat → Nat := fun k => gOf g s (12 + k)
theorem nI_dm1 {d : Nat} (h : 0 < d) : nI (d + 4294967295) = nI (d - 1) := by
  rw [← nI_mod (d + 4294967295), ← nI_mod (d - 1)]
  rw [show (d + 4294967295) % 4294967296 = (d - 1) % 4294967296 by omega]

abbrev mX3_next : GM := (yX3_next, 8, (some .int), [], { frames := 1, cells := 0, slots := 0, locals := 22 }, 255)
theorem kX3_next : gCv cX3_next mX3_next 4 := ⟨q2321, qs47, q90, q2322, ⟨by decide +kernel, by decide +kernel, by decide +kernel⟩, rfl⟩
set_option maxHeartbeats 400000 in
theorem ctX3_next {E : GE} {h : AH} {A : Nat → Nat} (hA : twA A) (M : TW) (s f l c : Nat) (hB : twB M) (hs : s < 4) (hl : f + l ≤ 40) (hc : c < 2147483648) (hbal : balP (pT (M 1) s) l f 0) : Ct E cX3_next mX3_next [.ref (A 0), .int (nI s), .int (nI f), .int (nI (f + l)), .int (nI c)] (twO E A M h) (pN fun r h' => r = (nxF (pT (M 1) s) c l f 0) ∧ h' = twO E A M h) noX := by
  refine g_enter (own := "SecretVaultModel") [some (.ref (A 0)), some (.int (nI s)), some (.int (nI f)), some (.int (nI (f + l))), some (.int (nI c)), none, none, none] (by decide +kernel) rfl rfl (Nat.le_of_ble_eq_true rfl) rfl rfl (fun X => ?_)
  have L : ∀ u k d, k + u = f + l → d ≤ k → balP (pT (M 1) s) u k d → nxF (pT (M 1) s) c u k d = nxF (pT (M 1) s) c l f 0 → ∀ o, V E cX3_next "SecretVaultModel" mX3_next (pN fun r h' => r = (nxF (pT (M 1) s) c l f 0) ∧ h' = twO E A M h) noX X (twO E A M h) 0 0 6 [some (.ref (A 0)), some (.int (nI (s))), some (.int (nI (f))), some (.int (nI (f + l))), some (.int (nI (c))), some (.int (nI (d))), some (.int (nI (k))), o] [] := by
    intro u
    induction u with
    | zero =>
      intro k d hk hd hb he o
      refine g_iload6 dX3_next_6 ?_
      refine g_iload3 dX3_next_8 ?_
      first | refine g_icmpN_ge (tgt := 73) dX3_next_9 (by decide) (by omega) (by omega) (fun c_9 => ?_) (fun c_9 => ?_) | refine g_icmp_ge (tgt := 73) dX3_next_9 (by decide) (fun c_9 => ?_) (fun c_9 => ?_)
      · refine g_iload3 dX3_next_73 ?_
        exact g_iret dX3_next_74 rfl ⟨_, rfl, by rw [← he]; show f + l = k; omega, rfl⟩
      · omega
    | succ u ih =>
      intro k d hk hd hb he o
      obtain ⟨hb1, hb2⟩ := hb
      have htb : pT (M 1) s k < 4294967296 := hB _ _
      refine g_iload6 dX3_next_6 ?_
      refine g_iload3 dX3_next_8 ?_
      first | refine g_icmpN_ge (tgt := 73) dX3_next_9 (by decide) (by first | omega | exact hB _ _) (by first | omega | exact hB _ _) (fun c_9 => ?_) (fun c_9 => ?_) | refine g_icmp_ge (tgt := 73) dX3_next_9 (by decide) (fun c_9 => ?_) (fun c_9 => ?_)
      · omega
      · first | refine g_aload0 dX3_next_12 ?_ | refine g_aloadQ0 dX3_next_12 ?_ | refine g_aloadN0 dX3_next_12 ?_
        refine g_iload1 dX3_next_13 ?_
        refine g_bipush (nI 12) dX3_next_14 (by decide) ?_
        refine g_iload6 dX3_next_16 ?_
        first | refine g_iaddN dX3_next_18 ?_ | refine g_iadd dX3_next_18 ?_
        refine g_V2n0 (ctX3_of hA _ _ _ (by omega) (by omega)) kX3_of q2220 tw_0 rfl rfl (by decide) ⟨rfl, rfl⟩ ⟨Nat.zero_le _, Nat.zero_le _⟩ (Nat.le_of_ble_eq_true rfl) dX3_next_19 (fun r_19 h_19 p_19 => ?_)
        obtain ⟨rfl, rfl⟩ := p_19
        rw [show gOf (M 1) s (12 + k) = pT (M 1) s k from rfl]
        refine g_istore7 dX3_next_22 (by decide) ?_
        refine g_iload5 dX3_next_24 ?_
        first | refine g_ifN_ne (tgt := 39) dX3_next_26 (by decide) (by first | omega | exact hB _ _) (fun c_26 => ?_) (fun c_26 => ?_) | refine g_if_ne (tgt := 39) dX3_next_26 (by decide) (fun c_26 => ?_) (fun c_26 => ?_)
        · refine g_iload5 dX3_next_39 ?_
          refine g_iload7 dX3_next_41 ?_
          refine g_bipush (nI 40) dX3_next_43 (by decide) ?_
          first | refine g_icmpN_ne (tgt := 52) dX3_next_45 (by decide) (by first | omega | exact hB _ _) (by first | omega | exact hB _ _) (fun c_45 => ?_) (fun c_45 => ?_) | refine g_icmpU_ne (tgt := 52) dX3_next_45 (by decide) (by first | omega | exact hB _ _) (by first | omega | exact hB _ _) (fun c_45 => ?_) (fun c_45 => ?_) | refine g_icmp_ne (tgt := 52) dX3_next_45 (by decide) (fun c_45 => ?_) (fun c_45 => ?_)
          · refine g_iload7 dX3_next_52 ?_
            refine g_bipush (nI 41) dX3_next_54 (by decide) ?_
            first | refine g_icmpN_ne (tgt := 63) dX3_next_56 (by decide) (by first | omega | exact hB _ _) (by first | omega | exact hB _ _) (fun c_56 => ?_) (fun c_56 => ?_) | refine g_icmpU_ne (tgt := 63) dX3_next_56 (by decide) (by first | omega | exact hB _ _) (by first | omega | exact hB _ _) (fun c_56 => ?_) (fun c_56 => ?_) | refine g_icmp_ne (tgt := 63) dX3_next_56 (by decide) (fun c_56 => ?_) (fun c_56 => ?_)
            · refine g_iconst (nI 0) dX3_next_63 (by decide) ?_
              first | refine g_iaddN dX3_next_64 ?_ | refine g_iadd dX3_next_64 ?_
              first
                | (have es : stp d (pT (M 1) s k) = d + 1 := by unfold stp; rw [if_pos (by omega)])
                | (have es : stp d (pT (M 1) s k) = d - 1 := by unfold stp; rw [if_neg (by omega), if_pos (by omega)])
                | (have es : stp d (pT (M 1) s k) = d := stp_0 (by omega) (by omega))
              refine g_istore5 dX3_next_65 (by decide) ?_
              first | refine g_iincN6 1 dX3_next_67 (by decide) (by decide) ?_ | refine g_iinc6 _ dX3_next_67 rfl (by decide) ?_
              refine g_goto (tgt := 6) dX3_next_70 (by decide) ?_
              rw [nxF_s (by omega), es] at he
              rw [es] at hb2
              exact ih (k + 1) _ (by omega) (by omega) hb2 he _
            · refine g_iconst (nI 4294967295) dX3_next_59 (by decide) ?_
              refine g_goto (tgt := 64) dX3_next_60 (by decide) ?_
              first | refine g_iaddN dX3_next_64 ?_ | refine g_iadd dX3_next_64 ?_
              first
                | (have es : stp d (pT (M 1) s k) = d + 1 := by unfold stp; rw [if_pos (by omega)])
                | (have es : stp d (pT (M 1) s k) = d - 1 := by unfold stp; rw [if_neg (by omega), if_pos (by omega)])
                | (have es : stp d (pT (M 1) s k) = d := stp_0 (by omega) (by omega))
              refine g_top (congrArg Value.int (nI_dm1 (by omega))) ?_
              refine g_istore5 dX3_next_65 (by decide) ?_
              first | refine g_iincN6 1 dX3_next_67 (by decide) (by decide) ?_ | refine g_iinc6 _ dX3_next_67 rfl (by decide) ?_
              refine g_goto (tgt := 6) dX3_next_70 (by decide) ?_
              rw [nxF_s (by omega), es] at he
              rw [es] at hb2
              exact ih (k + 1) _ (by omega) (by omega) hb2 he _
          · refine g_iconst (nI 1) dX3_next_48 (by decide) ?_
            refine g_goto (tgt := 64) dX3_next_49 (by decide) ?_
            first | refine g_iaddN dX3_next_64 ?_ | refine g_iadd dX3_next_64 ?_
            first
              | (have es : stp d (pT (M 1) s k) = d + 1 := by unfold stp; rw [if_pos (by omega)])
              | (have es : stp d (pT (M 1) s k) = d - 1 := by unfold stp; rw [if_neg (by omega), if_pos (by omega)])
              | (have es : stp d (pT (M 1) s k) = d := stp_0 (by omega) (by omega))
            refine g_istore5 dX3_next_65 (by decide) ?_
            first | refine g_iincN6 1 dX3_next_67 (by decide) (by decide) ?_ | refine g_iinc6 _ dX3_next_67 rfl (by decide) ?_
            refine g_goto (tgt := 6) dX3_next_70 (by decide) ?_
            rw [nxF_s (by omega), es] at he
            rw [es] at hb2
            exact ih (k + 1) _ (by omega) (by omega) hb2 he _
        · refine g_iload7 dX3_next_29 ?_
          refine g_iload4 dX3_next_31 ?_
          first | refine g_icmpN_ne (tgt := 39) dX3_next_33 (by decide) (by first | omega | exact hB _ _) (by first | omega | exact hB _ _) (fun c_33 => ?_) (fun c_33 => ?_) | refine g_icmpU_ne (tgt := 39) dX3_next_33 (by decide) (by first | omega | exact hB _ _) (by first | omega | exact hB _ _) (fun c_33 => ?_) (fun c_33 => ?_) | refine g_icmp_ne (tgt := 39) dX3_next_33 (by decide) (fun c_33 => ?_) (fun c_33 => ?_)
          · refine g_iload5 dX3_next_39 ?_
            refine g_iload7 dX3_next_41 ?_
            refine g_bipush (nI 40) dX3_next_43 (by decide) ?_
            first | refine g_icmpN_ne (tgt := 52) dX3_next_45 (by decide) (by first | omega | exact hB _ _) (by first | omega | exact hB _ _) (fun c_45 => ?_) (fun c_45 => ?_) | refine g_icmpU_ne (tgt := 52) dX3_next_45 (by decide) (by first | omega | exact hB _ _) (by first | omega | exact hB _ _) (fun c_45 => ?_) (fun c_45 => ?_) | refine g_icmp_ne (tgt := 52) dX3_next_45 (by decide) (fun c_45 => ?_) (fun c_45 => ?_)
            · refine g_iload7 dX3_next_52 ?_
              refine g_bipush (nI 41) dX3_next_54 (by decide) ?_
              first | refine g_icmpN_ne (tgt := 63) dX3_next_56 (by decide) (by first | omega | exact hB _ _) (by first | omega | exact hB _ _) (fun c_56 => ?_) (fun c_56 => ?_) | refine g_icmpU_ne (tgt := 63) dX3_next_56 (by decide) (by first | omega | exact hB _ _) (by first | omega | exact hB _ _) (fun c_56 => ?_) (fun c_56 => ?_) | refine g_icmp_ne (tgt := 63) dX3_next_56 (by decide) (fun c_56 => ?_) (fun c_56 => ?_)
              · refine g_iconst (nI 0) dX3_next_63 (by decide) ?_
                first | refine g_iaddN dX3_next_64 ?_ | refine g_iadd dX3_next_64 ?_
                first
                  | (have es : stp d (pT (M 1) s k) = d + 1 := by unfold stp; rw [if_pos (by omega)])
                  | (have es : stp d (pT (M 1) s k) = d - 1 := by unfold stp; rw [if_neg (by omega), if_pos (by omega)])
                  | (have es : stp d (pT (M 1) s k) = d := stp_0 (by omega) (by omega))
                refine g_istore5 dX3_next_65 (by decide) ?_
                first | refine g_iincN6 1 dX3_next_67 (by decide) (by decide) ?_ | refine g_iinc6 _ dX3_next_67 rfl (by decide) ?_
                refine g_goto (tgt := 6) dX3_next_70 (by decide) ?_
                rw [nxF_s (by omega), es] at he
                rw [es] at hb2
                exact ih (k + 1) _ (by omega) (by omega) hb2 he _
              · exact absurd (hb1 (by omega)) (by omega)
            · refine g_iconst (nI 1) dX3_next_48 (by decide) ?_
              refine g_goto (tgt := 64) dX3_next_49 (by decide) ?_
              first | refine g_iaddN dX3_next_64 ?_ | refine g_iadd dX3_next_64 ?_
              first
                | (have es : stp d (pT (M 1) s k) = d + 1 := by unfold stp; rw [if_pos (by omega)])
                | (have es : stp d (pT (M 1) s k) = d - 1 := by unfold stp; rw [if_neg (by omega), if_pos (by omega)])
                | (have es : stp d (pT (M 1) s k) = d := stp_0 (by omega) (by omega))
              refine g_istore5 dX3_next_65 (by decide) ?_
              first | refine g_iincN6 1 dX3_next_67 (by decide) (by decide) ?_ | refine g_iinc6 _ dX3_next_67 rfl (by decide) ?_
              refine g_goto (tgt := 6) dX3_next_70 (by decide) ?_
              rw [nxF_s (by omega), es] at he
              rw [es] at hb2
              exact ih (k + 1) _ (by omega) (by omega) hb2 he _
          · refine g_iload6 dX3_next_36 ?_
            exact g_iret dX3_next_38 rfl ⟨_, rfl, by rw [← he, show d = 0 by omega, nxF_h (by omega)], rfl⟩
  refine g_iconst (nI 0) dX3_next_0 (by decide) ?_
  refine g_istore5 dX3_next_1 (by decide) ?_
  refine g_iload2 dX3_next_3 ?_
  refine g_istore6 dX3_next_4 (by decide) ?_
  exact L l f 0 rfl (by omega) hbal rfl _
abbrev mX3_isCount : GM := (yX3_isCount, 4, (some .boolean), [], { frames := 1, cells := 0, slots := 0, locals := 22 }, 255)
theorem kX3_isCount : gCv cX3_isCount mX3_isCount 3 := ⟨q2325, qs48, q90, q2326, ⟨by decide +kernel, by decide +kernel, by decide +kernel⟩, rfl⟩
set_option maxHeartbeats 400000 in
theorem ctX3_isCount {E : GE} {h : AH} {A : Nat → Nat} (hA : twA A) (M : TW) (s f e : Nat) (hB : twB M) (hs : s < 4) (hf : f ≤ 40) (he : e ≤ 41) : Ct E cX3_isCount mX3_isCount [.ref (A 0), .int (nI s), .int (nI f), .int (nI e)] (twO E A M h) (pN fun r h' => r < 2 ∧ (r = 1 ↔ f + 1 < e ∧ pT (M 1) s (f + 1) = 111) ∧ h' = twO E A M h) noX := by
  refine g_enter (own := "SecretVaultModel") [some (.ref (A 0)), some (.int (nI s)), some (.int (nI f)), some (.int (nI e))] (by decide +kernel) rfl rfl (Nat.le_of_ble_eq_true rfl) rfl rfl (fun X => ?_)
  refine g_iload2 dX3_isCount_0 ?_
  refine g_iconst (nI 1) dX3_isCount_1 (by decide) ?_
  first | refine g_iaddN dX3_isCount_2 ?_ | refine g_iadd dX3_isCount_2 ?_
  refine g_iload3 dX3_isCount_3 ?_
  first | refine g_icmpN_ge (tgt := 27) dX3_isCount_4 (by decide) (by first | omega | exact hB _ _) (by first | omega | exact hB _ _) (fun c_4 => ?_) (fun c_4 => ?_) | refine g_icmp_ge (tgt := 27) dX3_isCount_4 (by decide) (fun c_4 => ?_) (fun c_4 => ?_)
  · refine g_iconst (nI 0) dX3_isCount_27 (by decide) ?_
    exact g_zret dX3_isCount_28 rfl (nar_zb (by first | omega | exact hB _ _)) ⟨_, rfl, by omega, by omega, rfl⟩
  · first | refine g_aload0 dX3_isCount_7 ?_ | refine g_aloadQ0 dX3_isCount_7 ?_ | refine g_aloadN0 dX3_isCount_7 ?_
    refine g_iload1 dX3_isCount_8 ?_
    refine g_bipush (nI 12) dX3_isCount_9 (by decide) ?_
    refine g_iload2 dX3_isCount_11 ?_
    first | refine g_iaddN dX3_isCount_12 ?_ | refine g_iadd dX3_isCount_12 ?_
    refine g_iconst (nI 1) dX3_isCount_13 (by decide) ?_
    first | refine g_iaddN dX3_isCount_14 ?_ | refine g_iadd dX3_isCount_14 ?_
    refine g_V2n0 (ctX3_of hA _ _ _ (by omega) (by omega)) kX3_of q2220 tw_0 rfl rfl (by decide) ⟨rfl, rfl⟩ ⟨Nat.zero_le _, Nat.zero_le _⟩ (Nat.le_of_ble_eq_true rfl) dX3_isCount_15 (fun r_15 h_15 p_15 => ?_)
    obtain ⟨rfl, rfl⟩ := p_15
    rw [show gOf (M 1) s (12 + f + 1) = pT (M 1) s (f + 1) from rfl]
    have htb : pT (M 1) s (f + 1) < 4294967296 := hB _ _
    refine g_bipush (nI 111) dX3_isCount_18 (by decide) ?_
    first | refine g_icmpN_ne (tgt := 27) dX3_isCount_20 (by decide) (by first | omega | exact hB _ _) (by first | omega | exact hB _ _) (fun c_20 => ?_) (fun c_20 => ?_) | refine g_icmpU_ne (tgt := 27) dX3_isCount_20 (by decide) (by first | omega | exact hB _ _) (by first | omega | exact hB _ _) (fun c_20 => ?_) (fun c_20 => ?_) | refine g_icmp_ne (tgt := 27) dX3_isCount_20 (by decide) (fun c_20 => ?_) (fun c_20 => ?_)
    · refine g_iconst (nI 0) dX3_isCount_27 (by decide) ?_
      exact g_zret dX3_isCount_28 rfl (nar_zb (by first | omega | exact hB _ _)) ⟨_, rfl, by omega, by omega, rfl⟩
    · refine g_iconst (nI 1) dX3_isCount_23 (by decide) ?_
      refine g_goto (tgt := 28) dX3_isCount_24 (by decide) ?_
      exact g_zret dX3_isCount_28 rfl (nar_zb (by first | omega | exact hB _ _)) ⟨_, rfl, by omega, by omega, rfl⟩
theorem ctX3_nextE {E : GE} {h : AH} {A : Nat → Nat} (hA : twA A) (M : TW) (s f e l c : Nat) (hB : twB M) (hs : s < 4) (he : e = f + l) (hl : e ≤ 40) (hc : c < 2147483648) (hbal : balP (pT (M 1) s) l f 0) : Ct E cX3_next mX3_next [.ref (A 0), .int (nI s), .int (nI f), .int (nI e), .int (nI c)] (twO E A M h) (pN fun r h' => r = nxF (pT (M 1) s) c l f 0 ∧ h' = twO E A M h) noX := by
  subst he
  exact ctX3_next hA M s f l c hB hs hl hc hbal
theorem nI_sub {a b : Nat} (h : b ≤ a) : nI a - nI b = nI (a - b) := pk_sub h
abbrev mX3_holds (N : Nat) : GM := (yX3_holds, 11, (some .boolean), [], { frames := N + 5, cells := 0, slots := 0, locals := 60 * N + 200 }, 255)
theorem kX3_holds (N : Nat) : gCs cX3_holds (mX3_holds N) 5 := ⟨q2317, q90, q2318, (show gDs yX3_holds 5 from ⟨by decide +kernel, by decide +kernel, by decide +kernel⟩), rfl⟩
set_option maxHeartbeats 400000 in
theorem holds_some {E : GE} {A : Nat → Nat} (hA : twA A) (M : TW) (s x : Nat) (hB : twB M) (hs : s < 4) (hx : x < 2147483648) {h : AH} {X : GX} (N f e c : Nat) (o5 o6 : Option Value) (T : Nat) (hT2 : T < 1000) (he : e ≤ 40) (he5 : 5 ≤ e)
    (ih : ∀ (f e l : Nat) (L : List Att) (k : Nat), e = f + l → l ≤ N → e ≤ 40 → Seg (pT (M 1) s) k 0 f l L → Ct E cX3_holds (mX3_holds N) [.ref (A 0), .int (nI s), .int (nI f), .int (nI e), .int (nI x)] (twO E A M h) (pN fun r h' => r = aE (mkAny L) x ∧ h' = twO E A M h) noX)
    (hc : 49 ≤ c ∧ c ≤ 57) : ∀ (k a l n : Nat) (B : List Att) (o : Option Value), a + l + 1 = e → l ≤ N → n + cnt B x = T → Seg (pT (M 1) s) k 3 a l B → V E cX3_holds "SecretVaultModel" (mX3_holds (N + 1)) (pN fun r h' => r = (if c - 48 ≤ T then 1 else 0) ∧ h' = twO E A M h) noX X (twO E A M h) 0 0 172 [some (.ref (A 0)), some (.int (nI (s))), some (.int (nI (f))), some (.int (nI (e))), some (.int (nI (x))), o5, o6, some (.int (nI (c))), some (.int (nI (n))), some (.int (nI (a))), o] [] := by
  have X1 : ∀ o, V E cX3_holds "SecretVaultModel" (mX3_holds (N + 1)) (pN fun r h' => r = (if c - 48 ≤ T then 1 else 0) ∧ h' = twO E A M h) noX X (twO E A M h) 0 0 172 [some (.ref (A 0)), some (.int (nI (s))), some (.int (nI (f))), some (.int (nI (e))), some (.int (nI (x))), o5, o6, some (.int (nI (c))), some (.int (nI (T))), some (.int (nI (e))), o] [] := by
    intro o
    refine g_iload9 dX3_holds_172 ?_
    refine g_iload3 dX3_holds_174 ?_
    refine g_iconst (nI 1) dX3_holds_175 (by decide) ?_
    first | refine g_isubN dX3_holds_176 (by omega) ?_ | refine g_isub dX3_holds_176 ?_
    first | refine g_icmpN_ge (tgt := 227) dX3_holds_177 (by decide) (by omega) (by omega) (fun c_177 => ?_) (fun c_177 => ?_) | refine g_icmp_ge (tgt := 227) dX3_holds_177 (by decide) (fun c_177 => ?_) (fun c_177 => ?_)
    · refine g_iload8 dX3_holds_227 ?_
      refine g_iload7 dX3_holds_229 ?_
      refine g_bipush (nI 48) dX3_holds_231 (by decide) ?_
      first | refine g_isubN dX3_holds_233 (by omega) ?_ | refine g_isub dX3_holds_233 ?_
      first | refine g_icmpN_lt (tgt := 241) dX3_holds_234 (by decide) (by omega) (by omega) (fun c_234 => ?_) (fun c_234 => ?_) | refine g_icmp_lt (tgt := 241) dX3_holds_234 (by decide) (fun c_234 => ?_) (fun c_234 => ?_)
      · refine g_iconst (nI 0) dX3_holds_241 (by decide) ?_
        exact g_zret (hk := Nat.zero_le _) (hn := Nat.zero_le _) dX3_holds_242 rfl (nar_zb (by omega)) ⟨_, rfl, by first | exact (if_pos (by omega)).symm | exact (if_neg (by omega)).symm, rfl⟩
      · refine g_iconst (nI 1) dX3_holds_237 (by decide) ?_
        refine g_goto (tgt := 242) dX3_holds_238 (by decide) ?_
        exact g_zret (hk := Nat.zero_le _) (hn := Nat.zero_le _) dX3_holds_242 rfl (nar_zb (by omega)) ⟨_, rfl, by first | exact (if_pos (by omega)).symm | exact (if_neg (by omega)).symm, rfl⟩
    · omega
  intro k
  induction k with
  | zero => intro a l n B o _ _ _ h; exact h.elim
  | succ k ihk =>
    intro a l n B o hal hlN hT h
    rcases h with ⟨q, -⟩ | ⟨-, h⟩
    · exact absurd q (by decide)
    rcases h with ⟨B1, rfl, hsg⟩ | ⟨l1, l2, B1, L', rfl, rfl, hsg, ht, h5⟩
    · have hpos := hsg.pos
      have hle1 : e - 1 = a + l := by omega
      have hle2 : a + l = a + l := rfl
      have hbl : balP (pT (M 1) s) l a 0 := hsg.bal
      have hnx : nxF (pT (M 1) s) 44 l a 0 = a + l := hsg.next0 (Or.inr (Or.inl rfl)) (Or.inr (Or.inr ⟨rfl, rfl⟩))
      have h1 := le1_any hsg.le1 x
      have hv : aE (mkAny B1) x + 0 + n = T := by rw [← hT]; show _ = n + (aE (mkAny B1) x + 0); omega
      refine g_iload9 dX3_holds_172 ?_
      refine g_iload3 dX3_holds_174 ?_
      refine g_iconst (nI 1) dX3_holds_175 (by decide) ?_
      first | refine g_isubN dX3_holds_176 (by omega) ?_ | refine g_isub dX3_holds_176 ?_
      first | refine g_icmpN_ge (tgt := 227) dX3_holds_177 (by decide) (by omega) (by omega) (fun c_177 => ?_) (fun c_177 => ?_) | refine g_icmp_ge (tgt := 227) dX3_holds_177 (by decide) (fun c_177 => ?_) (fun c_177 => ?_)
      · omega
      · first | refine g_aload0 dX3_holds_180 ?_ | refine g_aloadQ0 dX3_holds_180 ?_ | refine g_aloadN0 dX3_holds_180 ?_
        refine g_iload1 dX3_holds_181 ?_
        refine g_iload9 dX3_holds_182 ?_
        refine g_iload3 dX3_holds_184 ?_
        refine g_iconst (nI 1) dX3_holds_185 (by decide) ?_
        first | refine g_isubN dX3_holds_186 (by omega) ?_ | refine g_isub dX3_holds_186 ?_
        refine g_bipush (nI 44) dX3_holds_187 (by decide) ?_
        refine g_V4n0 (ctX3_nextE hA _ _ _ _ _ _ hB (by omega) hle1 (by omega) (by omega) hbl) kX3_next q2319 tw_0 rfl rfl ⟨by show 1 + 1 ≤ (N + 1) + 5; omega, by show 8 + (8 + 11) + (22) ≤ 60 * (N + 1) + 200; omega⟩ ⟨rfl, rfl⟩ ⟨Nat.zero_le _, Nat.zero_le _⟩ (Nat.le_of_ble_eq_true rfl) dX3_holds_189 (fun r_189 h_189 p_189 => ?_)
        obtain ⟨hi_189, rfl⟩ := p_189
        rw [hnx] at hi_189
        subst hi_189
        refine g_istore10 dX3_holds_192 (show ¬ 10 = 255 + 1 by decide) ?_
        refine g_iload8 dX3_holds_194 ?_
        first | refine g_aload0 dX3_holds_196 ?_ | refine g_aloadQ0 dX3_holds_196 ?_ | refine g_aloadN0 dX3_holds_196 ?_
        refine g_iload1 dX3_holds_197 ?_
        refine g_iload9 dX3_holds_198 ?_
        refine g_iload10 dX3_holds_200 ?_
        refine g_iload4 dX3_holds_202 ?_
        refine g_S5n0 (ih _ _ _ _ _ hle2 (by omega) (by omega) hsg) (kX3_holds _) q2316 ⟨by show N + 5 + 1 ≤ (N + 1) + 5; omega, by show 8 + (11 + 11) + (60 * N + 200) ≤ 60 * (N + 1) + 200; omega⟩ ⟨rfl, rfl⟩ ⟨Nat.zero_le _, Nat.zero_le _⟩ (Nat.le_of_ble_eq_true rfl) dX3_holds_204 (fun r_204 h_204 p_204 => ?_)
        obtain ⟨rfl, rfl⟩ := p_204
        first | refine g_ifN_eq (tgt := 214) dX3_holds_207 (by decide) (by omega) (fun c_207 => ?_) (fun c_207 => ?_) | refine g_if_eq (tgt := 214) dX3_holds_207 (by decide) (fun c_207 => ?_) (fun c_207 => ?_)
        · refine g_iconst (nI 0) dX3_holds_214 (by decide) ?_
          first | refine g_iaddN dX3_holds_215 ?_ | refine g_iadd dX3_holds_215 ?_
          first | (have eT : n + 1 = T := by omega) | (have eT : n + 0 = T := by omega)
          rw [eT]
          refine g_istore8 dX3_holds_216 (show ¬ 8 = 255 + 1 by decide) ?_
          refine g_iload10 dX3_holds_218 ?_
          refine g_iconst (nI 1) dX3_holds_220 (by decide) ?_
          first | refine g_iaddN dX3_holds_221 ?_ | refine g_iadd dX3_holds_221 ?_
          refine g_istore9 dX3_holds_222 (show ¬ 9 = 255 + 1 by decide) ?_
          refine g_goto (tgt := 172) dX3_holds_224 (by decide) ?_
          rw [show a + l + 1 = e by omega]
          exact X1 _
        · refine g_iconst (nI 1) dX3_holds_210 (by decide) ?_
          refine g_goto (tgt := 215) dX3_holds_211 (by decide) ?_
          first | refine g_iaddN dX3_holds_215 ?_ | refine g_iadd dX3_holds_215 ?_
          first | (have eT : n + 1 = T := by omega) | (have eT : n + 0 = T := by omega)
          rw [eT]
          refine g_istore8 dX3_holds_216 (show ¬ 8 = 255 + 1 by decide) ?_
          refine g_iload10 dX3_holds_218 ?_
          refine g_iconst (nI 1) dX3_holds_220 (by decide) ?_
          first | refine g_iaddN dX3_holds_221 ?_ | refine g_iadd dX3_holds_221 ?_
          refine g_istore9 dX3_holds_222 (show ¬ 9 = 255 + 1 by decide) ?_
          refine g_goto (tgt := 172) dX3_holds_224 (by decide) ?_
          rw [show a + l + 1 = e by omega]
          exact X1 _
    · have hpos := hsg.pos
      have hpos2 := h5.pos
      have hle1 : e - 1 = a + (l1 + 1 + l2) := by omega
      have hle2 : a + l1 = a + l1 := rfl
      have hbl : balP (pT (M 1) s) (l1 + 1 + l2) a 0 := Seg.bal (q := 3) (k := k + 1) (L := mkS 3 B1 :: L') (Or.inr ⟨by decide, Or.inr ⟨l1, l2, B1, L', rfl, rfl, hsg, ht, h5⟩⟩)
      have hnx : nxF (pT (M 1) s) 44 (l1 + 1 + l2) a 0 = a + l1 := hsg.next1 (Or.inr (Or.inl rfl)) (Or.inr (Or.inr ⟨rfl, rfl⟩)) ht
      have h1 := le1_any hsg.le1 x
      have hv : n + aE (mkAny B1) x + cnt L' x = T := by rw [← hT]; show _ = n + (aE (mkAny B1) x + cnt L' x); omega
      refine g_iload9 dX3_holds_172 ?_
      refine g_iload3 dX3_holds_174 ?_
      refine g_iconst (nI 1) dX3_holds_175 (by decide) ?_
      first | refine g_isubN dX3_holds_176 (by omega) ?_ | refine g_isub dX3_holds_176 ?_
      first | refine g_icmpN_ge (tgt := 227) dX3_holds_177 (by decide) (by omega) (by omega) (fun c_177 => ?_) (fun c_177 => ?_) | refine g_icmp_ge (tgt := 227) dX3_holds_177 (by decide) (fun c_177 => ?_) (fun c_177 => ?_)
      · omega
      · first | refine g_aload0 dX3_holds_180 ?_ | refine g_aloadQ0 dX3_holds_180 ?_ | refine g_aloadN0 dX3_holds_180 ?_
        refine g_iload1 dX3_holds_181 ?_
        refine g_iload9 dX3_holds_182 ?_
        refine g_iload3 dX3_holds_184 ?_
        refine g_iconst (nI 1) dX3_holds_185 (by decide) ?_
        first | refine g_isubN dX3_holds_186 (by omega) ?_ | refine g_isub dX3_holds_186 ?_
        refine g_bipush (nI 44) dX3_holds_187 (by decide) ?_
        refine g_V4n0 (ctX3_nextE hA _ _ _ _ _ _ hB (by omega) hle1 (by omega) (by omega) hbl) kX3_next q2319 tw_0 rfl rfl ⟨by show 1 + 1 ≤ (N + 1) + 5; omega, by show 8 + (8 + 11) + (22) ≤ 60 * (N + 1) + 200; omega⟩ ⟨rfl, rfl⟩ ⟨Nat.zero_le _, Nat.zero_le _⟩ (Nat.le_of_ble_eq_true rfl) dX3_holds_189 (fun r_189 h_189 p_189 => ?_)
        obtain ⟨hi_189, rfl⟩ := p_189
        rw [hnx] at hi_189
        subst hi_189
        refine g_istore10 dX3_holds_192 (show ¬ 10 = 255 + 1 by decide) ?_
        refine g_iload8 dX3_holds_194 ?_
        first | refine g_aload0 dX3_holds_196 ?_ | refine g_aloadQ0 dX3_holds_196 ?_ | refine g_aloadN0 dX3_holds_196 ?_
        refine g_iload1 dX3_holds_197 ?_
        refine g_iload9 dX3_holds_198 ?_
        refine g_iload10 dX3_holds_200 ?_
        refine g_iload4 dX3_holds_202 ?_
        refine g_S5n0 (ih _ _ _ _ _ hle2 (by omega) (by omega) hsg) (kX3_holds _) q2316 ⟨by show N + 5 + 1 ≤ (N + 1) + 5; omega, by show 8 + (11 + 11) + (60 * N + 200) ≤ 60 * (N + 1) + 200; omega⟩ ⟨rfl, rfl⟩ ⟨Nat.zero_le _, Nat.zero_le _⟩ (Nat.le_of_ble_eq_true rfl) dX3_holds_204 (fun r_204 h_204 p_204 => ?_)
        obtain ⟨rfl, rfl⟩ := p_204
        first | refine g_ifN_eq (tgt := 214) dX3_holds_207 (by decide) (by omega) (fun c_207 => ?_) (fun c_207 => ?_) | refine g_if_eq (tgt := 214) dX3_holds_207 (by decide) (fun c_207 => ?_) (fun c_207 => ?_)
        · refine g_iconst (nI 0) dX3_holds_214 (by decide) ?_
          first | refine g_iaddN dX3_holds_215 ?_ | refine g_iadd dX3_holds_215 ?_
          refine g_istore8 dX3_holds_216 (show ¬ 8 = 255 + 1 by decide) ?_
          refine g_iload10 dX3_holds_218 ?_
          refine g_iconst (nI 1) dX3_holds_220 (by decide) ?_
          first | refine g_iaddN dX3_holds_221 ?_ | refine g_iadd dX3_holds_221 ?_
          refine g_istore9 dX3_holds_222 (show ¬ 9 = 255 + 1 by decide) ?_
          refine g_goto (tgt := 172) dX3_holds_224 (by decide) ?_
          exact ihk _ l2 _ L' _ (by omega) (by omega) (by omega) h5
        · refine g_iconst (nI 1) dX3_holds_210 (by decide) ?_
          refine g_goto (tgt := 215) dX3_holds_211 (by decide) ?_
          first | refine g_iaddN dX3_holds_215 ?_ | refine g_iadd dX3_holds_215 ?_
          refine g_istore8 dX3_holds_216 (show ¬ 8 = 255 + 1 by decide) ?_
          refine g_iload10 dX3_holds_218 ?_
          refine g_iconst (nI 1) dX3_holds_220 (by decide) ?_
          first | refine g_iaddN dX3_holds_221 ?_ | refine g_iadd dX3_holds_221 ?_
          refine g_istore9 dX3_holds_222 (show ¬ 9 = 255 + 1 by decide) ?_
          refine g_goto (tgt := 172) dX3_holds_224 (by decide) ?_
          exact ihk _ l2 _ L' _ (by omega) (by omega) (by omega) h5
set_option maxHeartbeats 400000 in
theorem ctX3_holds {E : GE} {A : Nat → Nat} (hA : twA A) (M : TW) (s x : Nat) (hB : twB M) (hs : s < 4) (hx : x < 2147483648) {h : AH} : ∀ (N f e l : Nat) (L : List Att) (k : Nat), e = f + l → l ≤ N → e ≤ 40 → Seg (pT (M 1) s) k 0 f l L → Ct E cX3_holds (mX3_holds N) [.ref (A 0), .int (nI s), .int (nI f), .int (nI e), .int (nI x)] (twO E A M h) (pN fun r h' => r = aE (mkAny L) x ∧ h' = twO E A M h) noX := by
  intro N
  induction N with
  | zero => intro f e l L k h1 h2 h3 h4; have := h4.pos; omega
  | succ N ih =>
    intro f e l L k he hl he40 hS
    have hpos := hS.pos
    have hbal := hS.bal
    refine g_enter (own := "SecretVaultModel") [some (.ref (A 0)), some (.int (nI s)), some (.int (nI f)), some (.int (nI e)), some (.int (nI x)), none, none, none, none, none, none] (show plainName yX3_holds.cls = true by decide +kernel) rfl rfl (Nat.le_of_ble_eq_true rfl) rfl rfl (fun X => ?_)
    cases k with
    | zero => exact hS.elim
    | succ k =>
    rcases hS with ⟨q, -⟩ | ⟨-, hS⟩
    · exact absurd q (by decide)
    rcases hS with ⟨B, rfl, hS⟩ | ⟨l1, l2, B, L', rfl, rfl, hS1, ht, hS2⟩
    · replace hS : Seg (pT (M 1) s) k 1 f l B := hS
      have hn124 : nxF (pT (M 1) s) 124 l f 0 = f + l := hS.next0 (Or.inr (Or.inr rfl)) (Or.inr (Or.inl ⟨rfl, by decide⟩))
      have hBl := hS.le1
      have hBn := hS.ne
      have hal : aE (mkAny [mkS 0 B]) x = aE (mkAll B) x := rfl
      cases k with
      | zero => exact hS.elim
      | succ k =>
      rcases hS with ⟨q, -⟩ | ⟨-, hS⟩
      · exact absurd q (by decide)
      rcases hS with ⟨B1, rfl, hS⟩ | ⟨l1, l2, B1, L', rfl, rfl, hS1, ht, hS2⟩
      · replace hS : Seg (pT (M 1) s) k 2 f l B1 := hS
        have hn38 : nxF (pT (M 1) s) 38 l f 0 = f + l := hS.next0 (Or.inl rfl) (Or.inl rfl)
        cases k with
        | zero => exact hS.elim
        | succ k =>
        rcases hS with ⟨-, hS⟩ | ⟨q, -⟩
        rotate_left
        · exact absurd rfl q
        rcases hS with ⟨rfl, h3, h4, rfl⟩ | ⟨l1, B2, rfl, h3, h4, h5, rfl⟩ | ⟨l1, B2, rfl, h3, h4, h5, h6, h7, h8, h9, rfl⟩
        · have hv : aE (mkAny [mkS 0 [mkS 1 [attOne (pT (M 1) s f - 48)]]]) x = x / 2 ^ (pT (M 1) s f - 48) % 2 := rfl
          have hdv := Nat.div_le_self x (2 ^ (pT (M 1) s f - 48))
          first | refine g_aload0 dX3_holds_0 ?_ | refine g_aloadQ0 dX3_holds_0 ?_ | refine g_aloadN0 dX3_holds_0 ?_
          refine g_iload1 dX3_holds_1 ?_
          refine g_iload2 dX3_holds_2 ?_
          refine g_iload3 dX3_holds_3 ?_
          refine g_bipush (nI 124) dX3_holds_4 (by decide) ?_
          refine g_V4n0 (ctX3_nextE hA _ _ _ _ _ _ hB (by omega) he (by omega) (by omega) hbal) kX3_next q2319 tw_0 rfl rfl ⟨by show 1 + 1 ≤ (N + 1) + 5; omega, by show 8 + (8 + 11) + (22) ≤ 60 * (N + 1) + 200; omega⟩ ⟨rfl, rfl⟩ ⟨Nat.zero_le _, Nat.zero_le _⟩ (Nat.le_of_ble_eq_true rfl) dX3_holds_6 (fun r_6 h_6 p_6 => ?_)
          obtain ⟨hi_6, rfl⟩ := p_6
          first | rw [hn124] at hi_6 | rw [hn38] at hi_6
          subst hi_6
          refine g_istore5 dX3_holds_9 (show ¬ 5 = 255 + 1 by decide) ?_
          refine g_iload5 dX3_holds_11 ?_
          refine g_iload3 dX3_holds_13 ?_
          first | refine g_icmpN_ge (tgt := 51) dX3_holds_14 (by decide) (by omega) (by omega) (fun c_14 => ?_) (fun c_14 => ?_) | refine g_icmp_ge (tgt := 51) dX3_holds_14 (by decide) (fun c_14 => ?_) (fun c_14 => ?_)
          · first | refine g_aload0 dX3_holds_51 ?_ | refine g_aloadQ0 dX3_holds_51 ?_ | refine g_aloadN0 dX3_holds_51 ?_
            refine g_iload1 dX3_holds_52 ?_
            refine g_iload2 dX3_holds_53 ?_
            refine g_iload3 dX3_holds_54 ?_
            refine g_bipush (nI 38) dX3_holds_55 (by decide) ?_
            refine g_V4n0 (ctX3_nextE hA _ _ _ _ _ _ hB (by omega) he (by omega) (by omega) hbal) kX3_next q2319 tw_0 rfl rfl ⟨by show 1 + 1 ≤ (N + 1) + 5; omega, by show 8 + (8 + 11) + (22) ≤ 60 * (N + 1) + 200; omega⟩ ⟨rfl, rfl⟩ ⟨Nat.zero_le _, Nat.zero_le _⟩ (Nat.le_of_ble_eq_true rfl) dX3_holds_57 (fun r_57 h_57 p_57 => ?_)
            obtain ⟨hi_57, rfl⟩ := p_57
            first | rw [hn124] at hi_57 | rw [hn38] at hi_57
            subst hi_57
            refine g_istore6 dX3_holds_60 (show ¬ 6 = 255 + 1 by decide) ?_
            refine g_iload6 dX3_holds_62 ?_
            refine g_iload3 dX3_holds_64 ?_
            first | refine g_icmpN_ge (tgt := 102) dX3_holds_65 (by decide) (by omega) (by omega) (fun c_65 => ?_) (fun c_65 => ?_) | refine g_icmp_ge (tgt := 102) dX3_holds_65 (by decide) (fun c_65 => ?_) (fun c_65 => ?_)
            · first | refine g_aload0 dX3_holds_102 ?_ | refine g_aloadQ0 dX3_holds_102 ?_ | refine g_aloadN0 dX3_holds_102 ?_
              refine g_iload1 dX3_holds_103 ?_
              refine g_bipush (nI 12) dX3_holds_104 (by decide) ?_
              refine g_iload2 dX3_holds_106 ?_
              first | refine g_iaddN dX3_holds_107 ?_ | refine g_iadd dX3_holds_107 ?_
              refine g_V2n0 (ctX3_of hA _ _ _ (by omega) (by omega)) kX3_of q2220 tw_0 rfl rfl ⟨by show 0 + 1 ≤ (N + 1) + 5; omega, by show 8 + (3 + 11) + (0) ≤ 60 * (N + 1) + 200; omega⟩ ⟨rfl, rfl⟩ ⟨Nat.zero_le _, Nat.zero_le _⟩ (Nat.le_of_ble_eq_true rfl) dX3_holds_108 (fun r_108 h_108 p_108 => ?_)
              obtain ⟨rfl, rfl⟩ := p_108
              rw [show gOf (M 1) s (12 + f) = pT (M 1) s f from rfl]
              refine g_istore7 dX3_holds_111 (show ¬ 7 = 255 + 1 by decide) ?_
              refine g_iload7 dX3_holds_113 ?_
              refine g_bipush (nI 40) dX3_holds_115 (by decide) ?_
              first | refine g_icmpN_ne (tgt := 134) dX3_holds_117 (by decide) (by omega) (by omega) (fun c_117 => ?_) (fun c_117 => ?_) | refine g_icmpU_ne (tgt := 134) dX3_holds_117 (by decide) (by omega) (by omega) (fun c_117 => ?_) (fun c_117 => ?_) | refine g_icmp_ne (tgt := 134) dX3_holds_117 (by decide) (fun c_117 => ?_) (fun c_117 => ?_)
              · first | refine g_aload0 dX3_holds_134 ?_ | refine g_aloadQ0 dX3_holds_134 ?_ | refine g_aloadN0 dX3_holds_134 ?_
                refine g_iload1 dX3_holds_135 ?_
                refine g_iload2 dX3_holds_136 ?_
                refine g_iload3 dX3_holds_137 ?_
                refine g_V3n0 (ctX3_isCount hA _ _ _ _ hB (by omega) (by omega) (by omega)) kX3_isCount q2323 tw_0 rfl rfl ⟨by show 1 + 1 ≤ (N + 1) + 5; omega, by show 8 + (4 + 11) + (22) ≤ 60 * (N + 1) + 200; omega⟩ ⟨rfl, rfl⟩ ⟨Nat.zero_le _, Nat.zero_le _⟩ (Nat.le_of_ble_eq_true rfl) dX3_holds_138 (fun r_138 h_138 p_138 => ?_)
                obtain ⟨hr_138, hi_138, rfl⟩ := p_138
                first | refine g_ifN_ne (tgt := 164) dX3_holds_141 (by decide) (by omega) (fun c_141 => ?_) (fun c_141 => ?_) | refine g_if_ne (tgt := 164) dX3_holds_141 (by decide) (fun c_141 => ?_) (fun c_141 => ?_)
                · omega
                · refine g_iload4 dX3_holds_144 ?_
                  refine g_iload7 dX3_holds_146 ?_
                  refine g_bipush (nI 48) dX3_holds_148 (by decide) ?_
                  first | refine g_isubN dX3_holds_150 (by omega) ?_ | refine g_isub dX3_holds_150 ?_
                  refine g_ishrN dX3_holds_151 (by omega) (by omega) ?_
                  refine g_iconst (nI 1) dX3_holds_152 (by decide) ?_
                  refine g_iand1 dX3_holds_153 (by omega) ?_
                  refine g_iconst (nI 1) dX3_holds_154 (by decide) ?_
                  first | refine g_icmpN_ne (tgt := 162) dX3_holds_155 (by decide) (by omega) (by omega) (fun c_155 => ?_) (fun c_155 => ?_) | refine g_icmpU_ne (tgt := 162) dX3_holds_155 (by decide) (by omega) (by omega) (fun c_155 => ?_) (fun c_155 => ?_) | refine g_icmp_ne (tgt := 162) dX3_holds_155 (by decide) (fun c_155 => ?_) (fun c_155 => ?_)
                  · refine g_iconst (nI 0) dX3_holds_162 (by decide) ?_
                    exact g_zret (hk := Nat.zero_le _) (hn := Nat.zero_le _) dX3_holds_163 rfl (nar_zb (by omega)) ⟨_, rfl, by rw [hv]; omega, rfl⟩
                  · refine g_iconst (nI 1) dX3_holds_158 (by decide) ?_
                    refine g_goto (tgt := 163) dX3_holds_159 (by decide) ?_
                    exact g_zret (hk := Nat.zero_le _) (hn := Nat.zero_le _) dX3_holds_163 rfl (nar_zb (by omega)) ⟨_, rfl, by rw [hv]; omega, rfl⟩
              · omega
            · omega
          · omega
        · have hv : aE (mkAny [mkS 0 [mkS 1 [mkAny B2]]]) x = aE (mkAny B2) x := rfl
          have h1 := le1_any h4.le1 x
          first | refine g_aload0 dX3_holds_0 ?_ | refine g_aloadQ0 dX3_holds_0 ?_ | refine g_aloadN0 dX3_holds_0 ?_
          refine g_iload1 dX3_holds_1 ?_
          refine g_iload2 dX3_holds_2 ?_
          refine g_iload3 dX3_holds_3 ?_
          refine g_bipush (nI 124) dX3_holds_4 (by decide) ?_
          refine g_V4n0 (ctX3_nextE hA _ _ _ _ _ _ hB (by omega) he (by omega) (by omega) hbal) kX3_next q2319 tw_0 rfl rfl ⟨by show 1 + 1 ≤ (N + 1) + 5; omega, by show 8 + (8 + 11) + (22) ≤ 60 * (N + 1) + 200; omega⟩ ⟨rfl, rfl⟩ ⟨Nat.zero_le _, Nat.zero_le _⟩ (Nat.le_of_ble_eq_true rfl) dX3_holds_6 (fun r_6 h_6 p_6 => ?_)
          obtain ⟨hi_6, rfl⟩ := p_6
          first | rw [hn124] at hi_6 | rw [hn38] at hi_6
          subst hi_6
          refine g_istore5 dX3_holds_9 (show ¬ 5 = 255 + 1 by decide) ?_
          refine g_iload5 dX3_holds_11 ?_
          refine g_iload3 dX3_holds_13 ?_
          first | refine g_icmpN_ge (tgt := 51) dX3_holds_14 (by decide) (by omega) (by omega) (fun c_14 => ?_) (fun c_14 => ?_) | refine g_icmp_ge (tgt := 51) dX3_holds_14 (by decide) (fun c_14 => ?_) (fun c_14 => ?_)
          · first | refine g_aload0 dX3_holds_51 ?_ | refine g_aloadQ0 dX3_holds_51 ?_ | refine g_aloadN0 dX3_holds_51 ?_
            refine g_iload1 dX3_holds_52 ?_
            refine g_iload2 dX3_holds_53 ?_
            refine g_iload3 dX3_holds_54 ?_
            refine g_bipush (nI 38) dX3_holds_55 (by decide) ?_
            refine g_V4n0 (ctX3_nextE hA _ _ _ _ _ _ hB (by omega) he (by omega) (by omega) hbal) kX3_next q2319 tw_0 rfl rfl ⟨by show 1 + 1 ≤ (N + 1) + 5; omega, by show 8 + (8 + 11) + (22) ≤ 60 * (N + 1) + 200; omega⟩ ⟨rfl, rfl⟩ ⟨Nat.zero_le _, Nat.zero_le _⟩ (Nat.le_of_ble_eq_true rfl) dX3_holds_57 (fun r_57 h_57 p_57 => ?_)
            obtain ⟨hi_57, rfl⟩ := p_57
            first | rw [hn124] at hi_57 | rw [hn38] at hi_57
            subst hi_57
            refine g_istore6 dX3_holds_60 (show ¬ 6 = 255 + 1 by decide) ?_
            refine g_iload6 dX3_holds_62 ?_
            refine g_iload3 dX3_holds_64 ?_
            first | refine g_icmpN_ge (tgt := 102) dX3_holds_65 (by decide) (by omega) (by omega) (fun c_65 => ?_) (fun c_65 => ?_) | refine g_icmp_ge (tgt := 102) dX3_holds_65 (by decide) (fun c_65 => ?_) (fun c_65 => ?_)
            · first | refine g_aload0 dX3_holds_102 ?_ | refine g_aloadQ0 dX3_holds_102 ?_ | refine g_aloadN0 dX3_holds_102 ?_
              refine g_iload1 dX3_holds_103 ?_
              refine g_bipush (nI 12) dX3_holds_104 (by decide) ?_
              refine g_iload2 dX3_holds_106 ?_
              first | refine g_iaddN dX3_holds_107 ?_ | refine g_iadd dX3_holds_107 ?_
              refine g_V2n0 (ctX3_of hA _ _ _ (by omega) (by omega)) kX3_of q2220 tw_0 rfl rfl ⟨by show 0 + 1 ≤ (N + 1) + 5; omega, by show 8 + (3 + 11) + (0) ≤ 60 * (N + 1) + 200; omega⟩ ⟨rfl, rfl⟩ ⟨Nat.zero_le _, Nat.zero_le _⟩ (Nat.le_of_ble_eq_true rfl) dX3_holds_108 (fun r_108 h_108 p_108 => ?_)
              obtain ⟨rfl, rfl⟩ := p_108
              rw [show gOf (M 1) s (12 + f) = pT (M 1) s f from rfl]
              refine g_istore7 dX3_holds_111 (show ¬ 7 = 255 + 1 by decide) ?_
              refine g_iload7 dX3_holds_113 ?_
              refine g_bipush (nI 40) dX3_holds_115 (by decide) ?_
              first | refine g_icmpN_ne (tgt := 134) dX3_holds_117 (by decide) (by omega) (by omega) (fun c_117 => ?_) (fun c_117 => ?_) | refine g_icmpU_ne (tgt := 134) dX3_holds_117 (by decide) (by omega) (by omega) (fun c_117 => ?_) (fun c_117 => ?_) | refine g_icmp_ne (tgt := 134) dX3_holds_117 (by decide) (fun c_117 => ?_) (fun c_117 => ?_)
              · omega
              · first | refine g_aload0 dX3_holds_120 ?_ | refine g_aloadQ0 dX3_holds_120 ?_ | refine g_aloadN0 dX3_holds_120 ?_
                refine g_iload1 dX3_holds_121 ?_
                refine g_iload2 dX3_holds_122 ?_
                refine g_iconst (nI 1) dX3_holds_123 (by decide) ?_
                first | refine g_iaddN dX3_holds_124 ?_ | refine g_iadd dX3_holds_124 ?_
                refine g_iload3 dX3_holds_125 ?_
                refine g_iconst (nI 1) dX3_holds_126 (by decide) ?_
                first | refine g_isubN dX3_holds_127 (by omega) ?_ | refine g_isub dX3_holds_127 ?_
                refine g_iload4 dX3_holds_128 ?_
                refine g_S5n0 (ih (f + 1) (e - 1) l1 B2 k (by omega) (by omega) (by omega) h4) (kX3_holds _) q2316 ⟨by show N + 5 + 1 ≤ (N + 1) + 5; omega, by show 8 + (11 + 11) + (60 * N + 200) ≤ 60 * (N + 1) + 200; omega⟩ ⟨rfl, rfl⟩ ⟨Nat.zero_le _, Nat.zero_le _⟩ (Nat.le_of_ble_eq_true rfl) dX3_holds_130 (fun r_130 h_130 p_130 => ?_)
                obtain ⟨rfl, rfl⟩ := p_130
                exact g_zret (hk := Nat.zero_le _) (hn := Nat.zero_le _) dX3_holds_133 rfl (nar_zb (by omega)) ⟨_, rfl, rfl, rfl⟩
            · omega
          · omega
        · have hv : aE (mkAny [mkS 0 [mkS 1 [attSome (pT (M 1) s f - 48) B2]]]) x = if pT (M 1) s f - 48 ≤ cnt B2 x then 1 else 0 := rfl
          have hpos2 := h8.pos
          have hc1 := cnt_le h8.le1 x
          have hc2 := h8.many
          rw [hv]
          first | refine g_aload0 dX3_holds_0 ?_ | refine g_aloadQ0 dX3_holds_0 ?_ | refine g_aloadN0 dX3_holds_0 ?_
          refine g_iload1 dX3_holds_1 ?_
          refine g_iload2 dX3_holds_2 ?_
          refine g_iload3 dX3_holds_3 ?_
          refine g_bipush (nI 124) dX3_holds_4 (by decide) ?_
          refine g_V4n0 (ctX3_nextE hA _ _ _ _ _ _ hB (by omega) he (by omega) (by omega) hbal) kX3_next q2319 tw_0 rfl rfl ⟨by show 1 + 1 ≤ (N + 1) + 5; omega, by show 8 + (8 + 11) + (22) ≤ 60 * (N + 1) + 200; omega⟩ ⟨rfl, rfl⟩ ⟨Nat.zero_le _, Nat.zero_le _⟩ (Nat.le_of_ble_eq_true rfl) dX3_holds_6 (fun r_6 h_6 p_6 => ?_)
          obtain ⟨hi_6, rfl⟩ := p_6
          first | rw [hn124] at hi_6 | rw [hn38] at hi_6
          subst hi_6
          refine g_istore5 dX3_holds_9 (show ¬ 5 = 255 + 1 by decide) ?_
          refine g_iload5 dX3_holds_11 ?_
          refine g_iload3 dX3_holds_13 ?_
          first | refine g_icmpN_ge (tgt := 51) dX3_holds_14 (by decide) (by omega) (by omega) (fun c_14 => ?_) (fun c_14 => ?_) | refine g_icmp_ge (tgt := 51) dX3_holds_14 (by decide) (fun c_14 => ?_) (fun c_14 => ?_)
          · first | refine g_aload0 dX3_holds_51 ?_ | refine g_aloadQ0 dX3_holds_51 ?_ | refine g_aloadN0 dX3_holds_51 ?_
            refine g_iload1 dX3_holds_52 ?_
            refine g_iload2 dX3_holds_53 ?_
            refine g_iload3 dX3_holds_54 ?_
            refine g_bipush (nI 38) dX3_holds_55 (by decide) ?_
            refine g_V4n0 (ctX3_nextE hA _ _ _ _ _ _ hB (by omega) he (by omega) (by omega) hbal) kX3_next q2319 tw_0 rfl rfl ⟨by show 1 + 1 ≤ (N + 1) + 5; omega, by show 8 + (8 + 11) + (22) ≤ 60 * (N + 1) + 200; omega⟩ ⟨rfl, rfl⟩ ⟨Nat.zero_le _, Nat.zero_le _⟩ (Nat.le_of_ble_eq_true rfl) dX3_holds_57 (fun r_57 h_57 p_57 => ?_)
            obtain ⟨hi_57, rfl⟩ := p_57
            first | rw [hn124] at hi_57 | rw [hn38] at hi_57
            subst hi_57
            refine g_istore6 dX3_holds_60 (show ¬ 6 = 255 + 1 by decide) ?_
            refine g_iload6 dX3_holds_62 ?_
            refine g_iload3 dX3_holds_64 ?_
            first | refine g_icmpN_ge (tgt := 102) dX3_holds_65 (by decide) (by omega) (by omega) (fun c_65 => ?_) (fun c_65 => ?_) | refine g_icmp_ge (tgt := 102) dX3_holds_65 (by decide) (fun c_65 => ?_) (fun c_65 => ?_)
            · first | refine g_aload0 dX3_holds_102 ?_ | refine g_aloadQ0 dX3_holds_102 ?_ | refine g_aloadN0 dX3_holds_102 ?_
              refine g_iload1 dX3_holds_103 ?_
              refine g_bipush (nI 12) dX3_holds_104 (by decide) ?_
              refine g_iload2 dX3_holds_106 ?_
              first | refine g_iaddN dX3_holds_107 ?_ | refine g_iadd dX3_holds_107 ?_
              refine g_V2n0 (ctX3_of hA _ _ _ (by omega) (by omega)) kX3_of q2220 tw_0 rfl rfl ⟨by show 0 + 1 ≤ (N + 1) + 5; omega, by show 8 + (3 + 11) + (0) ≤ 60 * (N + 1) + 200; omega⟩ ⟨rfl, rfl⟩ ⟨Nat.zero_le _, Nat.zero_le _⟩ (Nat.le_of_ble_eq_true rfl) dX3_holds_108 (fun r_108 h_108 p_108 => ?_)
              obtain ⟨rfl, rfl⟩ := p_108
              rw [show gOf (M 1) s (12 + f) = pT (M 1) s f from rfl]
              refine g_istore7 dX3_holds_111 (show ¬ 7 = 255 + 1 by decide) ?_
              refine g_iload7 dX3_holds_113 ?_
              refine g_bipush (nI 40) dX3_holds_115 (by decide) ?_
              first | refine g_icmpN_ne (tgt := 134) dX3_holds_117 (by decide) (by omega) (by omega) (fun c_117 => ?_) (fun c_117 => ?_) | refine g_icmpU_ne (tgt := 134) dX3_holds_117 (by decide) (by omega) (by omega) (fun c_117 => ?_) (fun c_117 => ?_) | refine g_icmp_ne (tgt := 134) dX3_holds_117 (by decide) (fun c_117 => ?_) (fun c_117 => ?_)
              · first | refine g_aload0 dX3_holds_134 ?_ | refine g_aloadQ0 dX3_holds_134 ?_ | refine g_aloadN0 dX3_holds_134 ?_
                refine g_iload1 dX3_holds_135 ?_
                refine g_iload2 dX3_holds_136 ?_
                refine g_iload3 dX3_holds_137 ?_
                refine g_V3n0 (ctX3_isCount hA _ _ _ _ hB (by omega) (by omega) (by omega)) kX3_isCount q2323 tw_0 rfl rfl ⟨by show 1 + 1 ≤ (N + 1) + 5; omega, by show 8 + (4 + 11) + (22) ≤ 60 * (N + 1) + 200; omega⟩ ⟨rfl, rfl⟩ ⟨Nat.zero_le _, Nat.zero_le _⟩ (Nat.le_of_ble_eq_true rfl) dX3_holds_138 (fun r_138 h_138 p_138 => ?_)
                obtain ⟨hr_138, hi_138, rfl⟩ := p_138
                first | refine g_ifN_ne (tgt := 164) dX3_holds_141 (by decide) (by omega) (fun c_141 => ?_) (fun c_141 => ?_) | refine g_if_ne (tgt := 164) dX3_holds_141 (by decide) (fun c_141 => ?_) (fun c_141 => ?_)
                · refine g_iconst (nI 0) dX3_holds_164 (by decide) ?_
                  refine g_istore8 dX3_holds_165 (show ¬ 8 = 255 + 1 by decide) ?_
                  refine g_iload2 dX3_holds_167 ?_
                  refine g_iconst (nI 4) dX3_holds_168 (by decide) ?_
                  first | refine g_iaddN dX3_holds_169 ?_ | refine g_iadd dX3_holds_169 ?_
                  refine g_istore9 dX3_holds_170 (show ¬ 9 = 255 + 1 by decide) ?_
                  exact holds_some hA M s x hB hs hx N f e _ _ _ (cnt B2 x) (by omega) he40 (by omega) (fun f e l L k a b c d => ih f e l L k a b c d) ⟨h3, h4⟩ k _ l1 0 B2 _ (by omega) (by omega) (by omega) h8
                · omega
              · omega
            · omega
          · omega
      · have hn38 : nxF (pT (M 1) s) 38 (l1 + 1 + l2) f 0 = f + l1 := hS1.next1 (Or.inl rfl) (Or.inl rfl) ht
        have p1 := hS1.pos
        have p2 := hS2.pos
        have hm1 := le1_mk (q := 1) hS1.le1 hS1.ne x
        have hm2 := le1_all hS2.le1 x
        have ha1 : aE (mkAny [mkS 0 [mkS 1 B1]]) x = aE (mkS 1 B1) x := rfl
        have ha2 : aE (mkAny [mkS 0 L']) x = aE (mkAll L') x := rfl
        have hv : aE (mkAny [mkS 0 (mkS 1 B1 :: L')]) x = if aE (mkS 1 B1) x = 1 ∧ aE (mkAll L') x = 1 then 1 else 0 := by
          rw [hal, all_v hBl hBn, all_v hS2.le1 hS2.ne, cnt, List.length_cons]
          have := cnt_le hS2.le1 x
          (repeat' split) <;> omega
        first | refine g_aload0 dX3_holds_0 ?_ | refine g_aloadQ0 dX3_holds_0 ?_ | refine g_aloadN0 dX3_holds_0 ?_
        refine g_iload1 dX3_holds_1 ?_
        refine g_iload2 dX3_holds_2 ?_
        refine g_iload3 dX3_holds_3 ?_
        refine g_bipush (nI 124) dX3_holds_4 (by decide) ?_
        refine g_V4n0 (ctX3_nextE hA _ _ _ _ _ _ hB (by omega) he (by omega) (by omega) hbal) kX3_next q2319 tw_0 rfl rfl ⟨by show 1 + 1 ≤ (N + 1) + 5; omega, by show 8 + (8 + 11) + (22) ≤ 60 * (N + 1) + 200; omega⟩ ⟨rfl, rfl⟩ ⟨Nat.zero_le _, Nat.zero_le _⟩ (Nat.le_of_ble_eq_true rfl) dX3_holds_6 (fun r_6 h_6 p_6 => ?_)
        obtain ⟨hi_6, rfl⟩ := p_6
        first | rw [hn124] at hi_6 | rw [hn38] at hi_6
        subst hi_6
        refine g_istore5 dX3_holds_9 (show ¬ 5 = 255 + 1 by decide) ?_
        refine g_iload5 dX3_holds_11 ?_
        refine g_iload3 dX3_holds_13 ?_
        first | refine g_icmpN_ge (tgt := 51) dX3_holds_14 (by decide) (by omega) (by omega) (fun c_14 => ?_) (fun c_14 => ?_) | refine g_icmp_ge (tgt := 51) dX3_holds_14 (by decide) (fun c_14 => ?_) (fun c_14 => ?_)
        · first | refine g_aload0 dX3_holds_51 ?_ | refine g_aloadQ0 dX3_holds_51 ?_ | refine g_aloadN0 dX3_holds_51 ?_
          refine g_iload1 dX3_holds_52 ?_
          refine g_iload2 dX3_holds_53 ?_
          refine g_iload3 dX3_holds_54 ?_
          refine g_bipush (nI 38) dX3_holds_55 (by decide) ?_
          refine g_V4n0 (ctX3_nextE hA _ _ _ _ _ _ hB (by omega) he (by omega) (by omega) hbal) kX3_next q2319 tw_0 rfl rfl ⟨by show 1 + 1 ≤ (N + 1) + 5; omega, by show 8 + (8 + 11) + (22) ≤ 60 * (N + 1) + 200; omega⟩ ⟨rfl, rfl⟩ ⟨Nat.zero_le _, Nat.zero_le _⟩ (Nat.le_of_ble_eq_true rfl) dX3_holds_57 (fun r_57 h_57 p_57 => ?_)
          obtain ⟨hi_57, rfl⟩ := p_57
          first | rw [hn124] at hi_57 | rw [hn38] at hi_57
          subst hi_57
          refine g_istore6 dX3_holds_60 (show ¬ 6 = 255 + 1 by decide) ?_
          refine g_iload6 dX3_holds_62 ?_
          refine g_iload3 dX3_holds_64 ?_
          first | refine g_icmpN_ge (tgt := 102) dX3_holds_65 (by decide) (by omega) (by omega) (fun c_65 => ?_) (fun c_65 => ?_) | refine g_icmp_ge (tgt := 102) dX3_holds_65 (by decide) (fun c_65 => ?_) (fun c_65 => ?_)
          · omega
          · first | refine g_aload0 dX3_holds_68 ?_ | refine g_aloadQ0 dX3_holds_68 ?_ | refine g_aloadN0 dX3_holds_68 ?_
            refine g_iload1 dX3_holds_69 ?_
            refine g_iload2 dX3_holds_70 ?_
            refine g_iload6 dX3_holds_71 ?_
            refine g_iload4 dX3_holds_73 ?_
            refine g_S5n0 (ih f (f + l1) l1 [mkS 0 [mkS 1 B1]] (k + 2) rfl (by omega) (by omega) (Or.inr ⟨by decide, Or.inl ⟨[mkS 1 B1], rfl, Or.inr ⟨by decide, Or.inl ⟨B1, rfl, hS1⟩⟩⟩⟩)) (kX3_holds _) q2316 ⟨by show N + 5 + 1 ≤ (N + 1) + 5; omega, by show 8 + (11 + 11) + (60 * N + 200) ≤ 60 * (N + 1) + 200; omega⟩ ⟨rfl, rfl⟩ ⟨Nat.zero_le _, Nat.zero_le _⟩ (Nat.le_of_ble_eq_true rfl) dX3_holds_75 (fun r_75 h_75 p_75 => ?_)
            obtain ⟨rfl, rfl⟩ := p_75
            
            first | refine g_ifN_eq (tgt := 100) dX3_holds_78 (by decide) (by omega) (fun c_78 => ?_) (fun c_78 => ?_) | refine g_if_eq (tgt := 100) dX3_holds_78 (by decide) (fun c_78 => ?_) (fun c_78 => ?_)
            · refine g_iconst (nI 0) dX3_holds_100 (by decide) ?_
              exact g_zret (hk := Nat.zero_le _) (hn := Nat.zero_le _) dX3_holds_101 rfl (nar_zb (by omega)) ⟨_, rfl, by rw [hv]; first | exact (if_pos (by omega)).symm | exact (if_neg (by omega)).symm, rfl⟩
            · first | refine g_aload0 dX3_holds_81 ?_ | refine g_aloadQ0 dX3_holds_81 ?_ | refine g_aloadN0 dX3_holds_81 ?_
              refine g_iload1 dX3_holds_82 ?_
              refine g_iload6 dX3_holds_83 ?_
              refine g_iconst (nI 1) dX3_holds_85 (by decide) ?_
              first | refine g_iaddN dX3_holds_86 ?_ | refine g_iadd dX3_holds_86 ?_
              refine g_iload3 dX3_holds_87 ?_
              refine g_iload4 dX3_holds_88 ?_
              refine g_S5n0 (ih (f + l1 + 1) e l2 [mkS 0 L'] (k + 1) (by omega) (by omega) (by omega) (Or.inr ⟨by decide, Or.inl ⟨L', rfl, hS2⟩⟩)) (kX3_holds _) q2316 ⟨by show N + 5 + 1 ≤ (N + 1) + 5; omega, by show 8 + (11 + 11) + (60 * N + 200) ≤ 60 * (N + 1) + 200; omega⟩ ⟨rfl, rfl⟩ ⟨Nat.zero_le _, Nat.zero_le _⟩ (Nat.le_of_ble_eq_true rfl) dX3_holds_90 (fun r_90 h_90 p_90 => ?_)
              obtain ⟨rfl, rfl⟩ := p_90
              first | refine g_ifN_eq (tgt := 100) dX3_holds_93 (by decide) (by omega) (fun c_93 => ?_) (fun c_93 => ?_) | refine g_if_eq (tgt := 100) dX3_holds_93 (by decide) (fun c_93 => ?_) (fun c_93 => ?_)
              · refine g_iconst (nI 0) dX3_holds_100 (by decide) ?_
                exact g_zret (hk := Nat.zero_le _) (hn := Nat.zero_le _) dX3_holds_101 rfl (nar_zb (by omega)) ⟨_, rfl, by rw [hv]; first | exact (if_pos (by omega)).symm | exact (if_neg (by omega)).symm, rfl⟩
              · refine g_iconst (nI 1) dX3_holds_96 (by decide) ?_
                refine g_goto (tgt := 101) dX3_holds_97 (by decide) ?_
                exact g_zret (hk := Nat.zero_le _) (hn := Nat.zero_le _) dX3_holds_101 rfl (nar_zb (by omega)) ⟨_, rfl, by rw [hv]; first | exact (if_pos (by omega)).symm | exact (if_neg (by omega)).symm, rfl⟩
        · omega
    · have hn124 : nxF (pT (M 1) s) 124 (l1 + 1 + l2) f 0 = f + l1 := hS1.next1 (Or.inr (Or.inr rfl)) (Or.inr (Or.inl ⟨rfl, by decide⟩)) ht
      have p1 := hS1.pos
      have p2 := hS2.pos
      have hm1 := le1_all hS1.le1 x
      have hm2 := le1_any hS2.le1 x
      have ha1 : aE (mkAny [mkS 0 B]) x = aE (mkAll B) x := rfl
      have hv : aE (mkAny (mkS 0 B :: L')) x = if aE (mkAll B) x = 1 ∨ aE (mkAny L') x = 1 then 1 else 0 := by
        have hne := hS2.ne
        rw [any_v (L := L') hS2.le1 hne]
        match L', hne with
        | C :: L2, _ =>
          show (if aE (mkAll B) x + cnt (C :: L2) x = 0 then 0 else 1) = _
          (repeat' split) <;> omega
      first | refine g_aload0 dX3_holds_0 ?_ | refine g_aloadQ0 dX3_holds_0 ?_ | refine g_aloadN0 dX3_holds_0 ?_
      refine g_iload1 dX3_holds_1 ?_
      refine g_iload2 dX3_holds_2 ?_
      refine g_iload3 dX3_holds_3 ?_
      refine g_bipush (nI 124) dX3_holds_4 (by decide) ?_
      refine g_V4n0 (ctX3_nextE hA _ _ _ _ _ _ hB (by omega) he (by omega) (by omega) hbal) kX3_next q2319 tw_0 rfl rfl ⟨by show 1 + 1 ≤ (N + 1) + 5; omega, by show 8 + (8 + 11) + (22) ≤ 60 * (N + 1) + 200; omega⟩ ⟨rfl, rfl⟩ ⟨Nat.zero_le _, Nat.zero_le _⟩ (Nat.le_of_ble_eq_true rfl) dX3_holds_6 (fun r_6 h_6 p_6 => ?_)
      obtain ⟨hi_6, rfl⟩ := p_6
      first | rw [hn124] at hi_6 | rw [hn38] at hi_6
      subst hi_6
      refine g_istore5 dX3_holds_9 (show ¬ 5 = 255 + 1 by decide) ?_
      refine g_iload5 dX3_holds_11 ?_
      refine g_iload3 dX3_holds_13 ?_
      first | refine g_icmpN_ge (tgt := 51) dX3_holds_14 (by decide) (by omega) (by omega) (fun c_14 => ?_) (fun c_14 => ?_) | refine g_icmp_ge (tgt := 51) dX3_holds_14 (by decide) (fun c_14 => ?_) (fun c_14 => ?_)
      · omega
      · first | refine g_aload0 dX3_holds_17 ?_ | refine g_aloadQ0 dX3_holds_17 ?_ | refine g_aloadN0 dX3_holds_17 ?_
        refine g_iload1 dX3_holds_18 ?_
        refine g_iload2 dX3_holds_19 ?_
        refine g_iload5 dX3_holds_20 ?_
        refine g_iload4 dX3_holds_22 ?_
        refine g_S5n0 (ih f (f + l1) l1 [mkS 0 B] (k + 1) rfl (by omega) (by omega) (Or.inr ⟨by decide, Or.inl ⟨B, rfl, hS1⟩⟩)) (kX3_holds _) q2316 ⟨by show N + 5 + 1 ≤ (N + 1) + 5; omega, by show 8 + (11 + 11) + (60 * N + 200) ≤ 60 * (N + 1) + 200; omega⟩ ⟨rfl, rfl⟩ ⟨Nat.zero_le _, Nat.zero_le _⟩ (Nat.le_of_ble_eq_true rfl) dX3_holds_24 (fun r_24 h_24 p_24 => ?_)
        obtain ⟨rfl, rfl⟩ := p_24
        first | refine g_ifN_ne (tgt := 45) dX3_holds_27 (by decide) (by omega) (fun c_27 => ?_) (fun c_27 => ?_) | refine g_if_ne (tgt := 45) dX3_holds_27 (by decide) (fun c_27 => ?_) (fun c_27 => ?_)
        · refine g_iconst (nI 1) dX3_holds_45 (by decide) ?_
          refine g_goto (tgt := 50) dX3_holds_46 (by decide) ?_
          exact g_zret (hk := Nat.zero_le _) (hn := Nat.zero_le _) dX3_holds_50 rfl (nar_zb (by omega)) ⟨_, rfl, by rw [hv]; first | exact (if_pos (by omega)).symm | exact (if_neg (by omega)).symm, rfl⟩
        · first | refine g_aload0 dX3_holds_30 ?_ | refine g_aloadQ0 dX3_holds_30 ?_ | refine g_aloadN0 dX3_holds_30 ?_
          refine g_iload1 dX3_holds_31 ?_
          refine g_iload5 dX3_holds_32 ?_
          refine g_iconst (nI 1) dX3_holds_34 (by decide) ?_
          first | refine g_iaddN dX3_holds_35 ?_ | refine g_iadd dX3_holds_35 ?_
          refine g_iload3 dX3_holds_36 ?_
          refine g_iload4 dX3_holds_37 ?_
          refine g_S5n0 (ih (f + l1 + 1) e l2 L' k (by omega) (by omega) (by omega) hS2) (kX3_holds _) q2316 ⟨by show N + 5 + 1 ≤ (N + 1) + 5; omega, by show 8 + (11 + 11) + (60 * N + 200) ≤ 60 * (N + 1) + 200; omega⟩ ⟨rfl, rfl⟩ ⟨Nat.zero_le _, Nat.zero_le _⟩ (Nat.le_of_ble_eq_true rfl) dX3_holds_39 (fun r_39 h_39 p_39 => ?_)
          obtain ⟨rfl, rfl⟩ := p_39
          first | refine g_ifN_eq (tgt := 49) dX3_holds_42 (by decide) (by omega) (fun c_42 => ?_) (fun c_42 => ?_) | refine g_if_eq (tgt := 49) dX3_holds_42 (by decide) (fun c_42 => ?_) (fun c_42 => ?_)
          · refine g_iconst (nI 0) dX3_holds_49 (by decide) ?_
            exact g_zret (hk := Nat.zero_le _) (hn := Nat.zero_le _) dX3_holds_50 rfl (nar_zb (by omega)) ⟨_, rfl, by rw [hv]; first | exact (if_pos (by omega)).symm | exact (if_neg (by omega)).symm, rfl⟩
          · refine g_iconst (nI 1) dX3_holds_45 (by decide) ?_
            refine g_goto (tgt := 50) dX3_holds_46 (by decide) ?_
            exact g_zret (hk := Nat.zero_le _) (hn := Nat.zero_le _) dX3_holds_50 rfl (nar_zb (by omega)) ⟨_, rfl, by rw [hv]; first | exact (if_pos (by omega)).symm | exact (if_neg (by omega)).symm, rfl⟩
