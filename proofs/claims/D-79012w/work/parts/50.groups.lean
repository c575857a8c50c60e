/-! GROUPS -/
set_option maxRecDepth 100000
/-- the groups of a slot -/
def GR (E : GE) (h : AH) (q : Nat) (g : Nat → Nat) (s : Nat) : Prop := ∃ arr F, h q = some (1010, gO 20 [.ref arr]) ∧ h arr = some (1011, gAZn E 256 F) ∧ ∀ i, i < 256 → F i = if opF g s i then 1 else 0
theorem GR.rv {E : GE} {h : AH} {q : Nat} {g : Nat → Nat} {s : Nat} (hg : GR E h q g s) : gRv E h q "SecretVault$Groups" := by
  obtain ⟨arr, F, z1, -⟩ := hg
  exact gRv.g z1 rfl rfl
theorem grN_l (g : Nat → Nat) (s : Nat) : ∀ i, grN g s i ≤ i
  | 0 => Nat.le_refl _
  | i + 1 => by
    have := grN_l g s i
    show grN g s i + _ ≤ i + 1
    split <;> omega
theorem pwN_l (g : Nat → Nat) (s m : Nat) : ∀ i, pwN g s m i ≤ i
  | 0 => Nat.le_refl _
  | i + 1 => by
    have := pwN_l g s m i
    show pwN g s m i + _ ≤ i + 1
    split <;> omega
theorem smS_l (g : Nat → Nat) (s set : Nat) : ∀ m, smS g s set m < 2
  | 0 => by
    show (if _ then 1 else 0) < 2
    split <;> decide
  | m + 1 => by
    show (if _ then 1 else 0) < 2
    split <;> decide
theorem clB_l (set m : Nat) : clB set m ≤ set := Nat.and_le_left
abbrev mX22_count : GM := (yX22_count, 6, (some .int), [], { frames := 0, cells := 0, slots := 0, locals := 0 }, 255)
theorem kX22_count : gCv cX22_count mX22_count 0 := ⟨q1989, q1990, q118, q1991, ⟨by decide +kernel, by decide +kernel, by decide +kernel⟩, rfl⟩
theorem uX22_count : gCu cX22_count mX22_count 0 := ⟨q1989, q118, q1991, ⟨by decide +kernel, by decide +kernel, by decide +kernel⟩, rfl⟩
set_option maxHeartbeats 400000 in
theorem ctX22_count {E : GE} {h : AH} {q s : Nat} {g : Nat → Nat} (hg : GR E h q g s) : Ct E cX22_count mX22_count [.ref q] (h) (pN fun r h' => r = (grN g s 256) ∧ h' = h) (noX) := by
  refine g_enter (own := "SecretVault$Groups") [some (.ref q), none, none, none, none, none] (by decide +kernel) rfl rfl (Nat.le_of_ble_eq_true rfl) rfl rfl (fun X => ?_)
  obtain ⟨arr, F, z1, z2, z3⟩ := hg
  have K : ∀ n i o, n + i = 256 → V E cX22_count "SecretVault$Groups" mX22_count (pN fun r h' => r = (grN g s 256) ∧ h' = h) noX X (h) 0 0 13 [some (.ref q), some (.int (nI (grN g s i))), some (.ref arr), some (.int (nI 256)), some (.int (nI i)), o] [] := by
    intro n
    induction n with
    | zero =>
      intro i o hn0
      obtain rfl : i = 256 := by omega
      refine g_iload4 dX22_count_13 ?_
      refine g_iload3 dX22_count_15 ?_
      first | refine g_icmpN_ge (tgt := 44) dX22_count_16 (by decide) (by omega) (by omega) (fun c_16 => ?_) (fun c_16 => ?_) | refine g_icmp_ge (tgt := 44) dX22_count_16 (by decide) (fun c_16 => ?_) (fun c_16 => ?_)
      · refine g_iload1 dX22_count_44 ?_
        exact g_iret dX22_count_45 rfl ⟨_, rfl, rfl, rfl⟩
      · omega
    | succ n ih =>
      intro i o hn0
      have hl := grN_l g s i
      have e1 := z3 i (by omega)
      have hF2 : F i < 2 := by rw [e1]; split <;> decide
      refine g_iload4 dX22_count_13 ?_
      refine g_iload3 dX22_count_15 ?_
      first | refine g_icmpN_ge (tgt := 44) dX22_count_16 (by decide) (by omega) (by omega) (fun c_16 => ?_) (fun c_16 => ?_) | refine g_icmp_ge (tgt := 44) dX22_count_16 (by decide) (fun c_16 => ?_) (fun c_16 => ?_)
      · omega
      · first | refine g_aload2 dX22_count_19 ?_ | refine g_aloadQ2 dX22_count_19 ?_ | refine g_aloadN2 dX22_count_19 ?_
        refine g_iload4 dX22_count_20 ?_
        refine g_zaldN (by first | assumption | exact g_up_self _ _ _ | (refine g_upf ?_ ?_ <;> assumption) | (refine g_upt ?_ ?_ (by decide) <;> assumption)) (by omega) (by omega) dX22_count_22 ?_
        refine g_istore5 dX22_count_23 (by decide) ?_
        refine g_iload1 dX22_count_25 ?_
        refine g_iload5 dX22_count_26 ?_
        first | refine g_ifN_eq (tgt := 35) dX22_count_28 (by decide) (by omega) (fun c_28 => ?_) (fun c_28 => ?_) | refine g_if_eq (tgt := 35) dX22_count_28 (by decide) (fun c_28 => ?_) (fun c_28 => ?_)
        · refine g_iconst (nI 0) dX22_count_35 (by decide) ?_
          first | refine g_iaddN dX22_count_36 ?_ | refine g_iadd dX22_count_36 ?_
          refine g_istore1 dX22_count_37 (by decide) ?_
          first | refine g_iincN4 1 dX22_count_38 (by decide) (by decide) ?_ | refine g_iinc4 _ dX22_count_38 rfl (by decide) ?_
          refine g_goto (tgt := 13) dX22_count_41 (by decide) ?_
          first | (have e : grN g s i + 0 = grN g s (i + 1) := (by show _ = grN g s i + _; rw [if_neg (fun z => by rw [if_pos z] at e1; omega)]); rw [e]; exact ih (i + 1) _ (by omega)) | (have e : grN g s i + 1 = grN g s (i + 1) := (by show _ = grN g s i + _; split at e1 <;> first | (rename_i z; rw [if_pos z]) | omega); rw [e]; exact ih (i + 1) _ (by omega))
        · refine g_iconst (nI 1) dX22_count_31 (by decide) ?_
          refine g_goto (tgt := 36) dX22_count_32 (by decide) ?_
          first | refine g_iaddN dX22_count_36 ?_ | refine g_iadd dX22_count_36 ?_
          refine g_istore1 dX22_count_37 (by decide) ?_
          first | refine g_iincN4 1 dX22_count_38 (by decide) (by decide) ?_ | refine g_iinc4 _ dX22_count_38 rfl (by decide) ?_
          refine g_goto (tgt := 13) dX22_count_41 (by decide) ?_
          first | (have e : grN g s i + 0 = grN g s (i + 1) := (by show _ = grN g s i + _; rw [if_neg (fun z => by rw [if_pos z] at e1; omega)]); rw [e]; exact ih (i + 1) _ (by omega)) | (have e : grN g s i + 1 = grN g s (i + 1) := (by show _ = grN g s i + _; split at e1 <;> first | (rename_i z; rw [if_pos z]) | omega); rw [e]; exact ih (i + 1) _ (by omega))
  refine g_iconst (nI 0) dX22_count_0 (by decide) ?_
  refine g_istore1 dX22_count_1 (by decide) ?_
  first | refine g_aload0 dX22_count_2 ?_ | refine g_aloadQ0 dX22_count_2 ?_ | refine g_aloadN0 dX22_count_2 ?_
  refine g_get (k0 := 0) (by first | assumption | exact g_up_self _ _ _ | (refine g_upf ?_ ?_ <;> assumption) | (refine g_upt ?_ ?_ (by decide) <;> assumption)) in_X22 q1984 rfl (by decide) rfl dX22_count_3 ?_
  first | refine g_astore2 dX22_count_6 (by decide) ?_ | refine g_astoreQ2 dX22_count_6 (by decide) ?_ | refine g_astoreN2 dX22_count_6 (by decide) ?_
  first | refine g_aload2 dX22_count_7 ?_ | refine g_aloadQ2 dX22_count_7 ?_ | refine g_aloadN2 dX22_count_7 ?_
  refine g_alen (by first | assumption | exact g_up_self _ _ _ | (refine g_upf ?_ ?_ <;> assumption) | (refine g_upt ?_ ?_ (by decide) <;> assumption)) (by first | exact Or.inl ⟨_, rfl⟩ | exact Or.inr (Or.inr (Or.inl ⟨_, rfl⟩)) | exact Or.inr (Or.inr (Or.inr (Or.inl ⟨_, rfl⟩))) | exact Or.inr (Or.inr (Or.inr (Or.inr (Or.inr ⟨_, _, by decide, by decide, rfl⟩))))) rfl dX22_count_8 ?_
  refine g_istore3 dX22_count_9 (by decide) ?_
  refine g_iconst (nI 0) dX22_count_10 (by decide) ?_
  refine g_istore4 dX22_count_11 (by decide) ?_
  exact K 256 0 none (by omega)
abbrev mX22_decisions : GM := (yX22_decisions, 4, (some .int), [], { frames := 0, cells := 0, slots := 0, locals := 0 }, 255)
theorem kX22_decisions : gCv cX22_decisions mX22_decisions 1 := ⟨q2011, q2012, q118, q2013, ⟨by decide +kernel, by decide +kernel, by decide +kernel⟩, rfl⟩
theorem uX22_decisions : gCu cX22_decisions mX22_decisions 1 := ⟨q2011, q118, q2013, ⟨by decide +kernel, by decide +kernel, by decide +kernel⟩, rfl⟩
set_option maxHeartbeats 400000 in
theorem ctX22_decisions {E : GE} {h : AH} {q s : Nat} {g : Nat → Nat} (m : Nat) (hg : GR E h q g s) (hm : m ≤ 7) : Ct E cX22_decisions mX22_decisions [.ref q, .int (nI m)] (h) (pN fun r h' => r = (pwN g s m 256) ∧ h' = h) (noX) := by
  refine g_enter (own := "SecretVault$Groups") [some (.ref q), some (.int (nI m)), none, none] (by decide +kernel) rfl rfl (Nat.le_of_ble_eq_true rfl) rfl rfl (fun X => ?_)
  obtain ⟨arr, F, z1, z2, z3⟩ := hg
  have hp2 : 2 ^ m < 2 ^ 8 := Nat.pow_lt_pow_right (by decide) (by omega)
  have K : ∀ n i, n + i = 256 → V E cX22_decisions "SecretVault$Groups" mX22_decisions (pN fun r h' => r = (pwN g s m 256) ∧ h' = h) noX X (h) 0 0 4 [some (.ref q), some (.int (nI m)), some (.int (nI (pwN g s m i))), some (.int (nI i))] [] := by
    intro n
    induction n with
    | zero =>
      intro i hn0
      obtain rfl : i = 256 := by omega
      refine g_iload3 dX22_decisions_4 ?_
      first | refine g_aload0 dX22_decisions_5 ?_ | refine g_aloadQ0 dX22_decisions_5 ?_ | refine g_aloadN0 dX22_decisions_5 ?_
      refine g_get (k0 := 0) (by first | assumption | exact g_up_self _ _ _ | (refine g_upf ?_ ?_ <;> assumption) | (refine g_upt ?_ ?_ (by decide) <;> assumption)) in_X22 q1984 rfl (by decide) rfl dX22_decisions_6 ?_
      refine g_alen z2 (Or.inr (Or.inr (Or.inl ⟨_, rfl⟩))) rfl dX22_decisions_9 ?_
      rw [show Int32.ofNat 256 = nI 256 from rfl]
      first | refine g_icmpN_ge (tgt := 60) dX22_decisions_10 (by decide) (by omega) (by omega) (fun c_10 => ?_) (fun c_10 => ?_) | refine g_icmp_ge (tgt := 60) dX22_decisions_10 (by decide) (fun c_10 => ?_) (fun c_10 => ?_)
      · refine g_iload2 dX22_decisions_60 ?_
        exact g_iret dX22_decisions_61 rfl ⟨_, rfl, rfl, rfl⟩
      · omega
    | succ n ih =>
      intro i hn0
      have hl := pwN_l g s m i
      have hdv : i / 2 ^ m ≤ i := Nat.div_le_self _ _
      have hcl : i &&& (1 * 2 ^ m ^^^ 4294967295) ≤ i := Nat.and_le_left
      have e1 := z3 i (by omega)
      have e2 : F (i &&& (1 * 2 ^ m ^^^ 4294967295)) = if opF g s (clB i m) then 1 else 0 := z3 _ (by omega)
      have hF2 : F i < 2 := by rw [e1]; split <;> decide
      have hF3 : F (i &&& (1 * 2 ^ m ^^^ 4294967295)) < 2 := by rw [e2]; split <;> decide
      refine g_iload3 dX22_decisions_4 ?_
      first | refine g_aload0 dX22_decisions_5 ?_ | refine g_aloadQ0 dX22_decisions_5 ?_ | refine g_aloadN0 dX22_decisions_5 ?_
      refine g_get (k0 := 0) (by first | assumption | exact g_up_self _ _ _ | (refine g_upf ?_ ?_ <;> assumption) | (refine g_upt ?_ ?_ (by decide) <;> assumption)) in_X22 q1984 rfl (by decide) rfl dX22_decisions_6 ?_
      refine g_alen z2 (Or.inr (Or.inr (Or.inl ⟨_, rfl⟩))) rfl dX22_decisions_9 ?_
      rw [show Int32.ofNat 256 = nI 256 from rfl]
      first | refine g_icmpN_ge (tgt := 60) dX22_decisions_10 (by decide) (by omega) (by omega) (fun c_10 => ?_) (fun c_10 => ?_) | refine g_icmp_ge (tgt := 60) dX22_decisions_10 (by decide) (fun c_10 => ?_) (fun c_10 => ?_)
      · omega
      · refine g_iload2 dX22_decisions_13 ?_
        refine g_iload3 dX22_decisions_14 ?_
        refine g_iload1 dX22_decisions_15 ?_
        refine g_ishrN dX22_decisions_16 (by omega) (by omega) ?_
        refine g_iconst (nI 1) dX22_decisions_17 (by decide) ?_
        refine g_iand1 dX22_decisions_18 (by omega) ?_
        refine g_iconst (nI 1) dX22_decisions_19 (by decide) ?_
        first | refine g_icmpN_ne (tgt := 51) dX22_decisions_20 (by decide) (by omega) (by omega) (fun c_20 => ?_) (fun c_20 => ?_) | refine g_icmpU_ne (tgt := 51) dX22_decisions_20 (by decide) (by omega) (by omega) (fun c_20 => ?_) (fun c_20 => ?_) | refine g_icmp_ne (tgt := 51) dX22_decisions_20 (by decide) (fun c_20 => ?_) (fun c_20 => ?_)
        · refine g_iconst (nI 0) dX22_decisions_51 (by decide) ?_
          first | refine g_iaddN dX22_decisions_52 ?_ | refine g_iadd dX22_decisions_52 ?_
          refine g_istore2 dX22_decisions_53 (by decide) ?_
          first | refine g_iincN3 1 dX22_decisions_54 (by decide) (by decide) ?_ | refine g_iinc3 _ dX22_decisions_54 rfl (by decide) ?_
          refine g_goto (tgt := 4) dX22_decisions_57 (by decide) ?_
          first | (have e : pwN g s m i + 0 = pwN g s m (i + 1) := (by show _ = pwN g s m i + _; rw [if_neg (fun z => by have := z.1; omega)]); rw [e]; exact ih (i + 1) (by omega)) | (have e : pwN g s m i + 0 = pwN g s m (i + 1) := (by show _ = pwN g s m i + _; rw [if_neg (fun z => by rw [if_pos z.2.1] at e1; omega)]); rw [e]; exact ih (i + 1) (by omega)) | (have e : pwN g s m i + 0 = pwN g s m (i + 1) := (by show _ = pwN g s m i + _; rw [if_neg (fun z => by rw [if_neg z.2.2] at e2; omega)]); rw [e]; exact ih (i + 1) (by omega)) | (have e : pwN g s m i + 1 = pwN g s m (i + 1) := (by show _ = pwN g s m i + _; rw [if_pos ⟨by omega, by by_cases q : opF g s i; exact q; rw [if_neg q] at e1; omega, fun q => by rw [if_pos q] at e2; omega⟩]); rw [e]; exact ih (i + 1) (by omega))
        · first | refine g_aload0 dX22_decisions_23 ?_ | refine g_aloadQ0 dX22_decisions_23 ?_ | refine g_aloadN0 dX22_decisions_23 ?_
          refine g_get (k0 := 0) (by first | assumption | exact g_up_self _ _ _ | (refine g_upf ?_ ?_ <;> assumption) | (refine g_upt ?_ ?_ (by decide) <;> assumption)) in_X22 q1984 rfl (by decide) rfl dX22_decisions_24 ?_
          refine g_iload3 dX22_decisions_27 ?_
          refine g_zaldN (by first | assumption | exact g_up_self _ _ _ | (refine g_upf ?_ ?_ <;> assumption) | (refine g_upt ?_ ?_ (by decide) <;> assumption)) (by omega) (by omega) dX22_decisions_28 ?_
          first | refine g_ifN_eq (tgt := 51) dX22_decisions_29 (by decide) (by omega) (fun c_29 => ?_) (fun c_29 => ?_) | refine g_if_eq (tgt := 51) dX22_decisions_29 (by decide) (fun c_29 => ?_) (fun c_29 => ?_)
          · refine g_iconst (nI 0) dX22_decisions_51 (by decide) ?_
            first | refine g_iaddN dX22_decisions_52 ?_ | refine g_iadd dX22_decisions_52 ?_
            refine g_istore2 dX22_decisions_53 (by decide) ?_
            first | refine g_iincN3 1 dX22_decisions_54 (by decide) (by decide) ?_ | refine g_iinc3 _ dX22_decisions_54 rfl (by decide) ?_
            refine g_goto (tgt := 4) dX22_decisions_57 (by decide) ?_
            first | (have e : pwN g s m i + 0 = pwN g s m (i + 1) := (by show _ = pwN g s m i + _; rw [if_neg (fun z => by have := z.1; omega)]); rw [e]; exact ih (i + 1) (by omega)) | (have e : pwN g s m i + 0 = pwN g s m (i + 1) := (by show _ = pwN g s m i + _; rw [if_neg (fun z => by rw [if_pos z.2.1] at e1; omega)]); rw [e]; exact ih (i + 1) (by omega)) | (have e : pwN g s m i + 0 = pwN g s m (i + 1) := (by show _ = pwN g s m i + _; rw [if_neg (fun z => by rw [if_neg z.2.2] at e2; omega)]); rw [e]; exact ih (i + 1) (by omega)) | (have e : pwN g s m i + 1 = pwN g s m (i + 1) := (by show _ = pwN g s m i + _; rw [if_pos ⟨by omega, by by_cases q : opF g s i; exact q; rw [if_neg q] at e1; omega, fun q => by rw [if_pos q] at e2; omega⟩]); rw [e]; exact ih (i + 1) (by omega))
          · first | refine g_aload0 dX22_decisions_32 ?_ | refine g_aloadQ0 dX22_decisions_32 ?_ | refine g_aloadN0 dX22_decisions_32 ?_
            refine g_get (k0 := 0) (by first | assumption | exact g_up_self _ _ _ | (refine g_upf ?_ ?_ <;> assumption) | (refine g_upt ?_ ?_ (by decide) <;> assumption)) in_X22 q1984 rfl (by decide) rfl dX22_decisions_33 ?_
            refine g_iload3 dX22_decisions_36 ?_
            refine g_iconst (nI 1) dX22_decisions_37 (by decide) ?_
            refine g_iload1 dX22_decisions_38 ?_
            refine g_ishlN dX22_decisions_39 (by omega) (by omega) ?_
            refine g_iconst (nI 4294967295) dX22_decisions_40 (by decide) ?_
            first | refine g_ixorN dX22_decisions_41 ?_ | refine g_ixor dX22_decisions_41 ?_
            first | refine g_iandN dX22_decisions_42 ?_ | refine g_iand dX22_decisions_42 ?_
            refine g_zaldN (by first | assumption | exact g_up_self _ _ _ | (refine g_upf ?_ ?_ <;> assumption) | (refine g_upt ?_ ?_ (by decide) <;> assumption)) (by omega) (by omega) dX22_decisions_43 ?_
            first | refine g_ifN_ne (tgt := 51) dX22_decisions_44 (by decide) (by omega) (fun c_44 => ?_) (fun c_44 => ?_) | refine g_if_ne (tgt := 51) dX22_decisions_44 (by decide) (fun c_44 => ?_) (fun c_44 => ?_)
            · refine g_iconst (nI 0) dX22_decisions_51 (by decide) ?_
              first | refine g_iaddN dX22_decisions_52 ?_ | refine g_iadd dX22_decisions_52 ?_
              refine g_istore2 dX22_decisions_53 (by decide) ?_
              first | refine g_iincN3 1 dX22_decisions_54 (by decide) (by decide) ?_ | refine g_iinc3 _ dX22_decisions_54 rfl (by decide) ?_
              refine g_goto (tgt := 4) dX22_decisions_57 (by decide) ?_
              first | (have e : pwN g s m i + 0 = pwN g s m (i + 1) := (by show _ = pwN g s m i + _; rw [if_neg (fun z => by have := z.1; omega)]); rw [e]; exact ih (i + 1) (by omega)) | (have e : pwN g s m i + 0 = pwN g s m (i + 1) := (by show _ = pwN g s m i + _; rw [if_neg (fun z => by rw [if_pos z.2.1] at e1; omega)]); rw [e]; exact ih (i + 1) (by omega)) | (have e : pwN g s m i + 0 = pwN g s m (i + 1) := (by show _ = pwN g s m i + _; rw [if_neg (fun z => by rw [if_neg z.2.2] at e2; omega)]); rw [e]; exact ih (i + 1) (by omega)) | (have e : pwN g s m i + 1 = pwN g s m (i + 1) := (by show _ = pwN g s m i + _; rw [if_pos ⟨by omega, by by_cases q : opF g s i; exact q; rw [if_neg q] at e1; omega, fun q => by rw [if_pos q] at e2; omega⟩]); rw [e]; exact ih (i + 1) (by omega))
            · refine g_iconst (nI 1) dX22_decisions_47 (by decide) ?_
              refine g_goto (tgt := 52) dX22_decisions_48 (by decide) ?_
              first | refine g_iaddN dX22_decisions_52 ?_ | refine g_iadd dX22_decisions_52 ?_
              refine g_istore2 dX22_decisions_53 (by decide) ?_
              first | refine g_iincN3 1 dX22_decisions_54 (by decide) (by decide) ?_ | refine g_iinc3 _ dX22_decisions_54 rfl (by decide) ?_
              refine g_goto (tgt := 4) dX22_decisions_57 (by decide) ?_
              first | (have e : pwN g s m i + 0 = pwN g s m (i + 1) := (by show _ = pwN g s m i + _; rw [if_neg (fun z => by have := z.1; omega)]); rw [e]; exact ih (i + 1) (by omega)) | (have e : pwN g s m i + 0 = pwN g s m (i + 1) := (by show _ = pwN g s m i + _; rw [if_neg (fun z => by rw [if_pos z.2.1] at e1; omega)]); rw [e]; exact ih (i + 1) (by omega)) | (have e : pwN g s m i + 0 = pwN g s m (i + 1) := (by show _ = pwN g s m i + _; rw [if_neg (fun z => by rw [if_neg z.2.2] at e2; omega)]); rw [e]; exact ih (i + 1) (by omega)) | (have e : pwN g s m i + 1 = pwN g s m (i + 1) := (by show _ = pwN g s m i + _; rw [if_pos ⟨by omega, by by_cases q : opF g s i; exact q; rw [if_neg q] at e1; omega, fun q => by rw [if_pos q] at e2; omega⟩]); rw [e]; exact ih (i + 1) (by omega))
  refine g_iconst (nI 0) dX22_decisions_0 (by decide) ?_
  refine g_istore2 dX22_decisions_1 (by decide) ?_
  refine g_iconst (nI 0) dX22_decisions_2 (by decide) ?_
  refine g_istore3 dX22_decisions_3 (by decide) ?_
  exact K 256 0 (by omega)
theorem smS_y {g : Nat → Nat} {s set m : Nat} (h : set / 2 ^ m % 2 = 0 ∨ ¬ opF g s (clB set m)) : smS g s set m % 2 = smS g s set (m + 1) := by
  have := smS_l g s set m
  show _ = if _ then 1 else 0
  by_cases e : smS g s set m = 1
  · rw [if_pos ⟨e, h⟩, e]
  · rw [if_neg (fun z => e z.1)]
    omega
theorem smS_n {g : Nat → Nat} {s set m : Nat} (h : ¬ (set / 2 ^ m % 2 = 0 ∨ ¬ opF g s (clB set m))) : smS g s set m &&& 0 = smS g s set (m + 1) := by
  rw [Nat.and_zero]
  show _ = if _ then 1 else 0
  rw [if_neg (fun z => h z.2)]
abbrev mX22_isSmallest : GM := (yX22_isSmallest, 4, (some .boolean), [], { frames := 0, cells := 0, slots := 0, locals := 0 }, 255)
theorem kX22_isSmallest : gCv cX22_isSmallest mX22_isSmallest 1 := ⟨q2000, q2001, q118, q2002, ⟨by decide +kernel, by decide +kernel, by decide +kernel⟩, rfl⟩
theorem uX22_isSmallest : gCu cX22_isSmallest mX22_isSmallest 1 := ⟨q2000, q118, q2002, ⟨by decide +kernel, by decide +kernel, by decide +kernel⟩, rfl⟩
set_option maxHeartbeats 400000 in
theorem ctX22_isSmallest {E : GE} {h : AH} {q s : Nat} {g : Nat → Nat} (set : Nat) (hg : GR E h q g s) (hset : set < 256) : Ct E cX22_isSmallest mX22_isSmallest [.ref q, .int (nI set)] (h) (pN fun r h' => r = (smS g s set 8) ∧ h' = h) (noX) := by
  refine g_enter (own := "SecretVault$Groups") [some (.ref q), some (.int (nI set)), none, none] (by decide +kernel) rfl rfl (Nat.le_of_ble_eq_true rfl) rfl rfl (fun X => ?_)
  obtain ⟨arr, F, z1, z2, z3⟩ := hg
  have K : ∀ n m, n + m = 8 → V E cX22_isSmallest "SecretVault$Groups" mX22_isSmallest (pN fun r h' => r = (smS g s set 8) ∧ h' = h) noX X (h) 0 0 9 [some (.ref q), some (.int (nI set)), some (.int (nI (smS g s set m))), some (.int (nI m))] [] := by
    intro n
    induction n with
    | zero =>
      intro m hn0
      obtain rfl : m = 8 := by omega
      have hl := smS_l g s set 8
      refine g_iload3 dX22_isSmallest_9 ?_
      refine g_bipush (nI 8) dX22_isSmallest_10 (by decide) ?_
      first | refine g_icmpN_ge (tgt := 52) dX22_isSmallest_12 (by decide) (by omega) (by omega) (fun c_12 => ?_) (fun c_12 => ?_) | refine g_icmp_ge (tgt := 52) dX22_isSmallest_12 (by decide) (fun c_12 => ?_) (fun c_12 => ?_)
      · refine g_iload2 dX22_isSmallest_52 ?_
        exact g_zret dX22_isSmallest_53 rfl (nar_zb (by omega)) ⟨_, rfl, rfl, rfl⟩
      · omega
    | succ n ih =>
      intro m hn0
      have hl := smS_l g s set m
      have hp2 : 2 ^ m < 2 ^ 8 := Nat.pow_lt_pow_right (by decide) (by omega)
      have hdv : set / 2 ^ m ≤ set := Nat.div_le_self _ _
      have hcl : set &&& (1 * 2 ^ m ^^^ 4294967295) ≤ set := Nat.and_le_left
      have e2 : F (set &&& (1 * 2 ^ m ^^^ 4294967295)) = if opF g s (clB set m) then 1 else 0 := z3 _ (by omega)
      have hF3 : F (set &&& (1 * 2 ^ m ^^^ 4294967295)) < 2 := by rw [e2]; split <;> decide
      refine g_iload3 dX22_isSmallest_9 ?_
      refine g_bipush (nI 8) dX22_isSmallest_10 (by decide) ?_
      first | refine g_icmpN_ge (tgt := 52) dX22_isSmallest_12 (by decide) (by omega) (by omega) (fun c_12 => ?_) (fun c_12 => ?_) | refine g_icmp_ge (tgt := 52) dX22_isSmallest_12 (by decide) (fun c_12 => ?_) (fun c_12 => ?_)
      · omega
      · refine g_iload2 dX22_isSmallest_15 ?_
        refine g_iload1 dX22_isSmallest_16 ?_
        refine g_iload3 dX22_isSmallest_17 ?_
        refine g_ishrN dX22_isSmallest_18 (by omega) (by omega) ?_
        refine g_iconst (nI 1) dX22_isSmallest_19 (by decide) ?_
        refine g_iand1 dX22_isSmallest_20 (by omega) ?_
        first | refine g_ifN_eq (tgt := 39) dX22_isSmallest_21 (by decide) (by omega) (fun c_21 => ?_) (fun c_21 => ?_) | refine g_if_eq (tgt := 39) dX22_isSmallest_21 (by decide) (fun c_21 => ?_) (fun c_21 => ?_)
        · refine g_iconst (nI 1) dX22_isSmallest_39 (by decide) ?_
          refine g_goto (tgt := 44) dX22_isSmallest_40 (by decide) ?_
          refine g_iand1 dX22_isSmallest_44 (by omega) ?_
          refine g_istore2 dX22_isSmallest_45 (by decide) ?_
          first | refine g_iincN3 1 dX22_isSmallest_46 (by decide) (by decide) ?_ | refine g_iinc3 _ dX22_isSmallest_46 rfl (by decide) ?_
          refine g_goto (tgt := 9) dX22_isSmallest_49 (by decide) ?_
          first | (rw [smS_y (Or.inl (by omega))]; exact ih (m + 1) (by omega)) | (rw [smS_y (Or.inr (fun z => by rw [if_pos z] at e2; omega))]; exact ih (m + 1) (by omega)) | (rw [smS_n (fun z => by rcases z with z | z; omega; rw [if_neg z] at e2; omega)]; exact ih (m + 1) (by omega))
        · first | refine g_aload0 dX22_isSmallest_24 ?_ | refine g_aloadQ0 dX22_isSmallest_24 ?_ | refine g_aloadN0 dX22_isSmallest_24 ?_
          refine g_get (k0 := 0) (by first | assumption | exact g_up_self _ _ _ | (refine g_upf ?_ ?_ <;> assumption) | (refine g_upt ?_ ?_ (by decide) <;> assumption)) in_X22 q1984 rfl (by decide) rfl dX22_isSmallest_25 ?_
          refine g_iload1 dX22_isSmallest_28 ?_
          refine g_iconst (nI 1) dX22_isSmallest_29 (by decide) ?_
          refine g_iload3 dX22_isSmallest_30 ?_
          refine g_ishlN dX22_isSmallest_31 (by omega) (by omega) ?_
          refine g_iconst (nI 4294967295) dX22_isSmallest_32 (by decide) ?_
          first | refine g_ixorN dX22_isSmallest_33 ?_ | refine g_ixor dX22_isSmallest_33 ?_
          first | refine g_iandN dX22_isSmallest_34 ?_ | refine g_iand dX22_isSmallest_34 ?_
          refine g_zaldN (by first | assumption | exact g_up_self _ _ _ | (refine g_upf ?_ ?_ <;> assumption) | (refine g_upt ?_ ?_ (by decide) <;> assumption)) (by omega) (by omega) dX22_isSmallest_35 ?_
          first | refine g_ifN_ne (tgt := 43) dX22_isSmallest_36 (by decide) (by omega) (fun c_36 => ?_) (fun c_36 => ?_) | refine g_if_ne (tgt := 43) dX22_isSmallest_36 (by decide) (fun c_36 => ?_) (fun c_36 => ?_)
          · refine g_iconst (nI 0) dX22_isSmallest_43 (by decide) ?_
            first | refine g_iandN dX22_isSmallest_44 ?_ | refine g_iand dX22_isSmallest_44 ?_
            refine g_istore2 dX22_isSmallest_45 (by decide) ?_
            first | refine g_iincN3 1 dX22_isSmallest_46 (by decide) (by decide) ?_ | refine g_iinc3 _ dX22_isSmallest_46 rfl (by decide) ?_
            refine g_goto (tgt := 9) dX22_isSmallest_49 (by decide) ?_
            first | (rw [smS_y (Or.inl (by omega))]; exact ih (m + 1) (by omega)) | (rw [smS_y (Or.inr (fun z => by rw [if_pos z] at e2; omega))]; exact ih (m + 1) (by omega)) | (rw [smS_n (fun z => by rcases z with z | z; omega; rw [if_neg z] at e2; omega)]; exact ih (m + 1) (by omega))
          · refine g_iconst (nI 1) dX22_isSmallest_39 (by decide) ?_
            refine g_goto (tgt := 44) dX22_isSmallest_40 (by decide) ?_
            refine g_iand1 dX22_isSmallest_44 (by omega) ?_
            refine g_istore2 dX22_isSmallest_45 (by decide) ?_
            first | refine g_iincN3 1 dX22_isSmallest_46 (by decide) (by decide) ?_ | refine g_iinc3 _ dX22_isSmallest_46 rfl (by decide) ?_
            refine g_goto (tgt := 9) dX22_isSmallest_49 (by decide) ?_
            first | (rw [smS_y (Or.inl (by omega))]; exact ih (m + 1) (by omega)) | (rw [smS_y (Or.inr (fun z => by rw [if_pos z] at e2; omega))]; exact ih (m + 1) (by omega)) | (rw [smS_n (fun z => by rcases z with z | z; omega; rw [if_neg z] at e2; omega)]; exact ih (m + 1) (by omega))
  have e1 := z3 set (by omega)
  first | refine g_aload0 dX22_isSmallest_0 ?_ | refine g_aloadQ0 dX22_isSmallest_0 ?_ | refine g_aloadN0 dX22_isSmallest_0 ?_
  refine g_get (k0 := 0) (by first | assumption | exact g_up_self _ _ _ | (refine g_upf ?_ ?_ <;> assumption) | (refine g_upt ?_ ?_ (by decide) <;> assumption)) in_X22 q1984 rfl (by decide) rfl dX22_isSmallest_1 ?_
  refine g_iload1 dX22_isSmallest_4 ?_
  refine g_zaldN z2 (by omega) (by omega) dX22_isSmallest_5 ?_
  rw [e1]
  refine g_istore2 dX22_isSmallest_6 (by decide) ?_
  refine g_iconst (nI 0) dX22_isSmallest_7 (by decide) ?_
  refine g_istore3 dX22_isSmallest_8 (by decide) ?_
  exact K 8 0 (by omega)
theorem pmF_bit (g : Nat → Nat) : ∀ m j, j < m → (pmF g m).testBit j = decide (g (9 + j) = 1)
  | 0, j, h => absurd h (Nat.not_lt_zero j)
  | m + 1, j, h => by
    show (pmF g m ||| (if g (9 + m) = 1 then 1 * 2 ^ m else 0)).testBit j = _
    rw [Nat.testBit_or]
    by_cases hj : j = m
    · subst hj
      rw [Nat.testBit_lt_two_pow (pmF_lt g j), Bool.false_or]
      by_cases h1 : g (9 + j) = 1
      · rw [if_pos h1, Nat.one_mul, Nat.testBit_two_pow]
        simp [h1]
      · rw [if_neg h1, Nat.zero_testBit]
        simp [h1]
    · rw [pmF_bit g m j (by omega)]
      have e : (if g (9 + m) = 1 then 1 * 2 ^ m else 0).testBit j = false := by
        split
        · rw [Nat.one_mul, Nat.testBit_two_pow, decide_eq_false (fun z => hj z.symm)]
        · exact Nat.zero_testBit j
      rw [e, Bool.or_false]
theorem tkF_bit {g : Nat → Nat} {mem m j : Nat} (h : j < m) : tkF g mem m / 2 ^ j % 2 = 1 ↔ mem / 2 ^ j % 2 = 1 ∧ g (9 + j) = 1 := by
  have e1 : (tkF g mem m).testBit j = (mem.testBit j && decide (g (9 + j) = 1)) := by
    rw [← pmF_tk, Nat.testBit_and, pmF_bit g m j h]
  rw [Nat.testBit_eq_decide_div_mod_eq, Nat.testBit_eq_decide_div_mod_eq] at e1
  by_cases h1 : tkF g mem m / 2 ^ j % 2 = 1
  · rw [decide_eq_true h1] at e1
    have e2 := e1.symm
    rw [Bool.and_eq_true, decide_eq_true_eq, decide_eq_true_eq] at e2
    exact ⟨fun _ => e2, fun _ => h1⟩
  · rw [decide_eq_false h1] at e1
    refine ⟨fun z => absurd z h1, fun z => ?_⟩
    rw [decide_eq_true z.1, decide_eq_true z.2] at e1
    cases e1
theorem tl_step (g : Nat → Nat) (s T n : Nat) : (tlL g s T 1 (n + 1)).length = (tlL g s T 1 n).length + (if T / 2 ^ (n / 3) % 2 = 1 ∧ gSh g s (n + 1) 0 = 1 ∧ stF g s (n + 1) = 0 then 1 else 0) := by
  show (if _ then _ else _ : List Nat).length = _
  by_cases h : T / 2 ^ (n / 3) % 2 = 1 ∧ gSh g s (n + 1) 0 = 1 ∧ stF g s (n + 1) = 0
  · rw [if_pos h, if_pos (show tlC g s T 1 (n + 1) from ⟨h.1, h.2.1, Or.inr h.2.2⟩), List.length_append, List.length_singleton]
  · rw [if_neg h, if_neg (show ¬ tlC g s T 1 (n + 1) from fun z => h ⟨z.1, z.2.1, z.2.2.resolve_left (by decide)⟩)]
    rfl
theorem tl_3 (g : Nat → Nat) (s T m : Nat) : (tlL g s T 1 (3 * (m + 1))).length = (tlL g s T 1 (3 * m)).length + (if T / 2 ^ m % 2 = 1 then gdF g s m 3 else 0) := by
  rw [show 3 * (m + 1) = 3 * m + 1 + 1 + 1 by omega, tl_step, tl_step, tl_step, show (3 * m + 1 + 1) / 3 = m by omega, show (3 * m + 1) / 3 = m by omega, show 3 * m / 3 = m by omega]
  by_cases h : T / 2 ^ m % 2 = 1
  · rw [if_pos h]
    simp only [h, true_and]
    show _ = (tlL g s T 1 (3 * m)).length + (0 + (if gSh g s (3 * m + 1 + 0) 0 = 1 ∧ stF g s (3 * m + 1 + 0) = 0 then 1 else 0) + (if gSh g s (3 * m + 1 + 1) 0 = 1 ∧ stF g s (3 * m + 1 + 1) = 0 then 1 else 0) + (if gSh g s (3 * m + 1 + 2) 0 = 1 ∧ stF g s (3 * m + 1 + 2) = 0 then 1 else 0))
    rw [show 3 * m + 1 + 0 = 3 * m + 1 from rfl, show 3 * m + 1 + 2 = 3 * m + 1 + 1 + 1 from rfl]
    omega
  · rw [if_neg h]
    simp only [h, false_and, if_false]
/-- good shares of a set's members that are there, of the first m members -/
def sgF (g : Nat → Nat) (s set : Nat) : Nat → Nat
  | 0 => 0
  | m + 1 => sgF g s set m + (if set / 2 ^ m % 2 = 1 then (if g (9 + m) = 1 then gdF g s m 3 else 0) else 0)
theorem sgF_tl (g : Nat → Nat) (s set : Nat) : ∀ m, m ≤ 8 → sgF g s set m = (tlL g s (tkF g set 8) 1 (3 * m)).length
  | 0, _ => rfl
  | m + 1, h => by
    rw [tl_3, ← sgF_tl g s set m (by omega)]
    show sgF g s set m + _ = _
    congr 1
    have hb := tkF_bit (g := g) (mem := set) (m := 8) (j := m) (by omega)
    by_cases h1 : set / 2 ^ m % 2 = 1
    · by_cases h2 : g (9 + m) = 1
      · rw [if_pos h1, if_pos h2, if_pos (hb.mpr ⟨h1, h2⟩)]
      · rw [if_pos h1, if_neg h2, if_neg (fun z => h2 (hb.mp z).2)]
    · rw [if_neg h1, if_neg (fun z => h1 (hb.mp z).1)]
