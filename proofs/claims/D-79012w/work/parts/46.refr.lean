/-! THE WORLD: renewal -/
set_option maxRecDepth 100000
/-- how many shares are renewed at the first n places -/
def rcF (g : Nat → Nat) (s e : Nat) : Nat → Nat
  | 0 => 0
  | y + 1 => rcF g s e y + (if rfU g s e (y + 1) then 1 else 0)
theorem rcF_y {g : Nat → Nat} {s e y : Nat} (h : rfU g s e (y + 1)) : rcF g s e y + 1 = rcF g s e (y + 1) := by
  show _ = rcF g s e y + _
  rw [if_pos h]
theorem rcF_n {g : Nat → Nat} {s e y : Nat} (h : ¬ rfU g s e (y + 1)) : rcF g s e y = rcF g s e (y + 1) := by
  show _ = rcF g s e y + _
  rw [if_neg h]
  rfl
/-- a share behind a renewal -/
def rsC (g cf : Nat → Nat) (s k e x : Nat) : va_E := if rfU g s e x then gO 4 [.int (nI x), .int (nI ((gSh g s x 1 + poD cf x k 0) % 1019)), .int (nI (e + 1))] else shC g s x
def rsO (S : Nat) (g cf : Nat → Nat) (s k e x : Nat) (o : Option Nat) (h : AH) : Prop := (gSh g s x 0 = 1 ∧ ∃ q, o = some q ∧ h q = some (S + 3 + x, rsC g cf s k e x)) ∨ (¬ gSh g s x 0 = 1 ∧ o = none)
theorem rsO.fr {S : Nat} {g cf : Nat → Nat} {s k e x : Nat} {o : Option Nat} {h h' : AH} {P : Nat → Prop} (hd : rsO S g cf s k e x o h) (hf : Fr P h h') (hp : ¬ P (S + 3 + x)) : rsO S g cf s k e x o h' := by
  rcases hd with ⟨h1, q, h2, h3⟩ | hd
  · exact Or.inl ⟨h1, q, h2, hf _ _ _ h3 hp⟩
  · exact Or.inr hd
theorem rsO.same {S : Nat} {g cf : Nat → Nat} {s k e x : Nat} {o : Option Nat} {h : AH} (hs : shO S g s x o h) (hn : ¬ rfU g s e x) : rsO S g cf s k e x o h := by
  rcases hs with ⟨h1, q, h2, h3⟩ | hs
  · refine Or.inl ⟨h1, q, h2, ?_⟩
    unfold rsC
    rw [if_neg hn]
    exact h3
  · exact Or.inr hs
abbrev rfP9 (B S : Nat) : Nat → Prop := fun u => u = B ∨ (S ≤ u ∧ u < S + 28)
def rfW (E : GE) (B S : Nat) (g : Nat → Nat) (s w a b c aw ap : Nat) (v2 v3 pv : Value) (z k e : Nat) (fc : Nat → Nat) (fs : Nat → Option Nat) (h h' : AH) : Prop := ∃ G, h' w = some (B, gO 1 [.ref aw, .ref ap, v2, v3, .int (nI (zI z (k - 1)))]) ∧ h' a = some (S, gO 3 [.int (nI k), .int (nI (e + 1)), .ref c, pv, .ref b]) ∧ h' c = some (S + 1, gAIn E k G) ∧ (∀ j, j < k → G j = fc j * (4 ^ cfF z 0 j % 2039) % 2039) ∧ h' b = some (S + 2, gAR E 7 25 fs) ∧ (∀ x, 1 ≤ x → x ≤ 24 → rsO S g (cfF z 0) s k e x (fs x) h') ∧ Fr (rfP9 B S) h h'
abbrev mX2_refresh : GM := (yX2_refresh, 6, (some .int), [], { frames := 2, cells := 1, slots := 8, locals := 47 }, 255)
theorem kX2_refresh : gCv cX2_refresh mX2_refresh 1 := ⟨q1152, q1153, q68, q1154, ⟨by decide +kernel, by decide +kernel, by decide +kernel⟩, rfl⟩
theorem uX2_refresh : gCu cX2_refresh mX2_refresh 1 := ⟨q1152, q68, q1154, ⟨by decide +kernel, by decide +kernel, by decide +kernel⟩, rfl⟩
set_option maxHeartbeats 400000 in
theorem ctX2_refresh {E : GE} {h : AH} {B S s w a b c aw ap z k9 e : Nat} {g fw fp fc : Nat → Nat} {fs : Nat → Option Nat} {v2 v3 pv : Value} (hwz : h w = some (B, gO 1 [.ref aw, .ref ap, v2, v3, .int (nI (zI z 0))])) (z2 : h aw = some (B + 1, gAIn E 8 fw)) (z4 : h ap = some (B + 2, gAZn E 8 fp)) (z5 : ∀ m, m < 8 → fp m = g (9 + m)) (hbb : wB g) (ha : h a = some (S, gO 3 [.int (nI k9), .int (nI e), .ref c, pv, .ref b])) (hc : h c = some (S + 1, gAIn E k9 fc)) (hfc : ∀ j, j < k9 → fc j < 2039) (hb : h b = some (S + 2, gAR E 7 25 fs)) (hsh : ∀ x, 1 ≤ x → x ≤ 24 → shO S g s x (fs x) h) (hshb : ∀ x, 1 ≤ x → x ≤ 24 → gSh g s x 1 < 1019 ∧ gSh g s x 2 < 1000000) (he : e < 1000000) (hk : 1 ≤ k9 ∧ k9 ≤ 8) (hBS : B + 10 ≤ S ∧ S + 28 ≤ 1000) : Ct E cX2_refresh mX2_refresh [.ref w, .ref a] (h) (pN fun r h' => r = rcF g s e 24 ∧ rfW E B S g s w a b c aw ap v2 v3 pv z k9 e fc fs h h') (noX) := by
  refine g_enter (own := "SecretVault$World") [some (.ref w), some (.ref a), none, none, none, none] (by decide +kernel) rfl rfl (Nat.le_of_ble_eq_true rfl) rfl rfl (fun X => ?_)
  have hcl : ∀ j, cfF z 0 j < 1019 := fun j => cfF_lt2 (by decide) j
  have K1 : ∀ cf n j (hq : AH) G F l5, n + j = k9 → hq w = some (B, gO 1 [.ref aw, .ref ap, v2, v3, .int (nI (zI z (k9 - 1)))]) → hq a = some (S, gO 3 [.int (nI k9), .int (nI (e + 1)), .ref c, pv, .ref b]) → hq c = some (S + 1, gAIn E k9 G) → hq b = some (S + 2, gAR E 7 25 fs) → hq cf = some (1060, gAIn E k9 F) → (∀ j, j < k9 → F j = cfF z 0 j) → Fr (rfP9 B S) h hq → (∀ i, i < j → G i = fc i * (4 ^ cfF z 0 i % 2039) % 2039) → (∀ i, j ≤ i → i < k9 → G i = fc i) → (∀ x, 1 ≤ x → x ≤ 24 → rsO S g (cfF z 0) s k9 e x (fs x) hq) → V E cX2_refresh "SecretVault$World" mX2_refresh (pN fun r h' => r = rcF g s e 24 ∧ rfW E B S g s w a b c aw ap v2 v3 pv z k9 e fc fs h h') noX X (hq) 1 8 115 [some (.ref w), some (.ref a), some (.ref cf), some (.int (nI (rcF g s e 24))), some (.int (nI j)), l5] [] := by
    intro cf n
    induction n with
    | zero =>
      intro j hq G F l5 hn0 q1 q2 q3 q4 q5 hFc hF g1 g2 hd
      obtain rfl : j = k9 := by omega
      refine g_iload4 dX2_refresh_115 ?_
      first | refine g_aload1 dX2_refresh_117 ?_ | refine g_aloadQ1 dX2_refresh_117 ?_ | refine g_aloadN1 dX2_refresh_117 ?_
      refine g_getN (k0 := 0) (by first | assumption | exact g_up_self _ _ _ | (refine g_upf ?_ ?_ <;> assumption) | (refine g_upt ?_ ?_ (by decide) <;> assumption)) in_X5 q656 rfl (by decide) rfl dX2_refresh_118 ?_
      first | refine g_icmpN_ge (tgt := 161) dX2_refresh_121 (by decide) (by omega) (by omega) (fun c_121 => ?_) (fun c_121 => ?_) | refine g_icmp_ge (tgt := 161) dX2_refresh_121 (by decide) (fun c_121 => ?_) (fun c_121 => ?_)
      · refine g_iload3 dX2_refresh_161 ?_
        exact g_iret dX2_refresh_162 rfl ⟨_, rfl, rfl, G, q1, q2, q3, g1, q4, hd, hF⟩
      · omega
    | succ n ih =>
      intro j hq G F l5 hn0 q1 q2 q3 q4 q5 hFc hF g1 g2 hd
      have hcj := hFc j (by omega)
      have hcj2 := hcl j
      have hgj := g2 j (Nat.le_refl _) (by omega)
      have hfj := hfc j (by omega)
      refine g_iload4 dX2_refresh_115 ?_
      first | refine g_aload1 dX2_refresh_117 ?_ | refine g_aloadQ1 dX2_refresh_117 ?_ | refine g_aloadN1 dX2_refresh_117 ?_
      refine g_getN (k0 := 0) (by first | assumption | exact g_up_self _ _ _ | (refine g_upf ?_ ?_ <;> assumption) | (refine g_upt ?_ ?_ (by decide) <;> assumption)) in_X5 q656 rfl (by decide) rfl dX2_refresh_118 ?_
      first | refine g_icmpN_ge (tgt := 161) dX2_refresh_121 (by decide) (by omega) (by omega) (fun c_121 => ?_) (fun c_121 => ?_) | refine g_icmp_ge (tgt := 161) dX2_refresh_121 (by decide) (fun c_121 => ?_) (fun c_121 => ?_)
      · omega
      · first | refine g_aload1 dX2_refresh_124 ?_ | refine g_aloadQ1 dX2_refresh_124 ?_ | refine g_aloadN1 dX2_refresh_124 ?_
        refine g_getN (k0 := 2) (by first | assumption | exact g_up_self _ _ _ | (refine g_upf ?_ ?_ <;> assumption) | (refine g_upt ?_ ?_ (by decide) <;> assumption)) in_X5 q665 rfl (by decide) rfl dX2_refresh_125 ?_
        refine g_iload4 dX2_refresh_128 ?_
        first | refine g_aload1 dX2_refresh_130 ?_ | refine g_aloadQ1 dX2_refresh_130 ?_ | refine g_aloadN1 dX2_refresh_130 ?_
        refine g_getN (k0 := 2) (by first | assumption | exact g_up_self _ _ _ | (refine g_upf ?_ ?_ <;> assumption) | (refine g_upt ?_ ?_ (by decide) <;> assumption)) in_X5 q665 rfl (by decide) rfl dX2_refresh_131 ?_
        refine g_iload4 dX2_refresh_134 ?_
        refine g_ialdN q3 (by omega) (by omega) dX2_refresh_136 ?_
        rw [hgj]
        refine g_iconst (nI 4) dX2_refresh_137 (by decide) ?_
        first | refine g_aload2 dX2_refresh_138 ?_ | refine g_aloadQ2 dX2_refresh_138 ?_ | refine g_aloadN2 dX2_refresh_138 ?_
        refine g_iload4 dX2_refresh_139 ?_
        refine g_ialdN q5 (by omega) (by omega) dX2_refresh_141 ?_
        rw [hcj]
        refine g_sipush (nI 2039) dX2_refresh_142 (by decide) ?_
        refine g_callSN (ctX1_power 4 _ 2039 (by omega) (by have := hcl j; omega) (by omega)) kX1_power q1099 (by decide) ⟨by decide, by decide⟩ rfl (Nat.le_of_ble_eq_true rfl) dX2_refresh_145 k_x (k_n (fun r_145 h_145 p_145 => ?_))
        obtain ⟨rfl, z_145⟩ := p_145
        rw [z_145]
        refine V.wide (k' := 1) (n' := 8) (Nat.le_refl _) (Nat.le_refl _) ?_
        have hpl : 4 ^ cfF z 0 j % 2039 < 2039 := Nat.mod_lt _ (by decide)
        refine g_sipush (nI 2039) dX2_refresh_148 (by decide) ?_
        refine g_callSN (ctX1_times _ _ _ (by omega) (by omega) (by omega)) kX1_times q1155 (by decide) ⟨by decide, by decide⟩ rfl (Nat.le_of_ble_eq_true rfl) dX2_refresh_151 k_x (k_n (fun r_151 h_151 p_151 => ?_))
        obtain ⟨rfl, z_151⟩ := p_151
        rw [z_151]
        refine V.wide (k' := 1) (n' := 8) (Nat.le_refl _) (Nat.le_refl _) ?_
        refine g_iastN q3 (by omega) (by omega) dX2_refresh_154 ?_
        first | refine g_iincN4 1 dX2_refresh_155 (by decide) (by decide) ?_ | refine g_iinc4 _ dX2_refresh_155 rfl (by decide) ?_
        refine g_goto (tgt := 115) dX2_refresh_158 (by decide) ?_
        exact ih (j + 1) _ _ F _ (by omega) (g_upt q1 q3 (by omega)) (g_upt q2 q3 (by omega)) (g_up_self _ _ _) (g_upt q4 q3 (by omega)) (g_upt q5 q3 (by omega)) hFc (hF.put2 q3 (Or.inr (by omega)) rfl) (fun i hi => by by_cases ei : i = j; (rw [ei, nup_self]); (rw [nup_ne _ _ ei]; exact g1 i (by omega))) (fun i hi hi2 => by rw [nup_ne _ _ (by omega)]; exact g2 i (by omega) hi2) (fun x x1 x2 => (hd x x1 x2).fr (P := fun u => u = S + 1) (Fr.put q3 rfl) (by omega))
  have K2 : ∀ cf n y (hq : AH) F l5, n + y = 24 → hq w = some (B, gO 1 [.ref aw, .ref ap, v2, v3, .int (nI (zI z (k9 - 1)))]) → hq a = some (S, gO 3 [.int (nI k9), .int (nI e), .ref c, pv, .ref b]) → hq c = some (S + 1, gAIn E k9 fc) → hq b = some (S + 2, gAR E 7 25 fs) → hq cf = some (1060, gAIn E k9 F) → (∀ j, j < k9 → F j = cfF z 0 j) → Fr (rfP9 B S) h hq → (∀ x, 1 ≤ x → x ≤ y → rsO S g (cfF z 0) s k9 e x (fs x) hq) → (∀ x, y < x → x ≤ 24 → shO S g s x (fs x) hq) → V E cX2_refresh "SecretVault$World" mX2_refresh (pN fun r h' => r = rcF g s e 24 ∧ rfW E B S g s w a b c aw ap v2 v3 pv z k9 e fc fs h h') noX X (hq) 1 8 15 [some (.ref w), some (.ref a), some (.ref cf), some (.int (nI (rcF g s e y))), some (.int (nI (y + 1))), l5] [] := by
    intro cf n
    induction n with
    | zero =>
      intro y hq F l5 hn0 q1 q2 q3 q4 q5 hFc hF d1 d2
      obtain rfl : y = 24 := by omega
      refine g_iload4 dX2_refresh_15 ?_
      refine g_bipush (nI 24) dX2_refresh_17 (by decide) ?_
      first | refine g_icmpN_gt (tgt := 102) dX2_refresh_19 (by decide) (by omega) (by omega) (fun c_19 => ?_) (fun c_19 => ?_) | refine g_icmp_gt (tgt := 102) dX2_refresh_19 (by decide) (fun c_19 => ?_) (fun c_19 => ?_)
      · first | refine g_aload1 dX2_refresh_102 ?_ | refine g_aloadQ1 dX2_refresh_102 ?_ | refine g_aloadN1 dX2_refresh_102 ?_
        refine g_dup dX2_refresh_103 rfl ?_
        refine g_getN (k0 := 1) (by first | assumption | exact g_up_self _ _ _ | (refine g_upf ?_ ?_ <;> assumption) | (refine g_upt ?_ ?_ (by decide) <;> assumption)) in_X5 q662 rfl (by decide) rfl dX2_refresh_104 ?_
        refine g_iconst (nI 1) dX2_refresh_107 (by decide) ?_
        first | refine g_iaddN dX2_refresh_108 ?_ | refine g_iadd dX2_refresh_108 ?_
        refine g_putN (k0 := 1) (by first | assumption | exact g_up_self _ _ _ | (refine g_upf ?_ ?_ <;> assumption) | (refine g_upt ?_ ?_ (by decide) <;> assumption)) in_X5 q662 tyX5_ok nmX5 rfl (by decide) rfl (by rfl) (by rfl) (Nat.le_of_ble_eq_true rfl) dX2_refresh_109 ?_
        try rw [g_upup]
        refine g_iconst (nI 0) dX2_refresh_112 (by decide) ?_
        refine g_istore4 dX2_refresh_113 (by decide) ?_
        exact K1 cf k9 0 _ fc F _ (by omega) (g_upt q1 q2 (by omega)) (g_up_self _ _ _) (g_upt q3 q2 (by omega)) (g_upt q4 q2 (by omega)) (g_upt q5 q2 (by omega)) hFc (hF.put2 q2 (Or.inr (by omega)) rfl) (fun i hi => absurd hi (Nat.not_lt_zero i)) (fun i _ _ => rfl) (fun x x1 x2 => (d1 x x1 x2).fr (P := fun u => u = S) (Fr.put q2 rfl) (by omega))
      · omega
    | succ n ih =>
      intro y hq F l5 hn0 q1 q2 q3 q4 q5 hFc hF d1 d2
      have e1 := z5 ((y + 1 - 1) / 3) (by omega)
      have e2 := hbb.2 ((y + 1 - 1) / 3) (by omega)
      have qp := hF _ _ _ z4 (by rintro (q | q) <;> omega)
      have dy := d2 (y + 1) (by omega) (by omega)
      have hsb := hshb (y + 1) (by omega) (by omega)
      refine g_iload4 dX2_refresh_15 ?_
      refine g_bipush (nI 24) dX2_refresh_17 (by decide) ?_
      first | refine g_icmpN_gt (tgt := 102) dX2_refresh_19 (by decide) (by omega) (by omega) (fun c_19 => ?_) (fun c_19 => ?_) | refine g_icmp_gt (tgt := 102) dX2_refresh_19 (by decide) (fun c_19 => ?_) (fun c_19 => ?_)
      · omega
      · first | refine g_aload1 dX2_refresh_22 ?_ | refine g_aloadQ1 dX2_refresh_22 ?_ | refine g_aloadN1 dX2_refresh_22 ?_
        refine g_getN (k0 := 4) (by first | exact hga | assumption | exact g_up_self _ _ _) in_X5 q670 rfl (by decide) rfl dX2_refresh_23 ?_
        refine g_iload4 dX2_refresh_26 ?_
        refine g_aald q4 rfl (by omega) (by omega) dX2_refresh_28 ?_
        first | refine g_astore5 dX2_refresh_29 (by decide) ?_ | refine g_astoreQ5 dX2_refresh_29 (by decide) ?_ | refine g_astoreN5 dX2_refresh_29 (by decide) ?_
        first | refine g_aload5 dX2_refresh_31 ?_ | refine g_aloadQ5 dX2_refresh_31 ?_ | refine g_aloadN5 dX2_refresh_31 ?_
        refine g_ifnull (tgt := 96) dX2_refresh_33 (by decide) (fun c_33 => ?_) (fun a_33 c_33 => ?_)
        · have hn : ¬ rfU g s e (y + 1) := fun q => dy.n c_33 q.2.1
          first | refine g_iincN4 1 dX2_refresh_96 (by decide) (by decide) ?_ | refine g_iinc4 _ dX2_refresh_96 rfl (by decide) ?_
          refine g_goto (tgt := 15) dX2_refresh_99 (by decide) ?_
          first | (rw [rcF_n hn]; exact ih (y + 1) hq F _ (by omega) q1 q2 q3 q4 q5 hFc hF (fun x x1 x2 => by by_cases ex : x = y + 1; (rw [ex]; exact rsO.same dy hn); exact d1 x x1 (by omega)) (fun x x1 x2 => d2 x (by omega) x2)) | (rw [rcF_y hy]; exact ih (y + 1) _ F _ (by omega) (g_upt q1 hga (by omega)) (g_upt q2 hga (by omega)) (g_upt q3 hga (by omega)) (g_upt q4 hga (by omega)) (g_upt q5 hga (by omega)) hFc (hF.put2 hga (Or.inr (by omega)) rfl) (fun x x1 x2 => by by_cases ex : x = y + 1; (rw [ex]; exact Or.inl ⟨hg1, _, c_33b, (by rw [g_up_self]; unfold rsC; rw [if_pos hy, hy.2.2]; rfl)⟩); exact (d1 x x1 (by omega)).fr (P := fun u => u = S + 3 + (y + 1)) (Fr.put hga rfl) (by omega)) (fun x x1 x2 => (d2 x (by omega) x2).fr (P := fun u => u = S + 3 + (y + 1)) (Fr.put hga rfl) (by omega)))
        · obtain ⟨hg1, hga⟩ := dy.s c_33
          have c_33b : fs (y + 1) = some a_33 := c_33
          have hgaC : hq a_33 = some (S + 3 + (y + 1), gO 4 [.int (nI (y + 1)), .int (nI (gSh g s (y + 1) 1)), .int (nI (gSh g s (y + 1) 2))]) := hga
          first | refine g_aload0 dX2_refresh_36 ?_ | refine g_aloadQ0 dX2_refresh_36 ?_ | refine g_aloadN0 dX2_refresh_36 ?_
          refine g_get (k0 := 1) (by first | exact hga | assumption | exact g_up_self _ _ _) in_X2 q172 rfl (by decide) rfl dX2_refresh_37 ?_
          refine g_iload4 dX2_refresh_40 ?_
          refine g_callSN (ctX1_ownerOf _ (by omega)) kX1_ownerOf q1074 (by decide) ⟨by decide, by decide⟩ rfl (Nat.le_of_ble_eq_true rfl) dX2_refresh_42 k_x (k_n (fun r_42 h_42 p_42 => ?_))
          obtain ⟨rfl, z_42⟩ := p_42
          rw [z_42]
          refine V.wide (k' := 1) (n' := 8) (Nat.le_refl _) (Nat.le_refl _) ?_
          refine g_zaldN qp (by omega) (by omega) dX2_refresh_45 ?_
          rw [e1]
          first | refine g_ifN_eq (tgt := 96) dX2_refresh_46 (by decide) (by omega) (fun c_46 => ?_) (fun c_46 => ?_) | refine g_if_eq (tgt := 96) dX2_refresh_46 (by decide) (fun c_46 => ?_) (fun c_46 => ?_)
          · have hn : ¬ rfU g s e (y + 1) := fun q => by have := q.1; omega
            first | refine g_iincN4 1 dX2_refresh_96 (by decide) (by decide) ?_ | refine g_iinc4 _ dX2_refresh_96 rfl (by decide) ?_
            refine g_goto (tgt := 15) dX2_refresh_99 (by decide) ?_
            first | (rw [rcF_n hn]; exact ih (y + 1) hq F _ (by omega) q1 q2 q3 q4 q5 hFc hF (fun x x1 x2 => by by_cases ex : x = y + 1; (rw [ex]; exact rsO.same dy hn); exact d1 x x1 (by omega)) (fun x x1 x2 => d2 x (by omega) x2)) | (rw [rcF_y hy]; exact ih (y + 1) _ F _ (by omega) (g_upt q1 hga (by omega)) (g_upt q2 hga (by omega)) (g_upt q3 hga (by omega)) (g_upt q4 hga (by omega)) (g_upt q5 hga (by omega)) hFc (hF.put2 hga (Or.inr (by omega)) rfl) (fun x x1 x2 => by by_cases ex : x = y + 1; (rw [ex]; exact Or.inl ⟨hg1, _, c_33b, (by rw [g_up_self]; unfold rsC; rw [if_pos hy, hy.2.2]; rfl)⟩); exact (d1 x x1 (by omega)).fr (P := fun u => u = S + 3 + (y + 1)) (Fr.put hga rfl) (by omega)) (fun x x1 x2 => (d2 x (by omega) x2).fr (P := fun u => u = S + 3 + (y + 1)) (Fr.put hga rfl) (by omega)))
          · rw [c_33]
            first | refine g_aload5 dX2_refresh_49 ?_ | refine g_aloadQ5 dX2_refresh_49 ?_ | refine g_aloadN5 dX2_refresh_49 ?_
            refine g_getN (k0 := 2) (by first | exact hga | assumption | exact g_up_self _ _ _) in_X6 q710 rfl (by decide) rfl dX2_refresh_51 ?_
            first | refine g_aload1 dX2_refresh_54 ?_ | refine g_aloadQ1 dX2_refresh_54 ?_ | refine g_aloadN1 dX2_refresh_54 ?_
            refine g_getN (k0 := 1) (by first | exact hga | assumption | exact g_up_self _ _ _) in_X5 q662 rfl (by decide) rfl dX2_refresh_55 ?_
            first | refine g_icmpN_ne (tgt := 96) dX2_refresh_58 (by decide) (by omega) (by omega) (fun c_58 => ?_) (fun c_58 => ?_) | refine g_icmpU_ne (tgt := 96) dX2_refresh_58 (by decide) (by omega) (by omega) (fun c_58 => ?_) (fun c_58 => ?_) | refine g_icmp_ne (tgt := 96) dX2_refresh_58 (by decide) (fun c_58 => ?_) (fun c_58 => ?_)
            · have hn : ¬ rfU g s e (y + 1) := fun q => by have := q.2.2; omega
              first | refine g_iincN4 1 dX2_refresh_96 (by decide) (by decide) ?_ | refine g_iinc4 _ dX2_refresh_96 rfl (by decide) ?_
              refine g_goto (tgt := 15) dX2_refresh_99 (by decide) ?_
              first | (rw [rcF_n hn]; exact ih (y + 1) hq F _ (by omega) q1 q2 q3 q4 q5 hFc hF (fun x x1 x2 => by by_cases ex : x = y + 1; (rw [ex]; exact rsO.same dy hn); exact d1 x x1 (by omega)) (fun x x1 x2 => d2 x (by omega) x2)) | (rw [rcF_y hy]; exact ih (y + 1) _ F _ (by omega) (g_upt q1 hga (by omega)) (g_upt q2 hga (by omega)) (g_upt q3 hga (by omega)) (g_upt q4 hga (by omega)) (g_upt q5 hga (by omega)) hFc (hF.put2 hga (Or.inr (by omega)) rfl) (fun x x1 x2 => by by_cases ex : x = y + 1; (rw [ex]; exact Or.inl ⟨hg1, _, c_33b, (by rw [g_up_self]; unfold rsC; rw [if_pos hy, hy.2.2]; rfl)⟩); exact (d1 x x1 (by omega)).fr (P := fun u => u = S + 3 + (y + 1)) (Fr.put hga rfl) (by omega)) (fun x x1 x2 => (d2 x (by omega) x2).fr (P := fun u => u = S + 3 + (y + 1)) (Fr.put hga rfl) (by omega)))
            · have hy : rfU g s e (y + 1) := ⟨by omega, hg1, by omega⟩
              first | refine g_aload5 dX2_refresh_61 ?_ | refine g_aloadQ5 dX2_refresh_61 ?_ | refine g_aloadN5 dX2_refresh_61 ?_
              first | refine g_aload5 dX2_refresh_63 ?_ | refine g_aloadQ5 dX2_refresh_63 ?_ | refine g_aloadN5 dX2_refresh_63 ?_
              refine g_getN (k0 := 1) (by first | exact hga | assumption | exact g_up_self _ _ _) in_X6 q704 rfl (by decide) rfl dX2_refresh_65 ?_
              first | refine g_aload2 dX2_refresh_68 ?_ | refine g_aloadQ2 dX2_refresh_68 ?_ | refine g_aloadN2 dX2_refresh_68 ?_
              refine g_iload4 dX2_refresh_69 ?_
              refine g_callSN (ctX1_valueAt k9 (y + 1) F q5 hk (by omega) (fun j hj => by rw [hFc j hj]; exact hcl j)) kX1_valueAt q1101 (by decide) ⟨by decide, by decide⟩ rfl (Nat.le_of_ble_eq_true rfl) dX2_refresh_71 k_x (k_n (fun r_71 h_71 p_71 => ?_))
              obtain ⟨rfl, z_71⟩ := p_71
              rw [z_71]
              refine V.wide (k' := 1) (n' := 8) (Nat.le_refl _) (Nat.le_refl _) ?_
              rw [poD_cg k9 0 hFc]
              have hpo := poD_lt (cfF z 0) (y + 1) k9 0 (by decide)
              first | refine g_iaddN dX2_refresh_74 ?_ | refine g_iadd dX2_refresh_74 ?_
              refine g_sipush (nI 1019) dX2_refresh_75 (by decide) ?_
              refine g_iremN dX2_refresh_78 (by omega) (by omega) (by omega) ?_
              refine g_putN (k0 := 1) (by first | exact hga | assumption | exact g_up_self _ _ _) in_X6 q704 tyX6_ok nmX6 rfl (by decide) rfl (by rfl) (by rfl) (Nat.le_of_ble_eq_true rfl) dX2_refresh_79 ?_
              try rw [g_upup]
              first | refine g_aload5 dX2_refresh_82 ?_ | refine g_aloadQ5 dX2_refresh_82 ?_ | refine g_aloadN5 dX2_refresh_82 ?_
              refine g_dup dX2_refresh_84 rfl ?_
              refine g_getN (k0 := 2) (by first | exact hga | assumption | exact g_up_self _ _ _) in_X6 q710 rfl (by decide) rfl dX2_refresh_85 ?_
              refine g_iconst (nI 1) dX2_refresh_88 (by decide) ?_
              first | refine g_iaddN dX2_refresh_89 ?_ | refine g_iadd dX2_refresh_89 ?_
              refine g_putN (k0 := 2) (by first | exact hga | assumption | exact g_up_self _ _ _) in_X6 q710 tyX6_ok nmX6 rfl (by decide) rfl (by rfl) (by rfl) (Nat.le_of_ble_eq_true rfl) dX2_refresh_90 ?_
              try rw [g_upup]
              first | refine g_iincN3 1 dX2_refresh_93 (by decide) (by decide) ?_ | refine g_iinc3 _ dX2_refresh_93 rfl (by decide) ?_
              first | refine g_iincN4 1 dX2_refresh_96 (by decide) (by decide) ?_ | refine g_iinc4 _ dX2_refresh_96 rfl (by decide) ?_
              refine g_goto (tgt := 15) dX2_refresh_99 (by decide) ?_
              first | (rw [rcF_n hn]; exact ih (y + 1) hq F _ (by omega) q1 q2 q3 q4 q5 hFc hF (fun x x1 x2 => by by_cases ex : x = y + 1; (rw [ex]; exact rsO.same dy hn); exact d1 x x1 (by omega)) (fun x x1 x2 => d2 x (by omega) x2)) | (rw [rcF_y hy]; exact ih (y + 1) _ F _ (by omega) (g_upt q1 hga (by omega)) (g_upt q2 hga (by omega)) (g_upt q3 hga (by omega)) (g_upt q4 hga (by omega)) (g_upt q5 hga (by omega)) hFc (hF.put2 hga (Or.inr (by omega)) rfl) (fun x x1 x2 => by by_cases ex : x = y + 1; (rw [ex]; exact Or.inl ⟨hg1, _, c_33b, (by rw [g_up_self]; unfold rsC; rw [if_pos hy, hy.2.2]; rfl)⟩); exact (d1 x x1 (by omega)).fr (P := fun u => u = S + 3 + (y + 1)) (Fr.put hga rfl) (by omega)) (fun x x1 x2 => (d2 x (by omega) x2).fr (P := fun u => u = S + 3 + (y + 1)) (Fr.put hga rfl) (by omega)))
  first | refine g_aload0 dX2_refresh_0 ?_ | refine g_aloadQ0 dX2_refresh_0 ?_ | refine g_aloadN0 dX2_refresh_0 ?_
  refine g_iconst (nI 0) dX2_refresh_1 (by decide) ?_
  first | refine g_aload1 dX2_refresh_2 ?_ | refine g_aloadQ1 dX2_refresh_2 ?_ | refine g_aloadN1 dX2_refresh_2 ?_
  refine g_getN (k0 := 0) (by first | assumption | exact g_up_self _ _ _ | (refine g_upf ?_ ?_ <;> assumption) | (refine g_upt ?_ ?_ (by decide) <;> assumption)) in_X5 q656 rfl (by decide) rfl dX2_refresh_3 ?_
  refine g_callVR (ctX2_drawn 1060 _ _ hwz hk) kX2_drawn q1094 (gRv.g hwz rfl rfl) (by decide) ⟨Nat.le_of_ble_eq_true rfl, Nat.le_of_ble_eq_true rfl⟩ rfl (Nat.le_of_ble_eq_true rfl) dX2_refresh_6 k_x (k_r (fun r_6 h_6 p_6 => ?_))
  obtain ⟨F, e_6, hFc, z_6⟩ := p_6
  have hF3 : Fr (rfP9 B S) h h_6 := by
    rw [z_6]
    exact (Fr.new e_6).put2 (g_upf hwz e_6) (Or.inl rfl) rfl
  have q1 := (congrFun z_6 w).trans (g_up_self _ _ _)
  have q2 := (congrFun z_6 a).trans (g_upt (g_upf ha e_6) (g_upf hwz e_6) (by omega))
  have q3 := (congrFun z_6 c).trans (g_upt (g_upf hc e_6) (g_upf hwz e_6) (by omega))
  have q4 := (congrFun z_6 b).trans (g_upt (g_upf hb e_6) (g_upf hwz e_6) (by omega))
  have q5 := (congrFun z_6 r_6).trans (g_upt (g_up_self _ _ _) (g_upf hwz e_6) (by omega))
  refine V.wide (k' := 1) (n' := 8) (Nat.le_refl _) (Nat.le_refl _) ?_
  first | refine g_astore2 dX2_refresh_9 (by decide) ?_ | refine g_astoreQ2 dX2_refresh_9 (by decide) ?_ | refine g_astoreN2 dX2_refresh_9 (by decide) ?_
  refine g_iconst (nI 0) dX2_refresh_10 (by decide) ?_
  refine g_istore3 dX2_refresh_11 (by decide) ?_
  refine g_iconst (nI 1) dX2_refresh_12 (by decide) ?_
  refine g_istore4 dX2_refresh_13 (by decide) ?_
  exact K2 r_6 24 0 _ F _ (by omega) q1 q2 q3 q4 q5 hFc hF3 (fun x x1 x2 => by omega) (fun x x1 x2 => (hsh x (by omega) x2).fr (P := fun u => u = B) (by rw [z_6]; exact (Fr.new e_6).put2 (g_upf hwz e_6) rfl rfl) (by omega))
