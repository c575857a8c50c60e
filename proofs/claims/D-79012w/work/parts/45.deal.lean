/-! THE WORLD: dealing -/
set_option maxRecDepth 100000
theorem cfF_lt2 {z v : Nat} (hv : v < 1019) (j : Nat) : cfF z v j < 1019 := by
  unfold cfF
  split
  · exact hv
  · exact Nat.mod_lt _ (by decide)
theorem poD_cg {F G : Nat → Nat} {x : Nat} : ∀ (K v : Nat), (∀ j, j < K → F j = G j) → poD F x K v = poD G x K v
  | 0, _, _ => rfl
  | K + 1, v, h => by
    show poD F x K ((v * x + F K) % 1019) = poD G x K ((v * x + G K) % 1019)
    rw [h K (Nat.lt_succ_self K)]
    exact poD_cg K _ (fun j hj => h j (Nat.lt_succ_of_lt hj))
/-- what lies at place x once it is dealt -/
def dlO (S : Nat) (g cf : Nat → Nat) (k e x : Nat) (o : Option Nat) (h : AH) : Prop := (plU g x ∧ ∃ q, o = some q ∧ h q = some (S + 3 + x, gO 4 [.int (nI x), .int (nI (poD cf x k 0)), .int (nI e)])) ∨ (¬ plU g x ∧ o = none)
theorem dlO.fr {S : Nat} {g cf : Nat → Nat} {k e x : Nat} {o : Option Nat} {h h' : AH} {P : Nat → Prop} (hd : dlO S g cf k e x o h) (hf : Fr P h h') (hp : ¬ P (S + 3 + x)) : dlO S g cf k e x o h' := by
  rcases hd with ⟨h1, q, h2, h3⟩ | hd
  · exact Or.inl ⟨h1, q, h2, hf _ _ _ h3 hp⟩
  · exact Or.inr hd
abbrev dlP9 (B S : Nat) : Nat → Prop := fun u => u = B ∨ u = S ∨ u = S + 2
def dlW (E : GE) (B S : Nat) (g : Nat → Nat) (w a b aw ap : Nat) (v2 v3 pv : Value) (z value k e : Nat) (h h' : AH) : Prop := ∃ c fc fs, h' w = some (B, gO 1 [.ref aw, .ref ap, v2, v3, .int (nI (zI z (k - 1)))]) ∧ h' a = some (S, gO 3 [.int (nI k), .int (nI (e + 1)), .ref c, pv, .ref b]) ∧ h' c = some (S + 1, gAIn E k fc) ∧ (∀ j, j < k → fc j = 4 ^ cfF z value j % 2039) ∧ h' b = some (S + 2, gAR E 7 25 fs) ∧ (∀ x, 1 ≤ x → x ≤ 24 → dlO S g (cfF z value) k (e + 1) x (fs x) h') ∧ Fr (dlP9 B S) h h'
abbrev mX2_deal : GM := (yX2_deal, 7, none, [], { frames := 2, cells := 26, slots := 88, locals := 53 }, 255)
theorem kX2_deal : gCv cX2_deal mX2_deal 3 := ⟨q1091, q1092, q68, q1093, ⟨by decide +kernel, by decide +kernel, by decide +kernel⟩, rfl⟩
theorem uX2_deal : gCu cX2_deal mX2_deal 3 := ⟨q1091, q68, q1093, ⟨by decide +kernel, by decide +kernel, by decide +kernel⟩, rfl⟩
set_option maxHeartbeats 400000 in
theorem ctX2_deal {E : GE} {h : AH} {B S w a b aw ap z e : Nat} {g fw fp : Nat → Nat} {fs : Nat → Option Nat} {v2 v3 v5 v6 pv : Value} (value k9 : Nat) (hwz : h w = some (B, gO 1 [.ref aw, .ref ap, v2, v3, .int (nI (zI z 0))])) (z2 : h aw = some (B + 1, gAIn E 8 fw)) (z3 : ∀ m, m < 8 → fw m = g (1 + m)) (z4 : h ap = some (B + 2, gAZn E 8 fp)) (z5 : ∀ m, m < 8 → fp m = g (9 + m)) (hbb : wB g) (ha : h a = some (S, gO 3 [v5, .int (nI e), v6, pv, .ref b])) (hb : h b = some (S + 2, gAR E 7 25 fs)) (hk : 1 ≤ k9 ∧ k9 ≤ 8) (hvl : value < 1019) (hBS : B + 10 ≤ S ∧ S + 28 ≤ 1000) : Ct E cX2_deal mX2_deal [.ref w, .ref a, .int (nI value), .int (nI k9)] (h) (pV fun h' => dlW E B S g w a b aw ap v2 v3 pv z value k9 e h h') (noX) := by
  refine g_enter (own := "SecretVault$World") [some (.ref w), some (.ref a), some (.int (nI value)), some (.int (nI k9)), none, none, none] (by decide +kernel) rfl rfl (Nat.le_of_ble_eq_true rfl) rfl rfl (fun X => ?_)
  have hcl := cfF_lt2 (z := z) hvl
  have K2 : ∀ c cf n y (hq : AH) G f F k nn l6, n + y = 24 → hq w = some (B, gO 1 [.ref aw, .ref ap, v2, v3, .int (nI (zI z (k9 - 1)))]) → hq a = some (S, gO 3 [.int (nI k9), .int (nI (e + 1)), .ref c, pv, .ref b]) → hq c = some (S + 1, gAIn E k9 G) → hq b = some (S + 2, gAR E 7 25 f) → hq cf = some (1060, gAIn E k9 F) → (∀ j, j < k9 → F j = cfF z value j) → Fr (dlP9 B S) h hq → (∀ j, j < k9 → G j = 4 ^ cfF z value j % 2039) → (∀ x, 1 ≤ x → x ≤ y → dlO S g (cfF z value) k9 (e + 1) x (f x) hq) → k ≤ 2 + y → nn ≤ 16 + 3 * y → V E cX2_deal "SecretVault$World" mX2_deal (pV fun h' => dlW E B S g w a b aw ap v2 v3 pv z value k9 e h h') noX X (hq) k nn 67 [some (.ref w), some (.ref a), some (.int (nI value)), some (.int (nI k9)), some (.ref cf), some (.int (nI (y + 1))), l6] [] := by
    intro c cf n
    induction n with
    | zero =>
      intro y hq G f F k nn l6 hn0 q1 q2 q3 q4 q5 hFc hF hG hd hkk hnn
      obtain rfl : y = 24 := by omega
      refine g_iload5 dX2_deal_67 ?_
      refine g_bipush (nI 24) dX2_deal_69 (by decide) ?_
      first | refine g_icmpN_gt (tgt := 145) dX2_deal_71 (by decide) (by omega) (by omega) (fun c_71 => ?_) (fun c_71 => ?_) | refine g_icmp_gt (tgt := 145) dX2_deal_71 (by decide) (fun c_71 => ?_) (fun c_71 => ?_)
      · exact g_vret (hk := by show _ ≤ 26; omega) (hn := by show _ ≤ 88; omega) dX2_deal_145 rfl ⟨rfl, c, G, f, q1, q2, q3, hG, q4, hd, hF⟩
      · omega
    | succ n ih =>
      intro y hq G f F k nn l6 hn0 q1 q2 q3 q4 q5 hFc hF hG hd hkk hnn
      have hwm : WM E B g w hq := ⟨aw, ap, v2, v3, _, fw, fp, q1, hF _ _ _ z2 (by rintro (q | q | q) <;> omega), z3, hF _ _ _ z4 (by rintro (q | q | q) <;> omega), z5⟩
      have e1 := z5 ((y + 1 - 1) / 3) (by omega)
      have e2 := hbb.2 ((y + 1 - 1) / 3) (by omega)
      have hus := usF_lt g (y + 1)
      have qp := hF _ _ _ z4 (by rintro (q | q | q) <;> omega)
      refine g_iload5 dX2_deal_67 ?_
      refine g_bipush (nI 24) dX2_deal_69 (by decide) ?_
      first | refine g_icmpN_gt (tgt := 145) dX2_deal_71 (by decide) (by omega) (by omega) (fun c_71 => ?_) (fun c_71 => ?_) | refine g_icmp_gt (tgt := 145) dX2_deal_71 (by decide) (fun c_71 => ?_) (fun c_71 => ?_)
      · omega
      · first | refine g_aload0 dX2_deal_74 ?_ | refine g_aloadQ0 dX2_deal_74 ?_ | refine g_aloadN0 dX2_deal_74 ?_
        refine g_get (k0 := 1) (by first | assumption | exact g_up_self _ _ _ | (refine g_upf ?_ ?_ <;> assumption) | (refine g_upt ?_ ?_ (by decide) <;> assumption)) in_X2 q172 rfl (by decide) rfl dX2_deal_75 ?_
        refine g_iload5 dX2_deal_78 ?_
        refine g_callSN (ctX1_ownerOf _ (by omega)) kX1_ownerOf q1074 (by decide) ⟨by show k + 0 ≤ 26; omega, by show nn + 0 ≤ 88; omega⟩ rfl (Nat.le_of_ble_eq_true rfl) dX2_deal_80 k_x (k_n (fun r_80 h_80 p_80 => ?_))
        obtain ⟨rfl, z_80⟩ := p_80
        rw [z_80]
        refine V.wide (k' := k) (n' := nn) (Nat.le_refl _) (Nat.le_refl _) ?_
        refine g_zaldN qp (by omega) (by omega) dX2_deal_83 ?_
        rw [e1]
        first | refine g_ifN_eq (tgt := 100) dX2_deal_84 (by decide) (by omega) (fun c_84 => ?_) (fun c_84 => ?_) | refine g_if_eq (tgt := 100) dX2_deal_84 (by decide) (fun c_84 => ?_) (fun c_84 => ?_)
        · have hn : ¬ plU g (y + 1) := fun z => by have := z.1; omega
          refine g_iconst (nI 0) dX2_deal_100 (by decide) ?_
          refine g_istore6 dX2_deal_101 (by decide) ?_
          first | refine g_aload1 dX2_deal_103 ?_ | refine g_aloadQ1 dX2_deal_103 ?_ | refine g_aloadN1 dX2_deal_103 ?_
          refine g_getN (k0 := 4) (by first | assumption | exact g_up_self _ _ _ | (refine g_upf ?_ ?_ <;> assumption) | (refine g_upt ?_ ?_ (by decide) <;> assumption)) in_X5 q670 rfl (by decide) rfl dX2_deal_104 ?_
          refine g_iload5 dX2_deal_107 ?_
          refine g_iload6 dX2_deal_109 ?_
          first | refine g_ifN_eq (tgt := 137) dX2_deal_111 (by decide) (by omega) (fun c_111 => ?_) (fun c_111 => ?_) | refine g_if_eq (tgt := 137) dX2_deal_111 (by decide) (fun c_111 => ?_) (fun c_111 => ?_)
          · refine g_null dX2_deal_137 ?_
            first | (refine g_aastN q4 rfl (by omega) (by omega) dX2_deal_138 ?_) | (refine g_aastS (g_upf q4 f_114) (g_up_self _ _ _) rfl rfl (by omega) (by omega) dX2_deal_138 ?_)
            first | refine g_iincN5 1 dX2_deal_139 (by decide) (by decide) ?_ | refine g_iinc5 _ dX2_deal_139 rfl (by decide) ?_
            refine g_goto (tgt := 67) dX2_deal_142 (by decide) ?_
            first | exact ih (y + 1) _ G _ F _ _ _ (by omega) (g_upt q1 q4 (by omega)) (g_upt q2 q4 (by omega)) (g_upt q3 q4 (by omega)) (g_up_self _ _ _) (g_upt q5 q4 (by omega)) hFc (hF.put2 q4 (Or.inr (Or.inr rfl)) rfl) hG (fun x x1 x2 => by by_cases ex : x = y + 1; (rw [ex, nup_self]; exact Or.inr ⟨hn, rfl⟩); (rw [nup_ne _ _ ex]; exact (hd x x1 (by omega)).fr (P := fun u => u = S + 2) (Fr.put q4 rfl) (by omega))) (by omega) (by omega) | exact ih (y + 1) _ G _ F _ _ _ (by omega) (g_upt (g_upf q1 f_114) (g_upf q4 f_114) (by omega)) (g_upt (g_upf q2 f_114) (g_upf q4 f_114) (by omega)) (g_upt (g_upf q3 f_114) (g_upf q4 f_114) (by omega)) (g_up_self _ _ _) (g_upt (g_upf q5 f_114) (g_upf q4 f_114) (by omega)) hFc ((hF.new2 f_114).put2 (g_upf q4 f_114) (Or.inr (Or.inr rfl)) rfl) hG (fun x x1 x2 => by by_cases ex : x = y + 1; (rw [ex, nup_self]; exact Or.inl ⟨hy, _, rfl, g_upt (g_up_self _ _ _) (g_upf q4 f_114) (by omega)⟩); (rw [nup_ne _ _ ex]; exact ((hd x x1 (by omega)).fr (P := F0r) (Fr.new f_114) id).fr (P := fun u => u = S + 2) (Fr.put (g_upf q4 f_114) rfl) (by omega))) (Nat.le_refl _) (Nat.le_refl _)
          · omega
        · first | refine g_aload0 dX2_deal_87 ?_ | refine g_aloadQ0 dX2_deal_87 ?_ | refine g_aloadN0 dX2_deal_87 ?_
          refine g_iload5 dX2_deal_88 ?_
          refine g_callVR (ctX2_isUsed hwm hbb ⟨by omega, by omega⟩) kX2_isUsed q1075 hwm.rv (by decide) ⟨by show k + 0 ≤ 26; omega, by show nn + 0 ≤ 88; omega⟩ rfl (Nat.le_of_ble_eq_true rfl) dX2_deal_90 k_x (k_n (fun r_90 h_90 p_90 => ?_))
          obtain ⟨rfl, z_90⟩ := p_90
          rw [z_90]
          refine V.wide (k' := k) (n' := nn) (Nat.le_refl _) (Nat.le_refl _) ?_
          first | refine g_ifN_eq (tgt := 100) dX2_deal_93 (by decide) (by omega) (fun c_93 => ?_) (fun c_93 => ?_) | refine g_if_eq (tgt := 100) dX2_deal_93 (by decide) (fun c_93 => ?_) (fun c_93 => ?_)
          · have hn : ¬ plU g (y + 1) := fun z => by unfold usF at c_93; rw [if_pos z.2] at c_93; omega
            refine g_iconst (nI 0) dX2_deal_100 (by decide) ?_
            refine g_istore6 dX2_deal_101 (by decide) ?_
            first | refine g_aload1 dX2_deal_103 ?_ | refine g_aloadQ1 dX2_deal_103 ?_ | refine g_aloadN1 dX2_deal_103 ?_
            refine g_getN (k0 := 4) (by first | assumption | exact g_up_self _ _ _ | (refine g_upf ?_ ?_ <;> assumption) | (refine g_upt ?_ ?_ (by decide) <;> assumption)) in_X5 q670 rfl (by decide) rfl dX2_deal_104 ?_
            refine g_iload5 dX2_deal_107 ?_
            refine g_iload6 dX2_deal_109 ?_
            first | refine g_ifN_eq (tgt := 137) dX2_deal_111 (by decide) (by omega) (fun c_111 => ?_) (fun c_111 => ?_) | refine g_if_eq (tgt := 137) dX2_deal_111 (by decide) (fun c_111 => ?_) (fun c_111 => ?_)
            · refine g_null dX2_deal_137 ?_
              first | (refine g_aastN q4 rfl (by omega) (by omega) dX2_deal_138 ?_) | (refine g_aastS (g_upf q4 f_114) (g_up_self _ _ _) rfl rfl (by omega) (by omega) dX2_deal_138 ?_)
              first | refine g_iincN5 1 dX2_deal_139 (by decide) (by decide) ?_ | refine g_iinc5 _ dX2_deal_139 rfl (by decide) ?_
              refine g_goto (tgt := 67) dX2_deal_142 (by decide) ?_
              first | exact ih (y + 1) _ G _ F _ _ _ (by omega) (g_upt q1 q4 (by omega)) (g_upt q2 q4 (by omega)) (g_upt q3 q4 (by omega)) (g_up_self _ _ _) (g_upt q5 q4 (by omega)) hFc (hF.put2 q4 (Or.inr (Or.inr rfl)) rfl) hG (fun x x1 x2 => by by_cases ex : x = y + 1; (rw [ex, nup_self]; exact Or.inr ⟨hn, rfl⟩); (rw [nup_ne _ _ ex]; exact (hd x x1 (by omega)).fr (P := fun u => u = S + 2) (Fr.put q4 rfl) (by omega))) (by omega) (by omega) | exact ih (y + 1) _ G _ F _ _ _ (by omega) (g_upt (g_upf q1 f_114) (g_upf q4 f_114) (by omega)) (g_upt (g_upf q2 f_114) (g_upf q4 f_114) (by omega)) (g_upt (g_upf q3 f_114) (g_upf q4 f_114) (by omega)) (g_up_self _ _ _) (g_upt (g_upf q5 f_114) (g_upf q4 f_114) (by omega)) hFc ((hF.new2 f_114).put2 (g_upf q4 f_114) (Or.inr (Or.inr rfl)) rfl) hG (fun x x1 x2 => by by_cases ex : x = y + 1; (rw [ex, nup_self]; exact Or.inl ⟨hy, _, rfl, g_upt (g_up_self _ _ _) (g_upf q4 f_114) (by omega)⟩); (rw [nup_ne _ _ ex]; exact ((hd x x1 (by omega)).fr (P := F0r) (Fr.new f_114) id).fr (P := fun u => u = S + 2) (Fr.put (g_upf q4 f_114) rfl) (by omega))) (Nat.le_refl _) (Nat.le_refl _)
            · omega
          · have hy : plU g (y + 1) := ⟨by omega, by unfold usF at c_93; split at c_93; assumption; omega⟩
            refine g_iconst (nI 1) dX2_deal_96 (by decide) ?_
            refine g_goto (tgt := 101) dX2_deal_97 (by decide) ?_
            refine g_istore6 dX2_deal_101 (by decide) ?_
            first | refine g_aload1 dX2_deal_103 ?_ | refine g_aloadQ1 dX2_deal_103 ?_ | refine g_aloadN1 dX2_deal_103 ?_
            refine g_getN (k0 := 4) (by first | assumption | exact g_up_self _ _ _ | (refine g_upf ?_ ?_ <;> assumption) | (refine g_upt ?_ ?_ (by decide) <;> assumption)) in_X5 q670 rfl (by decide) rfl dX2_deal_104 ?_
            refine g_iload5 dX2_deal_107 ?_
            refine g_iload6 dX2_deal_109 ?_
            first | refine g_ifN_eq (tgt := 137) dX2_deal_111 (by decide) (by omega) (fun c_111 => ?_) (fun c_111 => ?_) | refine g_if_eq (tgt := 137) dX2_deal_111 (by decide) (fun c_111 => ?_) (fun c_111 => ?_)
            · omega
            · refine g_new 4 (S + 3 + (y + 1)) [.int 0, .int 0, .int 0] in_X6 tyX6_ok q1100 q693 q97 rfl nwX6 (by show _ ≤ 26; omega) (by show _ ≤ 88; omega) dX2_deal_114 (fun q_114 f_114 => ?_)
              refine g_dup dX2_deal_117 rfl ?_
              refine g_iload5 dX2_deal_118 ?_
              first | refine g_aload4 dX2_deal_120 ?_ | refine g_aloadQ4 dX2_deal_120 ?_ | refine g_aloadN4 dX2_deal_120 ?_
              refine g_iload5 dX2_deal_122 ?_
              refine g_callSN (ctX1_valueAt k9 (y + 1) F (g_upf q5 f_114) hk (by omega) (fun j hj => by rw [hFc j hj]; exact hcl j)) kX1_valueAt q1101 (by decide) ⟨by show k + 1 + 0 ≤ 26; omega, by show nn + 3 + 0 ≤ 88; omega⟩ rfl (Nat.le_of_ble_eq_true rfl) dX2_deal_124 k_x (k_n (fun r_124 h_124 p_124 => ?_))
              obtain ⟨rfl, z_124⟩ := p_124
              rw [z_124]
              refine V.wide (k' := k + 1) (n' := nn + 3) (Nat.le_refl _) (Nat.le_refl _) ?_
              rw [poD_cg k9 0 hFc]
              have qa2 := g_upf (z := (S + 3 + (y + 1), gO 4 [.int 0, .int 0, .int 0])) q2 f_114
              first | refine g_aload1 dX2_deal_127 ?_ | refine g_aloadQ1 dX2_deal_127 ?_ | refine g_aloadN1 dX2_deal_127 ?_
              refine g_getN (k0 := 1) (by first | assumption | exact g_up_self _ _ _ | (refine g_upf ?_ ?_ <;> assumption) | (refine g_upt ?_ ?_ (by decide) <;> assumption)) in_X5 q662 rfl (by decide) rfl dX2_deal_128 ?_
              refine g_callI (ctX6_init _ _ _ (g_up_self _ _ _)) kX6_init q1104 (by decide) ⟨by show k + 1 + 0 ≤ 26; omega, by show nn + 3 + 0 ≤ 88; omega⟩ rfl (Nat.le_of_ble_eq_true rfl) dX2_deal_131 k_x (k_v (fun h_131 p_131 => ?_))
              subst p_131
              rw [g_upup]
              refine V.wide (k' := 2 + (y + 1)) (n' := 16 + 3 * (y + 1)) (by show k + 1 + 0 ≤ _; omega) (by show nn + 3 + 0 ≤ _; omega) ?_
              refine g_goto (tgt := 138) dX2_deal_134 (by decide) ?_
              first | (refine g_aastN q4 rfl (by omega) (by omega) dX2_deal_138 ?_) | (refine g_aastS (g_upf q4 f_114) (g_up_self _ _ _) rfl rfl (by omega) (by omega) dX2_deal_138 ?_)
              first | refine g_iincN5 1 dX2_deal_139 (by decide) (by decide) ?_ | refine g_iinc5 _ dX2_deal_139 rfl (by decide) ?_
              refine g_goto (tgt := 67) dX2_deal_142 (by decide) ?_
              first | exact ih (y + 1) _ G _ F _ _ _ (by omega) (g_upt q1 q4 (by omega)) (g_upt q2 q4 (by omega)) (g_upt q3 q4 (by omega)) (g_up_self _ _ _) (g_upt q5 q4 (by omega)) hFc (hF.put2 q4 (Or.inr (Or.inr rfl)) rfl) hG (fun x x1 x2 => by by_cases ex : x = y + 1; (rw [ex, nup_self]; exact Or.inr ⟨hn, rfl⟩); (rw [nup_ne _ _ ex]; exact (hd x x1 (by omega)).fr (P := fun u => u = S + 2) (Fr.put q4 rfl) (by omega))) (by omega) (by omega) | exact ih (y + 1) _ G _ F _ _ _ (by omega) (g_upt (g_upf q1 f_114) (g_upf q4 f_114) (by omega)) (g_upt (g_upf q2 f_114) (g_upf q4 f_114) (by omega)) (g_upt (g_upf q3 f_114) (g_upf q4 f_114) (by omega)) (g_up_self _ _ _) (g_upt (g_upf q5 f_114) (g_upf q4 f_114) (by omega)) hFc ((hF.new2 f_114).put2 (g_upf q4 f_114) (Or.inr (Or.inr rfl)) rfl) hG (fun x x1 x2 => by by_cases ex : x = y + 1; (rw [ex, nup_self]; exact Or.inl ⟨hy, _, rfl, g_upt (g_up_self _ _ _) (g_upf q4 f_114) (by omega)⟩); (rw [nup_ne _ _ ex]; exact ((hd x x1 (by omega)).fr (P := F0r) (Fr.new f_114) id).fr (P := fun u => u = S + 2) (Fr.put (g_upf q4 f_114) rfl) (by omega))) (Nat.le_refl _) (Nat.le_refl _)
  have K1 : ∀ c cf n j (hq : AH) G f F, n + j = k9 → h c = none → hq w = some (B, gO 1 [.ref aw, .ref ap, v2, v3, .int (nI (zI z (k9 - 1)))]) → hq a = some (S, gO 3 [.int (nI k9), .int (nI (e + 1)), .ref c, pv, .ref b]) → hq c = some (S + 1, gAIn E k9 G) → hq b = some (S + 2, gAR E 7 25 f) → hq cf = some (1060, gAIn E k9 F) → (∀ j, j < k9 → F j = cfF z value j) → Fr (dlP9 B S) h hq → (∀ i, i < j → G i = 4 ^ cfF z value i % 2039) → V E cX2_deal "SecretVault$World" mX2_deal (pV fun h' => dlW E B S g w a b aw ap v2 v3 pv z value k9 e h h') noX X (hq) 2 16 33 [some (.ref w), some (.ref a), some (.int (nI value)), some (.int (nI k9)), some (.ref cf), some (.int (nI j)), none] [] := by
    intro c cf n
    induction n with
    | zero =>
      intro j hq G f F hn0 hc0 q1 q2 q3 q4 q5 hFc hF hG
      obtain rfl : j = k9 := by omega
      refine g_iload5 dX2_deal_33 ?_
      refine g_iload3 dX2_deal_35 ?_
      first | refine g_icmpN_ge (tgt := 64) dX2_deal_36 (by decide) (by omega) (by omega) (fun c_36 => ?_) (fun c_36 => ?_) | refine g_icmp_ge (tgt := 64) dX2_deal_36 (by decide) (fun c_36 => ?_) (fun c_36 => ?_)
      · refine g_iconst (nI 1) dX2_deal_64 (by decide) ?_
        refine g_istore5 dX2_deal_65 (by decide) ?_
        exact K2 c cf 24 0 hq G f F _ _ _ (by omega) q1 q2 q3 q4 q5 hFc hF hG (fun x x1 x2 => by omega) (by omega) (by omega)
      · omega
    | succ n ih =>
      intro j hq G f F hn0 hc0 q1 q2 q3 q4 q5 hFc hF hG
      have hcj := hFc j (by omega)
      have hcj2 := hcl j
      refine g_iload5 dX2_deal_33 ?_
      refine g_iload3 dX2_deal_35 ?_
      first | refine g_icmpN_ge (tgt := 64) dX2_deal_36 (by decide) (by omega) (by omega) (fun c_36 => ?_) (fun c_36 => ?_) | refine g_icmp_ge (tgt := 64) dX2_deal_36 (by decide) (fun c_36 => ?_) (fun c_36 => ?_)
      · omega
      · first | refine g_aload1 dX2_deal_39 ?_ | refine g_aloadQ1 dX2_deal_39 ?_ | refine g_aloadN1 dX2_deal_39 ?_
        refine g_getN (k0 := 2) (by first | assumption | exact g_up_self _ _ _ | (refine g_upf ?_ ?_ <;> assumption) | (refine g_upt ?_ ?_ (by decide) <;> assumption)) in_X5 q665 rfl (by decide) rfl dX2_deal_40 ?_
        refine g_iload5 dX2_deal_43 ?_
        refine g_iconst (nI 4) dX2_deal_45 (by decide) ?_
        first | refine g_aload4 dX2_deal_46 ?_ | refine g_aloadQ4 dX2_deal_46 ?_ | refine g_aloadN4 dX2_deal_46 ?_
        refine g_iload5 dX2_deal_48 ?_
        refine g_ialdN q5 (by omega) (by omega) dX2_deal_50 ?_
        rw [hcj]
        refine g_sipush (nI 2039) dX2_deal_51 (by decide) ?_
        refine g_callSN (ctX1_power 4 _ 2039 (by omega) (by have := hcl j; omega) (by omega)) kX1_power q1099 (by decide) ⟨by show 2 + 0 ≤ 26; omega, by show 16 + 0 ≤ 88; omega⟩ rfl (Nat.le_of_ble_eq_true rfl) dX2_deal_54 k_x (k_n (fun r_54 h_54 p_54 => ?_))
        obtain ⟨rfl, z_54⟩ := p_54
        rw [z_54]
        refine V.wide (k' := 2) (n' := 16) (Nat.le_refl _) (Nat.le_refl _) ?_
        refine g_iastN q3 (by omega) (by omega) dX2_deal_57 ?_
        first | refine g_iincN5 1 dX2_deal_58 (by decide) (by decide) ?_ | refine g_iinc5 _ dX2_deal_58 rfl (by decide) ?_
        refine g_goto (tgt := 33) dX2_deal_61 (by decide) ?_
        exact ih (j + 1) _ _ f F (by omega) hc0 (g_upt q1 q3 (by omega)) (g_upt q2 q3 (by omega)) (g_up_self _ _ _) (g_upt q4 q3 (by omega)) (g_upt q5 q3 (by omega)) hFc (hF.upn hc0) (fun i hi => by by_cases ei : i = j; (rw [ei, nup_self]); (rw [nup_ne _ _ ei]; exact hG i (by omega)))
  first | refine g_aload0 dX2_deal_0 ?_ | refine g_aloadQ0 dX2_deal_0 ?_ | refine g_aloadN0 dX2_deal_0 ?_
  refine g_iload2 dX2_deal_1 ?_
  refine g_iload3 dX2_deal_2 ?_
  refine g_callVR (ctX2_drawn 1060 _ _ hwz hk) kX2_drawn q1094 (gRv.g hwz rfl rfl) (by decide) ⟨Nat.le_of_ble_eq_true rfl, Nat.le_of_ble_eq_true rfl⟩ rfl (Nat.le_of_ble_eq_true rfl) dX2_deal_3 k_x (k_r (fun r_3 h_3 p_3 => ?_))
  obtain ⟨F, e_3, hFc, z_3⟩ := p_3
  have q1 : h_3 w = some (B, gO 1 [.ref aw, .ref ap, v2, v3, .int (nI (zI z (k9 - 1)))]) := by
    rw [z_3]
    exact g_up_self _ _ _
  have q2 : h_3 a = some (S, gO 3 [v5, .int (nI e), v6, pv, .ref b]) := by
    rw [z_3]
    exact g_upt (g_upf ha e_3) (g_upf hwz e_3) (by omega)
  have q4 : h_3 b = some (S + 2, gAR E 7 25 fs) := by
    rw [z_3]
    exact g_upt (g_upf hb e_3) (g_upf hwz e_3) (by omega)
  have q5 : h_3 r_3 = some (1060, gAIn E k9 F) := by
    rw [z_3]
    exact g_upt (g_up_self _ _ _) (g_upf hwz e_3) (by omega)
  have hF3 : Fr (dlP9 B S) h h_3 := by
    rw [z_3]
    exact (Fr.new e_3).put2 (g_upf hwz e_3) (Or.inl rfl) rfl
  refine V.wide (k' := 1) (n' := 8) (Nat.le_refl _) (Nat.le_refl _) ?_
  first | refine g_astore4 dX2_deal_6 (by decide) ?_ | refine g_astoreQ4 dX2_deal_6 (by decide) ?_ | refine g_astoreN4 dX2_deal_6 (by decide) ?_
  first | refine g_aload1 dX2_deal_8 ?_ | refine g_aloadQ1 dX2_deal_8 ?_ | refine g_aloadN1 dX2_deal_8 ?_
  refine g_iload3 dX2_deal_9 ?_
  refine g_putN (k0 := 0) (by first | assumption | exact g_up_self _ _ _ | exact g_upf (g_up_self _ _ _) f_25) in_X5 q656 tyX5_ok nmX5 rfl (by decide) rfl (by rfl) (by rfl) (Nat.le_of_ble_eq_true rfl) dX2_deal_10 ?_
  try rw [g_upup]
  first | refine g_aload1 dX2_deal_13 ?_ | refine g_aloadQ1 dX2_deal_13 ?_ | refine g_aloadN1 dX2_deal_13 ?_
  refine g_dup dX2_deal_14 rfl ?_
  refine g_getN (k0 := 1) (g_up_self _ _ _) in_X5 q662 rfl (by decide) rfl dX2_deal_15 ?_
  refine g_iconst (nI 1) dX2_deal_18 (by decide) ?_
  first | refine g_iaddN dX2_deal_19 ?_ | refine g_iadd dX2_deal_19 ?_
  refine g_putN (k0 := 1) (by first | assumption | exact g_up_self _ _ _ | exact g_upf (g_up_self _ _ _) f_25) in_X5 q662 tyX5_ok nmX5 rfl (by decide) rfl (by rfl) (by rfl) (Nat.le_of_ble_eq_true rfl) dX2_deal_20 ?_
  try rw [g_upup]
  first | refine g_aload1 dX2_deal_23 ?_ | refine g_aloadQ1 dX2_deal_23 ?_ | refine g_aloadN1 dX2_deal_23 ?_
  refine g_iload3 dX2_deal_24 ?_
  refine g_newi (S + 1) q162 (nI_pos (by omega)) (nI_clamp (by omega)) (by show _ * 4 ≤ _; omega) (by show _ ≤ 26; decide) (by show _ ≤ 88; omega) dX2_deal_25 (fun q_25 f_25 => ?_)
  refine g_putN (k0 := 2) (by first | assumption | exact g_up_self _ _ _ | exact g_upf (g_up_self _ _ _) f_25) in_X5 q665 tyX5_ok nmX5 rfl (by decide) rfl (by rfl) (by rfl) (Nat.le_of_ble_eq_true rfl) dX2_deal_27 ?_
  try rw [g_upup]
  refine g_iconst (nI 0) dX2_deal_30 (by decide) ?_
  refine g_istore5 dX2_deal_31 (by decide) ?_
  refine V.wide (k' := 2) (n' := 16) (by decide) (by omega) ?_
  exact K1 q_25 r_3 k9 0 _ _ fs F (by omega) (by have := g_upN f_25; rw [z_3] at this; exact g_upN (g_upN this)) (g_upt (g_upf (g_upt q1 q2 (by omega)) f_25) (g_upf (g_up_self _ _ _) f_25) (by omega)) (g_up_self _ _ _) (g_upt (g_up_self _ _ _) (g_upf (g_up_self _ _ _) f_25) (by omega)) (g_upt (g_upf (g_upt q4 q2 (by omega)) f_25) (g_upf (g_up_self _ _ _) f_25) (by omega)) (g_upt (g_upf (g_upt q5 q2 (by omega)) f_25) (g_upf (g_up_self _ _ _) f_25) (by omega)) hFc (((hF3.put2 q2 (Or.inr (Or.inl rfl)) rfl).new2 f_25).put2 (g_upf (g_up_self _ _ _) f_25) (Or.inr (Or.inl rfl)) rfl) (fun i hi => absurd hi (Nat.not_lt_zero i))
