/-! THE VAULT: operations on a slot -/
set_option maxRecDepth 100000
/-- a slot changes -/
theorem VO.sl {E : GE} {M M' : TW} {v s : Nat} {L : List Nat} {h h' : AH} {w b aw ap az ad : Nat} {sv : Option Nat} {fw fp : Nat → Nat} {fz fz' : Nat → Option Nat} {P : Nat → Prop} (hs : s < 4) (hW : vW M) (hx : WX E 100 (M 1) w aw ap az ad fw fp fz h) (hV : VX9 E M v L w b sv h) (hf : Fr P h h') (hp : ∀ u, P u → u = 103 ∨ (110 + 30 * s ≤ u ∧ u < 138 + 30 * s) ∨ 1000 ≤ u) (x6' : h' az = some (103, gAR E 6 4 fz')) (hz : ∀ j, j ≠ s → fz' j = fz j) (hnew : slO E 100 (M' 1) s (fz' s) h') (hlo : ∀ i, i < 38 → M' 1 i = M 1 i) (hg : ∀ j, j < 4 → j ≠ s → ∀ w, w < 124 → gOf (M' 1) j w = gOf (M 1) j w) (e3 : M' 0 3 = M 0 3) (e10 : M' 0 10 = M 0 10) (e15 : M' 0 15 = M 0 15) (e16 : M' 0 16 = M 0 16) (e2 : M' 2 = M 2) (e8 : M' 8 = M 8) (e9 : M' 9 = M 9) (e14 : M' 14 = M 14) : VO E M' v L h' ∧ Fr vP h h' := by
  obtain ⟨x1, x2, x3, x4, x5, x6, x7, x8⟩ := hx
  have hf2 : Fr wdP h h' := hf.mono (fun u z => by have := hp u z; omega)
  have hn : ∀ u, P u → 102 < u ∧ u ≠ 104 ∧ u ≠ 105 := fun u z => by have := hp u z; omega
  refine ⟨⟨w, b, sv, hV.wd hf2 ⟨aw, ap, az, ad, fw, fp, fz', ?_, hf _ _ _ x2 (fun z => absurd (hn _ z).1 (by decide)), fun m hm => (x3 m hm).trans (hlo _ (by omega)).symm, hf _ _ _ x4 (fun z => absurd (hn _ z).1 (by decide)), fun m hm => (x5 m hm).trans (hlo _ (by omega)).symm, x6', fun j hj => ?_, ev_up x8 hf (fun z => absurd (hn _ z).1 (by decide)) (fun z => (hn _ z).2.1 rfl) (fun z => (hn _ z).2.2 rfl) hW.h17 (hlo _ (by omega)) (fun k hk => hlo _ (by omega))⟩ e3 e10 e15 e16 e2 e8 e9 e14⟩, hf2.wv⟩
  · rw [hlo 0 (by decide)]
    exact hf _ _ _ x1 (fun z => absurd (hn _ z).1 (by decide))
  · by_cases e : j = s
    · rw [e]
      exact hnew
    · rw [hz j e]
      exact ((x7 j hj).fr hf (fun t ht z => by have := hp _ z; omega) (fun z => absurd (hn _ z).1 (by decide)) (fun z => absurd (hn _ z).1 (by decide))).cg (hW.s4 j hj).2.2.2.2.2.1 (hW.s4 j hj).2.2.1 (hg j hj e)
theorem tEv_at (M : TW) (c : Nat) : tEv M c 1 17 = M 1 17 + (if M 1 17 < 20 then 1 else 0) ∧ tEv M c 1 18 = c ∧ (∀ k, k < 19 → tEv M c 1 (18 + (k + 1)) = M 1 (18 + k)) ∧ ∀ i, i < 17 ∨ 38 ≤ i → tEv M c 1 i = M 1 i := by
  refine ⟨rfl, rfl, fun k hk => ?_, fun i hi => ?_⟩
  · show (if 18 < 18 + (k + 1) ∧ 18 + (k + 1) ≤ 37 then M 1 (18 + (k + 1) - 1) else _) = _
    rw [if_pos (by omega)]
    rfl
  · show (if 18 < i ∧ i ≤ 37 then M 1 (i - 1) else if i = 18 then c else if i = 17 then _ else M 1 i) = M 1 i
    rw [if_neg (by omega), if_neg (by omega), if_neg (by omega)]
/-- an event is noted -/
theorem VO.ev {E : GE} {M : TW} {v c : Nat} {L : List Nat} {h h' : AH} {w b aw ap az ad : Nat} {sv : Option Nat} {fw fp : Nat → Nat} {fz : Nat → Option Nat} (hx : WX E 100 (M 1) w aw ap az ad fw fp fz h) (hV : VX9 E M v L w b sv h) (h17 : M 1 17 ≤ 20) (hsm : ∀ s, s < 4 → gOf (M 1) s 11 ≤ 40 ∧ gOf (M 1) s 1 ≤ 8) (hd : DQ E 104 h' ad ((if (evL (M 1)).length = 20 then (evL (M 1)).tail else evL (M 1)) ++ [c])) (hf : Fr (fun u => u = 104 ∨ u = 104 + 1) h h') : VO E (tEv M c) v L h' ∧ Fr vP h h' := by
  obtain ⟨x1, x2, x3, x4, x5, x6, x7, x8⟩ := hx
  obtain ⟨t1, t2, t3, t4⟩ := tEv_at M c
  have hf2 : Fr wdP h h' := hf.mono (fun u z => by omega)
  refine ⟨⟨w, b, sv, hV.wd hf2 ⟨aw, ap, az, ad, fw, fp, fz, ?_, hf _ _ _ x2 (by omega), fun m hm => (x3 m hm).trans (t4 _ (by omega)).symm, hf _ _ _ x4 (by omega), fun m hm => (x5 m hm).trans (t4 _ (by omega)).symm, hf _ _ _ x6 (by omega), fun s hs => ?_, ?_⟩ rfl rfl rfl rfl rfl rfl rfl rfl⟩, hf2.wv⟩
  · rw [t4 0 (by decide)]
    exact hf _ _ _ x1 (by omega)
  · exact ((x7 s hs).fr hf (fun t ht => by omega) (by decide) (by decide)).cg (hsm s hs).1 (hsm s hs).2 (fun w hw => t4 _ (by omega))
  · rw [evL_ev h17 t1 t2 t3]
    exact hd
theorem tClr_at (M : TW) (s k : Nat) : (∀ w, w < k → tClr M s k 1 (38 + 124 * s + w) = 0) ∧ (∀ i, i < 38 + 124 * s ∨ 38 + 124 * s + k ≤ i → tClr M s k 1 i = M 1 i) ∧ ∀ b, b ≠ 1 → tClr M s k b = M b := by
  induction k with
  | zero => exact ⟨fun w hw => absurd hw (Nat.not_lt_zero w), fun i _ => rfl, fun b _ => rfl⟩
  | succ k ih =>
    obtain ⟨i1, i2, i3⟩ := ih
    refine ⟨fun w hw => ?_, fun i hi => ?_, fun b hb => ?_⟩
    · by_cases e : w = k
      · rw [e]
        exact tset_ss _ _ _ _
      · rw [tClr, tset_sn _ _ _ (by omega)]
        exact i1 w (by omega)
    · rw [tClr, tset_sn _ _ _ (by omega)]
      exact i2 i (by omega)
    · rw [tClr, tset_n _ _ _ hb]
      exact i3 b hb
theorem vW.sm {M : TW} (hW : vW M) : ∀ s, s < 4 → gOf (M 1) s 11 ≤ 40 ∧ gOf (M 1) s 1 ≤ 8 := fun s hs => ⟨(hW.s4 s hs).2.2.2.2.2.1, (hW.s4 s hs).2.2.1⟩
set_option maxHeartbeats 400000 in
theorem ctX1_secretInX {E : GE} {h : AH} {v : Nat} {L9 : List Nat} {M : TW} {w b aw ap az ad : Nat} {sv : Option Nat} {fw fp : Nat → Nat} {fz : Nat → Option Nat} (hVX : VX9 E M v L9 w b sv h) (hx : WX E 100 (M 1) w aw ap az ad fw fp fz h) (hW : vW M) (s : Nat) (hs : s < 4) : Ct E cX1_secretIn mX1_secretIn [.ref v, .int (nI s)] (h) (pR fun r h' => gOf (M 1) s 0 = 1 ∧ fz s = some r ∧ seO E (110 + 30 * s) (M 1) s r h ∧ h' = h) (fun C _ h' => C = "java/util/NoSuchElementException" ∧ gOf (M 1) s 0 = 0 ∧ h' = h) := by
  refine g_enter (own := "SecretVault") [some (.ref v), some (.int (nI s))] (by decide +kernel) rfl rfl (Nat.le_of_ble_eq_true rfl) rfl rfl (fun X => ?_)
  obtain ⟨x1, x2, x3, x4, x5, x6, x7, x8⟩ := hx
  obtain ⟨hv, -⟩ := hVX
  have hle := hW.le hs
  rcases x7 s hs with ⟨g1, a, ha, hse⟩ | ⟨g1, hn⟩
  · skip
    first | refine g_aload0 dX1_secretIn_0 ?_ | refine g_aloadQ0 dX1_secretIn_0 ?_ | refine g_aloadN0 dX1_secretIn_0 ?_
    refine g_get (k0 := 0) (by first | assumption | exact g_up_self _ _ _ | (refine g_upf ?_ ?_ <;> assumption) | (refine g_upt ?_ ?_ (by decide) <;> assumption)) in_X1 q577 rfl (by decide) rfl dX1_secretIn_1 ?_
    refine g_getN (k0 := 2) (by first | assumption | exact g_up_self _ _ _ | (refine g_upf ?_ ?_ <;> assumption) | (refine g_upt ?_ ?_ (by decide) <;> assumption)) in_X2 q176 rfl (by decide) rfl dX1_secretIn_4 ?_
    refine g_iload1 dX1_secretIn_7 ?_
    refine g_aald (by first | assumption | exact g_up_self _ _ _ | (refine g_upf ?_ ?_ <;> assumption) | (refine g_upt ?_ ?_ (by decide) <;> assumption)) rfl (by omega) (by omega) dX1_secretIn_8 ?_
    rw [ha]
    refine g_ifnullR dX1_secretIn_9 ?_
    refine g_iconst (nI 1) dX1_secretIn_12 (by decide) ?_
    refine g_goto (tgt := 17) dX1_secretIn_13 (by decide) ?_
    refine g_callS (ctX1_requireElement 1 (by decide)) kX1_requireElement q1139 (by decide) ⟨Nat.le_of_ble_eq_true rfl, Nat.le_of_ble_eq_true rfl⟩ rfl (Nat.le_of_ble_eq_true rfl) dX1_secretIn_17 (fun C_ q_ h2_ px => by obtain ⟨rfl, c_17, rfl⟩ := px; exact absurd c_17 (by decide)) (k_v (fun h_17 p_17 => ?_))
    obtain ⟨b_17, z_17⟩ := p_17
    rw [z_17]
    first | refine g_aload0 dX1_secretIn_20 ?_ | refine g_aloadQ0 dX1_secretIn_20 ?_ | refine g_aloadN0 dX1_secretIn_20 ?_
    refine g_get (k0 := 0) (by first | assumption | exact g_up_self _ _ _ | (refine g_upf ?_ ?_ <;> assumption) | (refine g_upt ?_ ?_ (by decide) <;> assumption)) in_X1 q577 rfl (by decide) rfl dX1_secretIn_21 ?_
    refine g_getN (k0 := 2) (by first | assumption | exact g_up_self _ _ _ | (refine g_upf ?_ ?_ <;> assumption) | (refine g_upt ?_ ?_ (by decide) <;> assumption)) in_X2 q176 rfl (by decide) rfl dX1_secretIn_24 ?_
    refine g_iload1 dX1_secretIn_27 ?_
    refine g_aald (by first | assumption | exact g_up_self _ _ _ | (refine g_upf ?_ ?_ <;> assumption) | (refine g_upt ?_ ?_ (by decide) <;> assumption)) rfl (by omega) (by omega) dX1_secretIn_28 ?_
    rw [ha]
    change V _ _ _ _ _ _ _ _ _ _ _ _ [.ref a]
    exact g_aret dX1_secretIn_29 rfl (Or.inl ⟨_, rfl⟩) ⟨_, rfl, g1, (by first | rfl | exact ha), hse, rfl⟩
  · skip
    first | refine g_aload0 dX1_secretIn_0 ?_ | refine g_aloadQ0 dX1_secretIn_0 ?_ | refine g_aloadN0 dX1_secretIn_0 ?_
    refine g_get (k0 := 0) (by first | assumption | exact g_up_self _ _ _ | (refine g_upf ?_ ?_ <;> assumption) | (refine g_upt ?_ ?_ (by decide) <;> assumption)) in_X1 q577 rfl (by decide) rfl dX1_secretIn_1 ?_
    refine g_getN (k0 := 2) (by first | assumption | exact g_up_self _ _ _ | (refine g_upf ?_ ?_ <;> assumption) | (refine g_upt ?_ ?_ (by decide) <;> assumption)) in_X2 q176 rfl (by decide) rfl dX1_secretIn_4 ?_
    refine g_iload1 dX1_secretIn_7 ?_
    refine g_aald (by first | assumption | exact g_up_self _ _ _ | (refine g_upf ?_ ?_ <;> assumption) | (refine g_upt ?_ ?_ (by decide) <;> assumption)) rfl (by omega) (by omega) dX1_secretIn_8 ?_
    rw [hn]
    refine g_ifnullN (tgt := 16) dX1_secretIn_9 (by decide) ?_
    refine g_iconst (nI 0) dX1_secretIn_16 (by decide) ?_
    refine g_callS (ctX1_requireElement 0 (by decide)) kX1_requireElement q1139 (by decide) ⟨Nat.le_of_ble_eq_true rfl, Nat.le_of_ble_eq_true rfl⟩ rfl (Nat.le_of_ble_eq_true rfl) dX1_secretIn_17 (fun C_ q_ h2_ px => by obtain ⟨rfl, c_17, rfl⟩ := px; exact gx_out0 rfl ⟨rfl, by omega, rfl⟩ (Nat.le_of_ble_eq_true rfl) (Nat.le_of_ble_eq_true rfl)) (k_v (fun h_17 p_17 => ?_))
    exact absurd p_17.1 (by decide)
    
set_option maxHeartbeats 400000 in
theorem ctX1_shareAtX {E : GE} {h : AH} {v : Nat} {L9 : List Nat} {M : TW} {w b aw ap az ad : Nat} {sv : Option Nat} {fw fp : Nat → Nat} {fz : Nat → Option Nat} (hVX : VX9 E M v L9 w b sv h) (hx : WX E 100 (M 1) w aw ap az ad fw fp fz h) (hW : vW M) (s : Nat) (hs : s < 4) (x : Nat) (hx1 : 1 ≤ x ∧ x ≤ 24) : Ct E cX1_shareAt mX1_shareAt [.ref v, .int (nI s), .int (nI x)] (h) (pR fun r h' => gSh (M 1) s x 0 = 1 ∧ gOf (M 1) s 0 = 1 ∧ (∃ a c b pp fc fs, fz s = some a ∧ seX E (110 + 30 * s) (M 1) s a c b pp fc fs h ∧ fs x = some r ∧ h r = some (110 + 30 * s + 3 + x, shC (M 1) s x)) ∧ h' = h) (fun C _ h' => C = "java/util/NoSuchElementException" ∧ ¬ gSh (M 1) s x 0 = 1 ∧ h' = h) := by
  refine g_enter (own := "SecretVault") [some (.ref v), some (.int (nI s)), some (.int (nI x)), none] (by decide +kernel) rfl rfl (Nat.le_of_ble_eq_true rfl) rfl rfl (fun X => ?_)
  have hsl := hW.sl hs
  by_cases hg1 : gSh (M 1) s x 0 = 1
  · skip
    first | refine g_aload0 dX1_shareAt_0 ?_ | refine g_aloadQ0 dX1_shareAt_0 ?_ | refine g_aloadN0 dX1_shareAt_0 ?_
    refine g_iload1 dX1_shareAt_1 ?_
    refine g_callVR (ctX1_secretInX hVX hx hW s hs) kX1_secretIn q1135 (gRv.g hVX.1 rfl rfl) (by decide) ⟨Nat.le_of_ble_eq_true rfl, Nat.le_of_ble_eq_true rfl⟩ rfl (Nat.le_of_ble_eq_true rfl) dX1_shareAt_2 (fun C_ q_ h2_ px => by obtain ⟨rfl, c_2, rfl⟩ := px; have hg := (hsl.2.2.2.2.2.2 x hx1.1 hx1.2).1; exact gx_out0 rfl ⟨rfl, by omega, rfl⟩ (Nat.le_of_ble_eq_true rfl) (Nat.le_of_ble_eq_true rfl)) (k_r (fun r_2 h_2 p_2 => ?_))
    obtain ⟨g1, hfz, hse, z_2⟩ := p_2
    rw [z_2]
    obtain ⟨cc_, bb_, pp_, fc, fs_, y1, y2, y3, y4, y5, y6⟩ := id hse
    obtain ⟨q1, z2, z3⟩ : ∃ q1, fs_ x = some q1 ∧ h q1 = some (110 + 30 * s + 3 + x, shC (M 1) s x) := (y5 x hx1.1 hx1.2).elim (fun z => z.2) (fun z => absurd hg1 z.1)
    refine g_getN (k0 := 4) (by first | assumption | exact g_up_self _ _ _ | (refine g_upf ?_ ?_ <;> assumption) | (refine g_upt ?_ ?_ (by decide) <;> assumption)) in_X5 q671 rfl (by decide) rfl dX1_shareAt_5 ?_
    refine g_iload2 dX1_shareAt_8 ?_
    refine g_aald y4 rfl (by omega) (by omega) dX1_shareAt_9 ?_
    rw [z2]
    change V _ _ _ _ _ _ _ _ _ _ _ _ [.ref q1]
    first | refine g_astore3 dX1_shareAt_10 (by decide) ?_ | refine g_astoreQ3 dX1_shareAt_10 (by decide) ?_ | refine g_astoreN3 dX1_shareAt_10 (by decide) ?_
    first | refine g_aload3 dX1_shareAt_11 ?_ | refine g_aloadQ3 dX1_shareAt_11 ?_ | refine g_aloadN3 dX1_shareAt_11 ?_
    refine g_ifnullR dX1_shareAt_12 ?_
    refine g_iconst (nI 1) dX1_shareAt_15 (by decide) ?_
    refine g_goto (tgt := 20) dX1_shareAt_16 (by decide) ?_
    refine g_callS (ctX1_requireElement 1 (by decide)) kX1_requireElement q1139 (by decide) ⟨Nat.le_of_ble_eq_true rfl, Nat.le_of_ble_eq_true rfl⟩ rfl (Nat.le_of_ble_eq_true rfl) dX1_shareAt_20 (fun C_ q_ h2_ px => by obtain ⟨rfl, c_20, rfl⟩ := px; exact absurd c_20 (by decide)) (k_v (fun h_20 p_20 => ?_))
    obtain ⟨b_20, z_20⟩ := p_20
    rw [z_20]
    first | refine g_aload3 dX1_shareAt_23 ?_ | refine g_aloadQ3 dX1_shareAt_23 ?_ | refine g_aloadN3 dX1_shareAt_23 ?_
    exact g_aret dX1_shareAt_24 rfl (Or.inl ⟨_, rfl⟩) ⟨_, rfl, hg1, g1, ⟨_, _, _, _, _, _, hfz, ⟨y1, y2, y3, y4, y5, y6⟩, z2, z3⟩, rfl⟩
  · skip
    first | refine g_aload0 dX1_shareAt_0 ?_ | refine g_aloadQ0 dX1_shareAt_0 ?_ | refine g_aloadN0 dX1_shareAt_0 ?_
    refine g_iload1 dX1_shareAt_1 ?_
    refine g_callVR (ctX1_secretInX hVX hx hW s hs) kX1_secretIn q1135 (gRv.g hVX.1 rfl rfl) (by decide) ⟨Nat.le_of_ble_eq_true rfl, Nat.le_of_ble_eq_true rfl⟩ rfl (Nat.le_of_ble_eq_true rfl) dX1_shareAt_2 (fun C_ q_ h2_ px => by obtain ⟨rfl, c_2, rfl⟩ := px; have hg := (hsl.2.2.2.2.2.2 x hx1.1 hx1.2).1; exact gx_out0 rfl ⟨rfl, by omega, rfl⟩ (Nat.le_of_ble_eq_true rfl) (Nat.le_of_ble_eq_true rfl)) (k_r (fun r_2 h_2 p_2 => ?_))
    obtain ⟨g1, hfz, hse, z_2⟩ := p_2
    rw [z_2]
    obtain ⟨cc_, bb_, pp_, fc, fs_, y1, y2, y3, y4, y5, y6⟩ := id hse
    have z2 : fs_ x = none := (y5 x hx1.1 hx1.2).elim (fun z => absurd z.1 hg1) (fun z => z.2)
    refine g_getN (k0 := 4) (by first | assumption | exact g_up_self _ _ _ | (refine g_upf ?_ ?_ <;> assumption) | (refine g_upt ?_ ?_ (by decide) <;> assumption)) in_X5 q671 rfl (by decide) rfl dX1_shareAt_5 ?_
    refine g_iload2 dX1_shareAt_8 ?_
    refine g_aald y4 rfl (by omega) (by omega) dX1_shareAt_9 ?_
    rw [z2]
    change V _ _ _ _ _ _ _ _ _ _ _ _ [.null]
    first | refine g_astore3 dX1_shareAt_10 (by decide) ?_ | refine g_astoreQ3 dX1_shareAt_10 (by decide) ?_ | refine g_astoreN3 dX1_shareAt_10 (by decide) ?_
    first | refine g_aload3 dX1_shareAt_11 ?_ | refine g_aloadQ3 dX1_shareAt_11 ?_ | refine g_aloadN3 dX1_shareAt_11 ?_
    refine g_ifnullN (tgt := 19) dX1_shareAt_12 (by decide) ?_
    refine g_iconst (nI 0) dX1_shareAt_19 (by decide) ?_
    refine g_callS (ctX1_requireElement 0 (by decide)) kX1_requireElement q1139 (by decide) ⟨Nat.le_of_ble_eq_true rfl, Nat.le_of_ble_eq_true rfl⟩ rfl (Nat.le_of_ble_eq_true rfl) dX1_shareAt_20 (fun C_ q_ h2_ px => by obtain ⟨rfl, c_20, rfl⟩ := px; exact gx_out0 rfl ⟨rfl, hg1, rfl⟩ (Nat.le_of_ble_eq_true rfl) (Nat.le_of_ble_eq_true rfl)) (k_v (fun h_20 p_20 => ?_))
    exact absurd p_20.1 (by decide)
    
theorem seX.v {E : GE} {S : Nat} {g : Nat → Nat} {s a c b q x v : Nat} {p : Option Nat} {fc : Nat → Nat} {fs : Nat → Option Nat} {h : AH} (hs : seX E S g s a c b p fc fs h) (hx : 1 ≤ x ∧ x ≤ 24) (hq : fs x = some q) (hh : h q = some (S + 3 + x, shC g s x)) (hle : gOf g s 11 ≤ 40) (hk : gOf g s 1 ≤ 8) (hS : 8 < S) : seX E S (shG g s x v (gSh g s x 2)) s a c b p fc fs (g_up h q (S + 3 + x, gO 4 [.int (nI x), .int (nI v), .int (nI (gSh g s x 2))])) := by
  obtain ⟨h1, h2, h3, h4, h5, h6⟩ := hs
  have fr : Fr (fun u => u = S + 3 + x) h (g_up h q (S + 3 + x, gO 4 [.int (nI x), .int (nI v), .int (nI (gSh g s x 2))])) := Fr.put hh rfl
  refine ⟨?_, ?_, fun j hj => ?_, fr _ _ _ h4 (by omega), fun y y1 y2 => ?_, ?_⟩
  · rw [shG_w (by decide), shG_w (by decide)]
    exact fr _ _ _ h1 (by omega)
  · rw [shG_w (by decide)]
    exact fr _ _ _ h2 (by omega)
  · rw [shG_w (by decide)] at hj
    rw [shG_w (by omega)]
    exact h3 j hj
  · by_cases ey : y = x
    · subst ey
      refine Or.inl ⟨shG_0 _ _ _ _ _, q, hq, ?_⟩
      unfold shC
      rw [shG_1, shG_2]
      exact g_up_self _ _ _
    · have hc : ∀ c, c < 3 → gSh (shG g s x v (gSh g s x 2)) s y c = gSh g s y c := fun c hc => shG_y hx.1 y1 ey hc
      rcases h5 y y1 y2 with ⟨k1, q2, k2, k3⟩ | ⟨k1, k2⟩
      · refine Or.inl ⟨(hc 0 (by decide)).trans k1, q2, k2, ?_⟩
        unfold shC at k3 ⊢
        rw [hc 1 (by decide), hc 2 (by decide)]
        exact fr _ _ _ k3 (by omega)
      · exact Or.inr ⟨fun z => k1 ((hc 0 (by decide)).symm.trans z), k2⟩
  · refine (h6.cg (g' := shG g s x v (gSh g s x 2)) (shG_w (by decide)) hle (fun k hk9 => shG_w (by omega))).fr fr (by omega) (by omega)
abbrev mX1_setShare : GM := (yX1_setShare, 6, (some .int), [], { frames := 9, cells := 900, slots := 90000, locals := 154 }, 255)
theorem kX1_setShare : gCv cX1_setShare mX1_setShare 3 := ⟨q1555, q1556, q67, q1557, ⟨by decide +kernel, by decide +kernel, by decide +kernel⟩, rfl⟩
theorem uX1_setShare : gCu cX1_setShare mX1_setShare 3 := ⟨q1555, q67, q1557, ⟨by decide +kernel, by decide +kernel, by decide +kernel⟩, rfl⟩
set_option maxHeartbeats 400000 in
theorem ctX1_setShare {E : GE} {h : AH} {v : Nat} {L9 : List Nat} (M : TW) (s : Nat) (p9 : Nat) (v9 : Nat) (hV : VO E M v L9 h) (hW : vW M) (hs : s < 4294967296) (hp9 : p9 < 4294967296) (hv9 : v9 < 4294967296)  : Ct E cX1_setShare mX1_setShare [.ref v, .int (nI s), .int (nI p9), .int (nI v9)] (h) (pN fun r h' => xc_setShare M s p9 v9 = 0 ∧ r = xv_setShare M s p9 v9 ∧ VO E (xm_setShare M s p9 v9) v L9 h' ∧ Fr vP h h') (fun C _ h' => cX ["java/lang/IndexOutOfBoundsException", "java/lang/IllegalArgumentException", "java/util/NoSuchElementException"] C (xc_setShare M s p9 v9) ∧ VO E (xm_setShare M s p9 v9) v L9 h' ∧ Fr vP h h') := by
  refine g_enter (own := "SecretVault") [some (.ref v), some (.int (nI s)), some (.int (nI p9)), some (.int (nI v9)), none, none] (by decide +kernel) rfl rfl (Nat.le_of_ble_eq_true rfl) rfl rfl (fun X => ?_)
  obtain ⟨w, b, sv, hv, ⟨aw, ap, az, ad, fw, fp, fz, x1, x2, x3, x4, x5, x6, x7, x8⟩, hsv, hsb, hlen, hch⟩ := id hV
  refine g_iload1 dX1_setShare_0 ?_
  refine g_iconst (nI 4) dX1_setShare_1 (by decide) ?_
  refine g_callS (ctX1_requireIndex s 4 (by omega) (by decide)) kX1_requireIndex q917 (by decide) ⟨Nat.le_of_ble_eq_true rfl, Nat.le_of_ble_eq_true rfl⟩ rfl (Nat.le_of_ble_eq_true rfl) dX1_setShare_2 (fun C_ q_ h2_ px => by obtain ⟨rfl, c_2, rfl⟩ := px; exact gx_out0 rfl ⟨(by unfold cX xc_setShare; (repeat' split) <;> first | exact ⟨Nat.zero_lt_succ _, rfl⟩ | (exfalso; omega)), (by unfold xm_setShare; (repeat' split) <;> first | exact hV | (exfalso; omega)), Fr.rf⟩ (Nat.le_of_ble_eq_true rfl) (Nat.le_of_ble_eq_true rfl)) (k_v (fun h_2 p_2 => ?_))
  obtain ⟨i_2, z_2⟩ := p_2
  rw [z_2]
  refine g_iload2 dX1_setShare_5 ?_
  refine g_callS (ctX1_requirePlace p9 (by omega)) kX1_requirePlace q1535 (by decide) ⟨Nat.le_of_ble_eq_true rfl, Nat.le_of_ble_eq_true rfl⟩ rfl (Nat.le_of_ble_eq_true rfl) dX1_setShare_6 (fun C_ q_ h2_ px => by obtain ⟨rfl, c_6, rfl⟩ := px; exact gx_out0 rfl ⟨(by unfold cX xc_setShare; (repeat' split) <;> first | exact ⟨Nat.zero_lt_succ _, rfl⟩ | (exfalso; omega)), (by unfold xm_setShare; (repeat' split) <;> first | exact hV | (exfalso; omega)), Fr.rf⟩ (Nat.le_of_ble_eq_true rfl) (Nat.le_of_ble_eq_true rfl)) (k_v (fun h_6 p_6 => ?_))
  obtain ⟨i_6, z_6⟩ := p_6
  rw [z_6]
  refine g_iload3 dX1_setShare_9 ?_
  refine g_iconst (nI 0) dX1_setShare_10 (by decide) ?_
  refine g_sipush (nI 1018) dX1_setShare_11 (by decide) ?_
  refine g_callS (ctX1_in v9 0 1018 (by omega) (by omega) (by omega)) kX1_in q935 (by decide) ⟨Nat.le_of_ble_eq_true rfl, Nat.le_of_ble_eq_true rfl⟩ rfl (Nat.le_of_ble_eq_true rfl) dX1_setShare_14 k_x (k_n (fun r_14 h_14 p_14 => ?_))
  obtain ⟨b_14, i_14, z_14⟩ := p_14
  rw [z_14]
  refine g_callS (ctX1_require _ (by omega)) kX1_require q938 (by decide) ⟨Nat.le_of_ble_eq_true rfl, Nat.le_of_ble_eq_true rfl⟩ rfl (Nat.le_of_ble_eq_true rfl) dX1_setShare_17 (fun C_ q_ h2_ px => by obtain ⟨rfl, c_17, rfl⟩ := px; exact gx_out0 rfl ⟨(by unfold cX xc_setShare; (repeat' split) <;> first | exact ⟨Nat.zero_lt_succ _, rfl⟩ | (exfalso; omega)), (by unfold xm_setShare; (repeat' split) <;> first | exact hV | (exfalso; omega)), Fr.rf⟩ (Nat.le_of_ble_eq_true rfl) (Nat.le_of_ble_eq_true rfl)) (k_v (fun h_17 p_17 => ?_))
  obtain ⟨b_17, z_17⟩ := p_17
  rw [z_17]
  first | refine g_aload0 dX1_setShare_20 ?_ | refine g_aloadQ0 dX1_setShare_20 ?_ | refine g_aloadN0 dX1_setShare_20 ?_
  refine g_iload1 dX1_setShare_21 ?_
  refine g_iload2 dX1_setShare_22 ?_
  refine g_callVR (ctX1_shareAtX ⟨hv, ⟨aw, ap, az, ad, fw, fp, fz, x1, x2, x3, x4, x5, x6, x7, x8⟩, hsv, hsb, hlen, hch⟩ ⟨x1, x2, x3, x4, x5, x6, x7, x8⟩ hW s (by omega) p9 (by omega)) kX1_shareAt q1538 (gRv.g hv rfl rfl) (by decide) ⟨Nat.le_of_ble_eq_true rfl, Nat.le_of_ble_eq_true rfl⟩ rfl (Nat.le_of_ble_eq_true rfl) dX1_setShare_23 (fun C_ q_ h2_ px => by obtain ⟨rfl, c_23, rfl⟩ := px; exact gx_out0 rfl ⟨(by unfold cX xc_setShare; (repeat' split) <;> first | exact ⟨Nat.zero_lt_succ _, rfl⟩ | (exfalso; omega)), (by unfold xm_setShare; (repeat' split) <;> first | exact hV | (exfalso; omega)), Fr.rf⟩ (Nat.le_of_ble_eq_true rfl) (Nat.le_of_ble_eq_true rfl)) (k_r (fun r_23 h_23 p_23 => ?_))
  obtain ⟨gs1, g0, ⟨a, c, b2, pp, fc, fs, hfz, hse, hfs, hsh⟩, z_23⟩ := p_23
  rw [z_23]
  have hsl := hW.s4 s (by omega)
  first | refine g_astore4 dX1_setShare_26 (by decide) ?_ | refine g_astoreQ4 dX1_setShare_26 (by decide) ?_ | refine g_astoreN4 dX1_setShare_26 (by decide) ?_
  first | refine g_aload4 dX1_setShare_28 ?_ | refine g_aloadQ4 dX1_setShare_28 ?_ | refine g_aloadN4 dX1_setShare_28 ?_
  refine g_getN (k0 := 1) (by first | assumption | exact g_up_self _ _ _ | (refine g_upf ?_ ?_ <;> assumption) | (refine g_upt ?_ ?_ (by decide) <;> assumption)) in_X6 q705 rfl (by decide) rfl dX1_setShare_30 ?_
  refine g_istore5 dX1_setShare_33 (by decide) ?_
  first | refine g_aload4 dX1_setShare_35 ?_ | refine g_aloadQ4 dX1_setShare_35 ?_ | refine g_aloadN4 dX1_setShare_35 ?_
  refine g_iload3 dX1_setShare_37 ?_
  refine g_putN (k0 := 1) (by first | assumption | exact g_up_self _ _ _ | (refine g_upf ?_ ?_ <;> assumption) | (refine g_upt ?_ ?_ (by decide) <;> assumption)) in_X6 q705 tyX6_ok nmX6 rfl (by decide) rfl (by rfl) (by rfl) (Nat.le_of_ble_eq_true rfl) dX1_setShare_38 ?_
  refine g_iload5 dX1_setShare_41 ?_
  exact g_iret dX1_setShare_43 rfl ⟨_, rfl, (by unfold xc_setShare; (repeat' split) <;> first | rfl | (exfalso; omega)), rfl, by unfold xm_setShare; rw [if_pos ⟨by omega, by omega, by omega, by omega, gs1⟩]; exact VO.sl (s := s) (fz' := fz) (P := fun u => u = 110 + 30 * s + 3 + p9) (by omega) hW ⟨x1, x2, x3, x4, x5, x6, x7, x8⟩ ⟨hv, ⟨aw, ap, az, ad, fw, fp, fz, x1, x2, x3, x4, x5, x6, x7, x8⟩, hsv, hsb, hlen, hch⟩ (Fr.put hsh rfl) (fun u z => by omega) (g_upt x6 hsh (by omega)) (fun _ _ => rfl) (Or.inl ⟨(shG_w (by decide)).trans g0, a, hfz, _, _, _, _, _, hse.v (by omega) hfs hsh hsl.2.2.2.2.2.1 hsl.2.2.1 (by omega)⟩) (fun i hi => shG_ne (by omega)) (fun j hj hjs w hw => shG_s hjs (by omega) hw) rfl rfl rfl rfl rfl rfl rfl rfl⟩
theorem tClr_sm {M : TW} {s : Nat} (hW : vW M) : ∀ j, j < 4 → gOf (tClr M s 124 1) j 11 ≤ 40 ∧ gOf (tClr M s 124 1) j 1 ≤ 8 := fun j hj => by
  obtain ⟨t1, t2, t3⟩ := tClr_at M s 124
  by_cases e : j = s
  · subst e
    exact ⟨by rw [show gOf (tClr M j 124 1) j 11 = 0 from t1 11 (by decide)]; decide, by rw [show gOf (tClr M j 124 1) j 1 = 0 from t1 1 (by decide)]; decide⟩
  · exact ⟨by rw [show gOf (tClr M s 124 1) j 11 = gOf (M 1) j 11 from t2 _ (by omega)]; exact (hW.sm j hj).1, by rw [show gOf (tClr M s 124 1) j 1 = gOf (M 1) j 1 from t2 _ (by omega)]; exact (hW.sm j hj).2⟩
theorem tClr_17 {M : TW} {s : Nat} (hW : vW M) : tClr M s 124 1 17 ≤ 20 := by
  rw [(tClr_at M s 124).2.1 17 (by omega)]
  exact hW.h17
abbrev mX1_remove : GM := (yX1_remove, 3, (some .int), [], { frames := 8, cells := 900, slots := 90000, locals := 175 }, 255)
theorem kX1_remove : gCv cX1_remove mX1_remove 1 := ⟨q1132, q1133, q67, q1134, ⟨by decide +kernel, by decide +kernel, by decide +kernel⟩, rfl⟩
theorem uX1_remove : gCu cX1_remove mX1_remove 1 := ⟨q1132, q67, q1134, ⟨by decide +kernel, by decide +kernel, by decide +kernel⟩, rfl⟩
set_option maxHeartbeats 400000 in
theorem ctX1_remove {E : GE} {h : AH} {v : Nat} {L9 : List Nat} (M : TW) (s : Nat) (hV : VO E M v L9 h) (hW : vW M) (hs : s < 4294967296)  : Ct E cX1_remove mX1_remove [.ref v, .int (nI s)] (h) (pN fun r h' => xc_remove M s = 0 ∧ r = xv_remove M s ∧ VO E (xm_remove M s) v L9 h' ∧ Fr vP h h') (fun C _ h' => cX ["java/lang/IndexOutOfBoundsException", "java/util/NoSuchElementException"] C (xc_remove M s) ∧ VO E (xm_remove M s) v L9 h' ∧ Fr vP h h') := by
  refine g_enter (own := "SecretVault") [some (.ref v), some (.int (nI s)), none] (by decide +kernel) rfl rfl (Nat.le_of_ble_eq_true rfl) rfl rfl (fun X => ?_)
  obtain ⟨w, b, sv, hv, ⟨aw, ap, az, ad, fw, fp, fz, x1, x2, x3, x4, x5, x6, x7, x8⟩, hsv, hsb, hlen, hch⟩ := id hV
  refine g_iload1 dX1_remove_0 ?_
  refine g_iconst (nI 4) dX1_remove_1 (by decide) ?_
  refine g_callS (ctX1_requireIndex s 4 (by omega) (by decide)) kX1_requireIndex q917 (by decide) ⟨Nat.le_of_ble_eq_true rfl, Nat.le_of_ble_eq_true rfl⟩ rfl (Nat.le_of_ble_eq_true rfl) dX1_remove_2 (fun C_ q_ h2_ px => by obtain ⟨rfl, c_2, rfl⟩ := px; exact gx_out0 rfl ⟨(by unfold cX xc_remove; (repeat' split) <;> first | exact ⟨Nat.zero_lt_succ _, rfl⟩ | (exfalso; omega)), (by unfold xm_remove; (repeat' split) <;> first | exact hV | (exfalso; omega)), Fr.rf⟩ (Nat.le_of_ble_eq_true rfl) (Nat.le_of_ble_eq_true rfl)) (k_v (fun h_2 p_2 => ?_))
  obtain ⟨i_2, z_2⟩ := p_2
  rw [z_2]
  first | refine g_aload0 dX1_remove_5 ?_ | refine g_aloadQ0 dX1_remove_5 ?_ | refine g_aloadN0 dX1_remove_5 ?_
  refine g_iload1 dX1_remove_6 ?_
  refine g_callVR (ctX1_secretInX ⟨hv, ⟨aw, ap, az, ad, fw, fp, fz, x1, x2, x3, x4, x5, x6, x7, x8⟩, hsv, hsb, hlen, hch⟩ ⟨x1, x2, x3, x4, x5, x6, x7, x8⟩ hW s (by omega)) kX1_secretIn q1135 (gRv.g hv rfl rfl) (by decide) ⟨Nat.le_of_ble_eq_true rfl, Nat.le_of_ble_eq_true rfl⟩ rfl (Nat.le_of_ble_eq_true rfl) dX1_remove_7 (fun C_ q_ h2_ px => by obtain ⟨rfl, c_7, rfl⟩ := px; exact gx_out0 rfl ⟨(by unfold cX xc_remove; (repeat' split) <;> first | exact ⟨Nat.zero_lt_succ _, rfl⟩ | (exfalso; omega)), (by unfold xm_remove; (repeat' split) <;> first | exact hV | (exfalso; omega)), Fr.rf⟩ (Nat.le_of_ble_eq_true rfl) (Nat.le_of_ble_eq_true rfl)) (k_r (fun r_7 h_7 p_7 => ?_))
  obtain ⟨g1, hfz, hse, z_7⟩ := p_7
  rw [z_7]
  obtain ⟨cc_, bb_, pp_, fc, fs_, y1, y2, y3, y4, y5, y6⟩ := id hse
  refine g_getN (k0 := 1) (by first | assumption | exact g_up_self _ _ _ | (refine g_upf ?_ ?_ <;> assumption) | (refine g_upt ?_ ?_ (by decide) <;> assumption)) in_X5 q663 rfl (by decide) rfl dX1_remove_10 ?_
  refine g_istore2 dX1_remove_13 (by decide) ?_
  first | refine g_aload0 dX1_remove_14 ?_ | refine g_aloadQ0 dX1_remove_14 ?_ | refine g_aloadN0 dX1_remove_14 ?_
  refine g_get (k0 := 0) (by first | assumption | exact g_up_self _ _ _ | (refine g_upf ?_ ?_ <;> assumption) | (refine g_upt ?_ ?_ (by decide) <;> assumption)) in_X1 q577 rfl (by decide) rfl dX1_remove_15 ?_
  refine g_getN (k0 := 2) (by first | assumption | exact g_up_self _ _ _ | (refine g_upf ?_ ?_ <;> assumption) | (refine g_upt ?_ ?_ (by decide) <;> assumption)) in_X2 q176 rfl (by decide) rfl dX1_remove_18 ?_
  refine g_iload1 dX1_remove_21 ?_
  refine g_null dX1_remove_22 ?_
  refine g_aastN x6 rfl (by omega) (by omega) dX1_remove_23 ?_
  have t9 := tClr_at M s 124
  obtain ⟨⟨w2, b2, sv2, hv2, ⟨aw2, ap2, az2, ad2, fw2, fp2, fz2, X1, X2, X3, X4, X5, X6, X7, X8⟩, hsv2, hsb2, hlen2, hch2⟩, hF1⟩ := VO.sl (M' := tClr M s 124) (s := s) (fz' := nup fz s none) (P := fun u => u = 103) (by omega) hW ⟨x1, x2, x3, x4, x5, x6, x7, x8⟩ ⟨hv, ⟨aw, ap, az, ad, fw, fp, fz, x1, x2, x3, x4, x5, x6, x7, x8⟩, hsv, hsb, hlen, hch⟩ (Fr.put x6 rfl) (fun u z => Or.inl z) (g_up_self _ _ _) (fun j hj => nup_ne _ _ hj) (by rw [nup_self]; exact Or.inr ⟨fun z => by have := t9.1 0 (by decide); exact absurd (z.symm.trans this) (by decide), rfl⟩) (fun i hi => t9.2.1 i (by omega)) (fun j hj hjs w hw => t9.2.1 _ (by omega)) (by rw [t9.2.2 0 (by decide)]) (by rw [t9.2.2 0 (by decide)]) (by rw [t9.2.2 0 (by decide)]) (by rw [t9.2.2 0 (by decide)]) (t9.2.2 2 (by decide)) (t9.2.2 8 (by decide)) (t9.2.2 9 (by decide)) (t9.2.2 14 (by decide))
  first | refine g_aload0 dX1_remove_24 ?_ | refine g_aloadQ0 dX1_remove_24 ?_ | refine g_aloadN0 dX1_remove_24 ?_
  refine g_get (k0 := 0) (by first | assumption | exact g_up_self _ _ _ | (refine g_upf ?_ ?_ <;> assumption) | (refine g_upt ?_ ?_ (by decide) <;> assumption)) in_X1 q577 rfl (by decide) rfl dX1_remove_25 ?_
  refine g_sipush (nI 200) dX1_remove_28 (by decide) ?_
  refine g_iload1 dX1_remove_31 ?_
  first | refine g_iaddN dX1_remove_32 ?_ | refine g_iadd dX1_remove_32 ?_
  refine g_callVR (ctX2_note X1 X8 (by decide) ⟨by decide, by decide⟩ (by omega)) kX2_note q1105 (gRv.g X1 rfl rfl) (by decide) ⟨Nat.le_of_ble_eq_true rfl, Nat.le_of_ble_eq_true rfl⟩ rfl (Nat.le_of_ble_eq_true rfl) dX1_remove_33 k_x (k_v (fun h_33 p_33 => ?_))
  obtain ⟨d_33, f_33⟩ := p_33
  have q9 := VO.ev (c := 200 + s) ⟨X1, X2, X3, X4, X5, X6, X7, X8⟩ ⟨hv2, ⟨aw2, ap2, az2, ad2, fw2, fp2, fz2, X1, X2, X3, X4, X5, X6, X7, X8⟩, hsv2, hsb2, hlen2, hch2⟩ (tClr_17 hW) (tClr_sm hW) d_33 f_33
  refine g_iload2 dX1_remove_36 ?_
  exact g_iret dX1_remove_37 rfl ⟨_, rfl, (by unfold xc_remove; (repeat' split) <;> first | rfl | (exfalso; omega)), rfl, (by unfold xm_remove; rw [if_neg (by omega)]; exact q9.1), hF1.tr q9.2⟩
