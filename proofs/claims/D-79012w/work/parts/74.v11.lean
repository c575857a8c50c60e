/-! THE VAULT: refresh -/
set_option maxRecDepth 100000
/-- a slot and the seed change -/
theorem VO.slz {E : GE} {M M' : TW} {v s : Nat} {L : List Nat} {h h' : AH} {w b aw ap az ad : Nat} {sv : Option Nat} {fw fp : Nat → Nat} {fz fz' : Nat → Option Nat} {P : Nat → Prop} (hs : s < 4) (hW : vW M) (hx : WX E 100 (M 1) w aw ap az ad fw fp fz h) (hV : VX9 E M v L w b sv h) (hf : Fr P h h') (hp : ∀ u, P u → u = 100 ∨ u = 103 ∨ (110 + 30 * s ≤ u ∧ u < 138 + 30 * s) ∨ 1000 ≤ u) (hw' : h' w = some (100, gO 1 [.ref aw, .ref ap, .ref az, .ref ad, .int (nI (M' 1 0))])) (x6' : h' az = some (103, gAR E 6 4 fz')) (hz : ∀ j, j ≠ s → fz' j = fz j) (hnew : slO E 100 (M' 1) s (fz' s) h') (hlo : ∀ i, 1 ≤ i → i < 38 → M' 1 i = M 1 i) (hg : ∀ j, j < 4 → j ≠ s → ∀ w, w < 124 → gOf (M' 1) j w = gOf (M 1) j w) (e3 : M' 0 3 = M 0 3) (e10 : M' 0 10 = M 0 10) (e15 : M' 0 15 = M 0 15) (e16 : M' 0 16 = M 0 16) (e2 : M' 2 = M 2) (e8 : M' 8 = M 8) (e9 : M' 9 = M 9) (e14 : M' 14 = M 14) : VO E M' v L h' ∧ Fr vP h h' := by
  obtain ⟨x1, x2, x3, x4, x5, x6, x7, x8⟩ := hx
  have hf2 : Fr wdP h h' := hf.mono (fun u z => by have := hp u z; omega)
  refine ⟨⟨w, b, sv, hV.wd hf2 ⟨aw, ap, az, ad, fw, fp, fz', hw', hf _ _ _ x2 (fun z => by have := hp _ z; omega), fun m hm => (x3 m hm).trans (hlo _ (by omega) (by omega)).symm, hf _ _ _ x4 (fun z => by have := hp _ z; omega), fun m hm => (x5 m hm).trans (hlo _ (by omega) (by omega)).symm, x6', fun j hj => ?_, ev_up x8 hf (fun z => by have := hp _ z; omega) (fun z => by have := hp _ z; omega) (fun z => by have := hp _ z; omega) hW.h17 (hlo _ (by omega) (by omega)) (fun k hk => hlo _ (by omega) (by omega))⟩ e3 e10 e15 e16 e2 e8 e9 e14⟩, hf2.wv⟩
  by_cases e : j = s
  · rw [e]
    exact hnew
  · rw [hz j e]
    exact ((x7 j hj).fr hf (fun t ht z => by have := hp _ z; omega) (fun z => by have := hp _ z; omega) (fun z => by have := hp _ z; omega)).cg (hW.s4 j hj).2.2.2.2.2.1 (hW.s4 j hj).2.2.1 (hg j hj e)
theorem rfP_sh (N : TW) (s k e p : Nat) : ∀ x, 1 ≤ x → x ≤ p → gSh (rfP N s k e p 1) s x 0 = gSh (N 1) s x 0 ∧ gSh (rfP N s k e p 1) s x 1 = (if rfU (N 1) s e x then (gSh (N 1) s x 1 + poD (N 4) x k 0) % 1019 else gSh (N 1) s x 1) ∧ gSh (rfP N s k e p 1) s x 2 = (if rfU (N 1) s e x then e + 1 else gSh (N 1) s x 2) := by
  induction p with
  | zero => exact fun x h1 h2 => by omega
  | succ p ih =>
    intro x h1 h2
    by_cases ex : x = p + 1
    · subst ex
      have far : ∀ c, gSh (rfP N s k e p 1) s (p + 1) c = gSh (N 1) s (p + 1) c := fun c => by
        rw [gSh_of, gSh_of]
        exact rfP_far N s k e p _ (by omega)
      rw [rfP]
      by_cases q : rfU (N 1) s e (p + 1)
      · rw [if_pos q, if_pos q, if_pos q]
        exact ⟨(shG_0 (rfP N s k e p 1) s (p + 1) _ _).trans q.2.1.symm, shG_1 (rfP N s k e p 1) s (p + 1) _ _, shG_2 (rfP N s k e p 1) s (p + 1) _ _⟩
      · rw [if_neg q, if_neg q, if_neg q]
        exact ⟨far 0, far 1, far 2⟩
    · have ii := ih x h1 (by omega)
      rw [rfP]
      by_cases q : rfU (N 1) s e (p + 1)
      · rw [if_pos q]
        have hy : ∀ c, c < 3 → gSh (tShare (rfP N s k e p) s (p + 1) ((gSh (N 1) s (p + 1) 1 + poD (N 4) (p + 1) k 0) % 1019) (e + 1) 1) s x c = gSh (rfP N s k e p 1) s x c := fun c hc => shG_y (g := rfP N s k e p 1) (Nat.succ_le_succ (Nat.zero_le p)) h1 ex hc
        rw [hy 0 (by decide), hy 1 (by decide), hy 2 (by decide)]
        exact ii
      · rw [if_neg q]
        exact ii
theorem rfC_at (N : TW) (s i : Nat) : ∀ j, j < i → rfC N s i 1 (38 + 124 * s + (3 + j)) = gOf (N 1) s (3 + j) * (4 ^ (N 4 j) % 2039) % 2039 := by
  induction i with
  | zero => exact fun j hj => absurd hj (Nat.not_lt_zero j)
  | succ i ih =>
    intro j hj
    by_cases e : j = i
    · rw [e]
      exact tset_ss _ _ _ _
    · rw [rfC, tset_sn _ _ _ (by omega)]
      exact ih j (by omega)
theorem rfM_at (M : TW) (s k e : Nat) (hk : k ≤ 8) : (∀ i, 1 ≤ i → i < 38 + 124 * s ∨ 38 + 124 * s + 124 ≤ i → rfM M s k e 1 i = M 1 i) ∧ rfM M s k e 1 0 = zI (M 1 0) (k - 1) ∧ (∀ w, w < 52 → w ≠ 2 → w < 3 ∨ 3 + k ≤ w → gOf (rfM M s k e 1) s w = gOf (M 1) s w) ∧ gOf (rfM M s k e 1) s 2 = e + 1 ∧ (∀ j, j < k → gOf (rfM M s k e 1) s (3 + j) = gOf (M 1) s (3 + j) * (4 ^ cfF (M 1 0) 0 j % 2039) % 2039) ∧ (∀ b, b ≠ 1 → b ≠ 4 → rfM M s k e b = M b) := by
  have up : ∀ i, i ≠ 38 + 124 * s + 2 → i < 38 + 124 * s + 3 ∨ 38 + 124 * s + 3 + k ≤ i → rfM M s k e 1 i = rfP (tCf M 0 k) s k e 24 1 i := fun i h1 h2 => by
    rw [rfM, tset_sn _ _ _ h1]
    exact rfC_far _ _ _ _ h2
  refine ⟨fun i h1 h2 => ?_, ?_, fun w h1 h2 h3 => ?_, by show tset _ 1 (38 + 124 * s + 2) (e + 1) 1 (38 + 124 * s + 2) = _; exact tset_ss _ _ _ _, fun j hj => ?_, fun b h1 h4 => ?_⟩
  · rw [up i (by omega) (by omega), rfP_far _ _ _ _ _ _ (by omega)]
    exact tCf_g M 0 k i h1
  · rw [up 0 (by omega) (by omega), rfP_far _ _ _ _ _ _ (by omega)]
    rfl
  · show rfM M s k e 1 (38 + 124 * s + w) = M 1 (38 + 124 * s + w)
    rw [up _ (by omega) (by omega), rfP_far _ _ _ _ _ _ (by omega)]
    exact tCf_g M 0 k _ (by omega)
  · show rfM M s k e 1 (38 + 124 * s + (3 + j)) = _
    rw [rfM, tset_sn _ _ _ (by omega), rfC_at _ _ _ j hj, rfP_n _ _ _ _ _ 4 (by decide)]
    have e1 : gOf (rfP (tCf M 0 k) s k e 24 1) s (3 + j) = gOf (M 1) s (3 + j) := by
      show rfP (tCf M 0 k) s k e 24 1 (38 + 124 * s + (3 + j)) = M 1 (38 + 124 * s + (3 + j))
      rw [rfP_far _ _ _ _ _ _ (by omega)]
      exact tCf_g M 0 k _ (by omega)
    have e2 : tCf M 0 k 4 j = cfF (M 1 0) 0 j := by
      show (if j < k then cfF (M 1 0) 0 j else M 4 j) = _
      exact if_pos hj
    rw [e1, e2]
  · rw [rfM, tset_n _ _ _ h1, rfC_n _ _ _ _ h1, rfP_n _ _ _ _ _ _ h1]
    unfold tCf
    rw [if_neg h4, if_neg h1]
theorem rfM_sh (M : TW) (s k e : Nat) (hk : k ≤ 8) (x : Nat) (h1 : 1 ≤ x) (h2 : x ≤ 24) : gSh (rfM M s k e 1) s x 0 = gSh (M 1) s x 0 ∧ gSh (rfM M s k e 1) s x 1 = (if rfU (M 1) s e x then (gSh (M 1) s x 1 + poD (cfF (M 1 0) 0) x k 0) % 1019 else gSh (M 1) s x 1) ∧ gSh (rfM M s k e 1) s x 2 = (if rfU (M 1) s e x then e + 1 else gSh (M 1) s x 2) := by
  have ha : ∀ c, gSh (rfM M s k e 1) s x c = gSh (rfP (tCf M 0 k) s k e 24 1) s x c := fun c => by
    rw [gSh_of, gSh_of]
    show rfM M s k e 1 (38 + 124 * s + _) = rfP (tCf M 0 k) s k e 24 1 (38 + 124 * s + _)
    rw [rfM, tset_sn _ _ _ (by omega)]
    exact rfC_far _ _ _ _ (by omega)
  have hb : ∀ c, gSh (tCf M 0 k 1) s x c = gSh (M 1) s x c := fun c => by
    rw [gSh_of, gSh_of]
    exact tCf_g M 0 k _ (by omega)
  have hu : rfU (tCf M 0 k 1) s e x ↔ rfU (M 1) s e x := by
    unfold rfU
    rw [hb, hb, tCf_g M 0 k _ (by omega)]
  have hpo : poD (tCf M 0 k 4) x k 0 = poD (cfF (M 1 0) 0) x k 0 := poD_cg k 0 (fun j hj => by show (if j < k then cfF (M 1 0) 0 j else M 4 j) = _; exact if_pos hj)
  obtain ⟨r0, r1, r2⟩ := rfP_sh (tCf M 0 k) s k e 24 x h1 h2
  rw [ha, ha, ha, r0, r1, r2]
  by_cases q : rfU (M 1) s e x
  · rw [if_pos (hu.mpr q), if_pos (hu.mpr q), if_pos q, if_pos q]
    exact ⟨hb 0, by rw [hb, hpo], rfl⟩
  · rw [if_neg (fun z => q (hu.mp z)), if_neg (fun z => q (hu.mp z)), if_neg q, if_neg q]
    exact ⟨hb 0, hb 1, hb 2⟩
