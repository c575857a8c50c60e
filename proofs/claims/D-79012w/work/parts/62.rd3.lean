/-! THE READER: policies -/
set_option maxRecDepth 100000
theorem hvE (t : Nat → Nat) (n p c : Nat) (h0 : 0 < c) (h1 : c < 4294967295) : hvT t n p = c ↔ hrF t n p = c := hv_eq h0 h1
abbrev rP (T : Nat) : Nat → Prop := fun u => u = 1100 ∨ T ≤ u
def obq (q : Nat) (L : List Att) : Att := if q = 0 then mkAny L else if q = 1 then mkAll L else L.headD (attOne 0)
theorem mkS_ob {q : Nat} (hq : q = 0 ∨ q = 1 ∨ q = 3) (B : List Att) : mkS q B = obq (subq q) B := by
  rcases hq with rfl | rfl | rfl <;> rfl
def TEq (P : Nat → Prop) (h h' : AH) (x p : Nat) : Prop := Fr P h h' ∧ ∃ u w, h' x = some (9, gO 15 [.ref x, va_rf u, va_rf w, .null, .null, .int 0, .int (nI p)])
theorem TEf.q {T : Nat} {h h' : AH} {rd x p : Nat} {e : va_E} (hr : h rd = some (1100, e)) (z : TEf h h' rd x p) : TEq (rP T) h h' x p := ⟨fun a t e2 z1 hp => z.2.1 a _ z1 (fun y => by rw [y, hr] at z1; cases z1; exact hp (Or.inl rfl)), z.2.2⟩
theorem rP.m {T : Nat} : ∀ u, rP (T + 2) u → rP T u := fun u z => z.imp id (fun y => Nat.le_trans (Nat.le_add_right T 2) y)
theorem TEq.tr {T : Nat} {h h1 h' : AH} {x p : Nat} (f : Fr (rP T) h h1) (z : TEq (rP (T + 2)) h1 h' x p) : TEq (rP T) h h' x p := ⟨f.tr (z.1.mono rP.m), z.2⟩
theorem TEq.tr0 {T : Nat} {h h1 h' : AH} {x p : Nat} (f : Fr (rP T) h h1) (z : TEq (rP T) h1 h' x p) : TEq (rP T) h h' x p := ⟨f.tr z.1, z.2⟩
theorem rPn {T a : Nat} (h : a < T) (h2 : a ≠ 1100) : ¬ rP T a := fun z => z.elim h2 (fun y => absurd y (Nat.not_le.mpr h))
theorem Fr.lst {T : Nat} {h h' : AH} (f : Fr (fun u => u = T ∨ u = T + 1) h h') : Fr (rP T) h h' := f.mono (fun u z => Or.inr (by omega))
/-- what comes behind an element -/
def rmq (H : Nat → Nat) (q k p : Nat) : Nat × Nat × List Att := if H p = sepq q then prs H k q (p + 1) else (1, p, [])
theorem prs_rem {H : Nat → Nat} {k q p : Nat} (hq : ¬ q = 2) : prs H (k + 1) q p = if (prs H k (subq q) p).1 = 1 then (if (rmq H q k (prs H k (subq q) p).2.1).1 = 1 then (1, (rmq H q k (prs H k (subq q) p).2.1).2.1, mkS q (prs H k (subq q) p).2.2 :: (rmq H q k (prs H k (subq q) p).2.1).2.2) else (0, (rmq H q k (prs H k (subq q) p).2.1).2.1, [])) else (0, (prs H k (subq q) p).2.1, []) := by
  rw [prs, if_neg hq]
  unfold rmq
  by_cases h1 : (prs H k (subq q) p).1 = 1
  · rw [if_pos h1, if_pos h1]
    by_cases h2 : H (prs H k (subq q) p).2.1 = sepq q
    · rw [if_pos h2, if_pos h2]
    · rw [if_neg h2, if_neg h2, if_pos rfl]
  · rw [if_neg h1, if_neg h1]
theorem prs_gt (H : Nat → Nat) : ∀ (k q a : Nat), (prs H k q a).1 = 1 → a < (prs H k q a).2.1 := by
  intro k
  induction k with
  | zero => intro q a e; exact absurd e Nat.zero_ne_one
  | succ k ih =>
    intro q a
    have g1 := prs_ge H k 0 (a + 1)
    have g2 := prs_ge H k 3 (a + 4)
    by_cases hq : q = 2
    · subst hq
      rw [prs, if_pos rfl]
      repeat' split
      all_goals (intro e; first | exact absurd e Nat.zero_ne_one | (show a < _ + 1; omega))
    · rw [prs_rem hq]
      have g3 := prs_ge H k q ((prs H k (subq q) a).2.1 + 1)
      split
      · rename_i h1
        have g4 := ih _ _ h1
        split
        · intro _
          show a < (rmq H q k _).2.1
          unfold rmq
          split
          · omega
          · exact g4
        · intro e
          exact absurd e Nat.zero_ne_one
      · intro e
        exact absurd e Nat.zero_ne_one
theorem rmq_ge (H : Nat → Nat) (q k p : Nat) : p ≤ (rmq H q k p).2.1 := by
  unfold rmq
  split
  · have := prs_ge H k q (p + 1)
    omega
  · exact Nat.le_refl _
theorem RT.add {E : GE} {T : Nat} {h h' : AH} {k l y : Nat} {L : List Nat} {B : List Att} {b : Att} {P : Nat → Prop} (hr : RT E T h k l L B) (hy : Rep E h k y b) (hl : LI E T h' l (L ++ [y])) (hf : Fr P h h') (h7 : ¬ P 7) (h8 : ¬ P 8) : RT E T h' k l (L ++ [y]) (B ++ [b]) := by
  refine ⟨by rw [List.length_append, List.length_append, hr.1]; rfl, hl, fun i z c z1 z2 => ?_⟩
  by_cases hi : i < L.length
  · rw [List.getElem?_append_left hi] at z1
    rw [List.getElem?_append_left (by rw [hr.1]; exact hi)] at z2
    exact (hr.2.2 i z c z1 z2).fr hf h7 h8
  · have hi2 : i < (L ++ [y]).length := (List.getElem?_eq_some_iff.mp z1).1
    rw [List.length_append, List.length_singleton] at hi2
    obtain rfl : i = L.length := by omega
    rw [List.getElem?_append_right (Nat.le_refl _), Nat.sub_self] at z1
    rw [List.getElem?_append_right (by rw [hr.1]; exact Nat.le_refl _), hr.1, Nat.sub_self] at z2
    cases z1
    cases z2
    exact hy.fr hf h7 h8
theorem RT.ob {E : GE} {T : Nat} {h : AH} {k l : Nat} {L : List Nat} {B : List Att} (hr : RT E T h k l L B) : ∀ y ∈ L, gOb E h y := fun y hy => by
  obtain ⟨i, hi⟩ := List.getElem?_of_mem hy
  have hlt : i < B.length := by rw [hr.1]; exact (List.getElem?_eq_some_iff.mp hi).1
  exact (hr.2.2 i y _ hi (List.getElem?_eq_getElem hlt)).ob
theorem RT.rt {E : GE} {T : Nat} {h : AH} {k l : Nat} {L : List Nat} {B : List Att} (hr : RT E T h k l L B) (hT : 8 < T) (hn : L ≠ []) : ∃ h', (∀ a t e, h' a = some (t, e) → ∃ t', h a = some (t', e)) ∧ RT E 7 h' k l L B ∧ Fr (fun u => u = T ∨ u = T + 1) h h' := by
  obtain ⟨h', r1, r2, r3⟩ := hr.2.1.retag hn
  exact ⟨h', r1, ⟨hr.1, r2, fun i y b z1 z2 => (hr.2.2 i y b z1 z2).fr r3 (by omega) (by omega)⟩, r3⟩
theorem RT.one {E : GE} {T : Nat} {h : AH} {k l r : Nat} {L : List Nat} {B : List Att} (hr : RT E T h k l L B) (h1 : L.length = 1) (h0 : L[0]? = some r) : ∃ b, B = [b] ∧ Rep E h k r b := by
  match B, hr.1.trans h1, hr with
  | [b], _, hr => exact ⟨b, rfl, hr.2.2 0 r b h0 rfl⟩
/-- the result of a loop, and what is still to come -/
def rsq (H : Nat → Nat) (q k p : Nat) (B : List Att) : Nat × Nat × List Att := if (rmq H q k p).1 = 1 then (1, (rmq H q k p).2.1, B ++ (rmq H q k p).2.2) else (0, (rmq H q k p).2.1, [])
theorem rsq_end {H : Nat → Nat} {q k p : Nat} {B : List Att} (h : ¬ H p = sepq q) : rsq H q k p B = (1, p, B) := by
  unfold rsq rmq
  rw [if_neg h, if_pos rfl, List.append_nil]
theorem rsq_no {H : Nat → Nat} {q k p : Nat} {B : List Att} (hq : ¬ q = 2) (h : H p = sepq q) (h1 : ¬ (prs H k (subq q) (p + 1)).1 = 1) : rsq H q (k + 1) p B = (0, (prs H k (subq q) (p + 1)).2.1, []) := by
  unfold rsq rmq
  rw [if_pos h, prs_rem hq, if_neg h1, if_neg (fun z => Nat.zero_ne_one z)]
theorem rsq_yes {H : Nat → Nat} {q k p : Nat} {B : List Att} (hq : ¬ q = 2) (h : H p = sepq q) (h1 : (prs H k (subq q) (p + 1)).1 = 1) : rsq H q (k + 1) p B = rsq H q k (prs H k (subq q) (p + 1)).2.1 (B ++ [mkS q (prs H k (subq q) (p + 1)).2.2]) := by
  unfold rsq
  have e : rmq H q (k + 1) p = prs H (k + 1) q (p + 1) := if_pos h
  rw [e, prs_rem hq, if_pos h1]
  by_cases h2 : (rmq H q k (prs H k (subq q) (p + 1)).2.1).1 = 1
  · rw [if_pos h2, if_pos h2, if_pos rfl, List.append_assoc]
    rfl
  · rw [if_neg h2, if_neg h2, if_neg (fun z => Nat.zero_ne_one z)]
theorem prs_first {H : Nat → Nat} {q k p : Nat} (hq : ¬ q = 2) (h1 : (prs H k (subq q) p).1 = 1) : prs H (k + 1) q p = rsq H q k (prs H k (subq q) p).2.1 [mkS q (prs H k (subq q) p).2.2] := by
  rw [prs_rem hq, if_pos h1]
  rfl
theorem rsq_ge {H : Nat → Nat} {q k p R1 P1 : Nat} {B L1 : List Att} (h : rsq H q k p B = (R1, P1, L1)) : p ≤ P1 := by
  have g := rmq_ge H q k p
  unfold rsq at h
  split at h
  · cases h
    exact g
  · cases h
    exact g
abbrev mX16_policy (N w : Nat) : GM := (yX16_policy, 2, (some (.object "SecretVault$Policy")), [], { frames := N + 20, cells := 10 * w + 8, slots := 70 * (10 * w + 8), locals := 60 * N + 700 }, 255)
theorem kX16_policy (N w : Nat) : gCv cX16_policy (mX16_policy N w) 0 := ⟨q1813, qs18, q112, q1814, (show gDs yX16_policy 0 from ⟨by decide +kernel, by decide +kernel, by decide +kernel⟩), rfl⟩
theorem uX16_policy (N w : Nat) : gCu cX16_policy (mX16_policy N w) 0 := ⟨q1813, q112, q1814, (show gDs yX16_policy 0 from ⟨by decide +kernel, by decide +kernel, by decide +kernel⟩), rfl⟩
abbrev mX16_all (N w : Nat) : GM := (yX16_all, 2, (some (.object "SecretVault$Policy")), [], { frames := N + 20, cells := 10 * w + 5, slots := 70 * (10 * w + 5), locals := 60 * N + 700 }, 255)
theorem kX16_all (N w : Nat) : gCv cX16_all (mX16_all N w) 0 := ⟨q1819, qs19, q112, q1820, (show gDs yX16_all 0 from ⟨by decide +kernel, by decide +kernel, by decide +kernel⟩), rfl⟩
theorem uX16_all (N w : Nat) : gCu cX16_all (mX16_all N w) 0 := ⟨q1819, q112, q1820, (show gDs yX16_all 0 from ⟨by decide +kernel, by decide +kernel, by decide +kernel⟩), rfl⟩
abbrev mX16_part (N w : Nat) : GM := (yX16_part, 2, (some (.object "SecretVault$Policy")), [], { frames := N + 20, cells := 10 * w + 2, slots := 70 * (10 * w + 2), locals := 60 * N + 700 }, 255)
theorem kX16_part (N w : Nat) : gCv cX16_part (mX16_part N w) 0 := ⟨q1823, qs20, q112, q1824, (show gDs yX16_part 0 from ⟨by decide +kernel, by decide +kernel, by decide +kernel⟩), rfl⟩
theorem uX16_part (N w : Nat) : gCu cX16_part (mX16_part N w) 0 := ⟨q1823, q112, q1824, (show gDs yX16_part 0 from ⟨by decide +kernel, by decide +kernel, by decide +kernel⟩), rfl⟩
abbrev mX16_some (N w : Nat) : GM := (yX16_some, 3, (some (.object "SecretVault$Policy")), [], { frames := N + 20, cells := 10 * w + 2, slots := 70 * (10 * w + 2), locals := 60 * N + 700 }, 255)
theorem kX16_some (N w : Nat) : gCv cX16_some (mX16_some N w) 0 := ⟨q1831, qs22, q112, q1832, (show gDs yX16_some 0 from ⟨by decide +kernel, by decide +kernel, by decide +kernel⟩), rfl⟩
theorem uX16_some (N w : Nat) : gCu cX16_some (mX16_some N w) 0 := ⟨q1831, q112, q1832, (show gDs yX16_some 0 from ⟨by decide +kernel, by decide +kernel, by decide +kernel⟩), rfl⟩
theorem ob_0 {B : List Att} (h : 2 ≤ B.length) : obq 0 B = attAny B := by
  match B, h with
  | _ :: _ :: _, _ => rfl
theorem ob_1 {B : List Att} (h : 2 ≤ B.length) : obq 1 B = attAll B := by
  match B, h with
  | _ :: _ :: _, _ => rfl
set_option maxHeartbeats 400000 in
theorem stX16_policy {E : GE} {h : AH} {rd tx n N k a T w R1 P1 : Nat} {t : Nat → Nat} {L1 : List Att} (IH : ∀ (k a T : Nat) (h : AH), k ≤ N → a ≤ n → 4 * n + 3 ≤ k + 4 * a + 1 → 1200 ≤ T → h rd = some (1100, gO 14 [.ref tx, .int (nI a)]) → RD E h tx t n → Ct E cX16_all (mX16_all N ((prs (hrF t n) k 1 a).2.1 - a)) [.ref rd] h (pR fun r h' => (prs (hrF t n) k 1 a).1 = 1 ∧ h' rd = some (1100, gO 14 [.ref tx, .int (nI (prs (hrF t n) k 1 a).2.1)]) ∧ Rep E h' N r (obq 1 (prs (hrF t n) k 1 a).2.2) ∧ Fr (rP T) h h') (fun C x h' => C = "SecretVault$TextError" ∧ ¬ (prs (hrF t n) k 1 a).1 = 1 ∧ TEq (rP T) h h' x (prs (hrF t n) k 1 a).2.1)) (hk : k ≤ N + 1) (ha : a ≤ n) (hf : 4 * n + 3 ≤ k + 4 * a + 0) (hT : 1200 ≤ T) (hr : h rd = some (1100, gO 14 [.ref tx, .int (nI a)])) (hd : RD E h tx t n) (hres : prs (hrF t n) k 0 a = (R1, P1, L1)) (hw : w = P1 - a) : Ct E cX16_policy (mX16_policy (N + 1) w) [.ref rd] (h) (pR fun r h' => R1 = 1 ∧ h' rd = some (1100, gO 14 [.ref tx, .int (nI P1)]) ∧ Rep E h' (N + 1) r (obq 0 L1) ∧ Fr (rP T) h h') (fun C x h' => C = "SecretVault$TextError" ∧ ¬ R1 = 1 ∧ TEq (rP T) h h' x P1) := by
  refine g_enter (own := "SecretVault$Reader") [some (.ref rd), none] (show plainName yX16_policy.cls = true by decide +kernel) rfl rfl (Nat.le_of_ble_eq_true rfl) rfl rfl (fun X => ?_)
  obtain ⟨k, rfl⟩ : ∃ k2, k = k2 + 1 := ⟨k - 1, by omega⟩
  have hn40 := hd.le
  have KK : ∀ l, ∀ k pz B9 Ls hh cc, k ≤ N → pz ≤ n → 4 * n + 3 ≤ k + 4 * (pz + 1) + 0 → a < pz → RT E T hh N l Ls B9 → 1 ≤ Ls.length → 2 * Ls.length ≤ pz - a + 1 → hh rd = some (1100, gO 14 [.ref tx, .int (nI pz)]) → RD E hh tx t n → Fr (rP T) h hh → rsq (hrF t n) 0 k pz B9 = (R1, P1, L1) → cc ≤ 10 * (pz - a) + 7 → V E cX16_policy "SecretVault$Reader" (mX16_policy (N + 1) w) (pR fun r h' => R1 = 1 ∧ h' rd = some (1100, gO 14 [.ref tx, .int (nI P1)]) ∧ Rep E h' (N + 1) r (obq 0 L1) ∧ Fr (rP T) h h') (fun C x h' => C = "SecretVault$TextError" ∧ ¬ R1 = 1 ∧ TEq (rP T) h h' x P1) X (hh) cc (70 * cc) 19 [some (.ref rd), some (.ref l)] [] := by
    intro l k
    induction k with
    | zero =>
      intro pz B9 Ls hh cc hkN hp hf2 hap hL hl1 hl2 g1 hd1 hF hres hcc
      have hge := rsq_ge hres
      first | refine g_aload0 dX16_policy_19 ?_ | refine g_aloadQ0 dX16_policy_19 ?_ | refine g_aloadN0 dX16_policy_19 ?_
      refine g_callVR (ctX16_here g1 hd1 (by omega)) kX16_here q1642 (gRv.g g1 rfl rfl) ⟨by show 4 + 1 ≤ (N + 1) + 20; omega, by show 8 + (1 + 11) + (85) ≤ 60 * (N + 1) + 700; omega⟩ ⟨by show _ + 0 ≤ 10 * w + 8; omega, by show _ + 0 ≤ 70 * (10 * w + 8); omega⟩ rfl (Nat.le_of_ble_eq_true rfl) dX16_policy_20 k_x (k_n (fun r_20 h_20 p_20 => ?_))
      obtain ⟨rfl, z_20⟩ := p_20
      rw [z_20]
      refine V.wide (k' := cc) (n' := 70 * (cc)) (by show cc + 0 ≤ _; omega) (by show 70 * cc + 0 ≤ _; omega) ?_
      have hv := hvE t n pz 124 (by decide) (by decide)
      have hvl := hv_lt hd1 pz
      refine g_bipush (nI 124) dX16_policy_23 (by decide) ?_
      first | refine g_icmpN_ne (tgt := 52) dX16_policy_25 (by decide) (by omega) (by omega) (fun c_25 => ?_) (fun c_25 => ?_) | refine g_icmpU_ne (tgt := 52) dX16_policy_25 (by decide) (by omega) (by omega) (fun c_25 => ?_) (fun c_25 => ?_) | refine g_icmp_ne (tgt := 52) dX16_policy_25 (by decide) (fun c_25 => ?_) (fun c_25 => ?_)
      · have hx : ¬ hrF t n pz = sepq 0 := fun z => c_25 (by have := hv.mpr z; omega)
        rw [rsq_end hx] at hres
        obtain ⟨z1, z2⟩ := Prod.mk.inj hres
        obtain ⟨z2, z3⟩ := Prod.mk.inj z2
        subst z1 z2 z3
        first | refine g_aload1 dX16_policy_52 ?_ | refine g_aloadQ1 dX16_policy_52 ?_ | refine g_aloadN1 dX16_policy_52 ?_
        refine g_callF (ctJ21_size _ hL.2.1) uJ21_size q1862 q1020 ⟨q1019, q1018, q1023, q1021, q994⟩ ⟨⟨by decide, by decide⟩, rfl⟩ (LI.at hL.2.1).choose_spec rfl ⟨by show 0 + 1 ≤ (N + 1) + 20; omega, by show 8 + (1 + 11) + (0) ≤ 60 * (N + 1) + 700; omega⟩ ⟨by show _ + 0 ≤ 10 * w + 8; omega, by show _ + 0 ≤ 70 * (10 * w + 8); omega⟩ rfl (Nat.le_of_ble_eq_true rfl) dX16_policy_53 k_x (k_n (fun r_53 h_53 p_53 => ?_))
        obtain ⟨rfl, z_53⟩ := p_53
        rw [z_53]
        refine V.wide (k' := cc) (n' := 70 * (cc)) (by show cc + 0 ≤ _; omega) (by show 70 * cc + 0 ≤ _; omega) ?_
        refine g_iconst (nI 1) dX16_policy_58 (by decide) ?_
        first | refine g_icmpN_ne (tgt := 75) dX16_policy_59 (by decide) (by omega) (by omega) (fun c_59 => ?_) (fun c_59 => ?_) | refine g_icmpU_ne (tgt := 75) dX16_policy_59 (by decide) (by omega) (by omega) (fun c_59 => ?_) (fun c_59 => ?_) | refine g_icmp_ne (tgt := 75) dX16_policy_59 (by decide) (fun c_59 => ?_) (fun c_59 => ?_)
        · refine g_new 19 (7) [.null] in_X21 tyX21_ok q1877 q1878 q117 rfl nwX21 (by show _ + 1 ≤ 10 * w + 8; omega) (by show _ + 1 ≤ 70 * (10 * w + 8); omega) dX16_policy_75 (fun q_75 f_75 => ?_)
          refine g_dup dX16_policy_78 rfl ?_
          first | refine g_aload1 dX16_policy_79 ?_ | refine g_aloadQ1 dX16_policy_79 ?_ | refine g_aloadN1 dX16_policy_79 ?_
          refine g_callI (ctX21_init (g_up_self _ _ _)) kX21_init q1879 ⟨by show 2 + 1 ≤ (N + 1) + 20; omega, by show 8 + (2 + 11) + (40) ≤ 60 * (N + 1) + 700; omega⟩ ⟨by show _ + 0 ≤ 10 * w + 8; omega, by show _ + 0 ≤ 70 * (10 * w + 8); omega⟩ rfl (Nat.le_of_ble_eq_true rfl) dX16_policy_80 k_x (k_v (fun h_80 p_80 => ?_))
          rw [p_80, g_upup]
          refine V.wide (k' := cc + 1) (n' := 70 * (cc + 1)) (by show cc + 1 + 0 ≤ _; omega) (by show 70 * cc + 1 + 0 ≤ _; omega) ?_
          have hn2 : 2 ≤ Ls.length := by omega
          have hL2 := hL.fr (Fr.new (P := F0r) (z := (7, gO 19 [.ref l])) f_75) id id id id
          obtain ⟨h9, r1, r2, r3⟩ := hL2.rt (by omega) (fun z => by rw [z] at hn2; exact absurd hn2 (by decide))
          refine V.retag r1 ?_
          exact g_aret (hk := by show _ ≤ 10 * w + 8; omega) (hn := by show _ ≤ 70 * (10 * w + 8); omega) dX16_policy_83 rfl (Or.inl ⟨_, rfl⟩) ⟨_, rfl, rfl, r3 _ _ _ (g_upf g1 f_75) (by omega), Or.inr ⟨l, Ls, B9, r2.1, r2.2.1, r2.2.2, Or.inl ⟨by rw [hL.1]; exact hn2, ob_0 (by rw [hL.1]; exact hn2), r3 _ _ _ (g_up_self _ _ _) (by omega)⟩⟩, hF.tr ((Fr.new f_75).tr r3.lst)⟩
        · first | refine g_aload1 dX16_policy_62 ?_ | refine g_aloadQ1 dX16_policy_62 ?_ | refine g_aloadN1 dX16_policy_62 ?_
          refine g_iconst (nI 0) dX16_policy_63 (by decide) ?_
          refine g_callF (ctJ21_get _ _ hL.2.1 (by omega)) uJ21_get q1864 q1216 ⟨q1215, q1214, q1219, q1217, q994⟩ ⟨⟨by decide, by decide⟩, rfl⟩ (LI.at hL.2.1).choose_spec rfl ⟨by show 2 + 1 ≤ (N + 1) + 20; omega, by show 8 + (2 + 11) + (43) ≤ 60 * (N + 1) + 700; omega⟩ ⟨by show _ + 0 ≤ 10 * w + 8; omega, by show _ + 0 ≤ 70 * (10 * w + 8); omega⟩ rfl (Nat.le_of_ble_eq_true rfl) dX16_policy_64 k_x (k_r (fun r_64 h_64 p_64 => ?_))
          obtain ⟨g_64, z_64⟩ := p_64
          rw [z_64]
          refine V.wide (k' := cc) (n' := 70 * (cc)) (by show cc + 0 ≤ _; omega) (by show 70 * cc + 0 ≤ _; omega) ?_
          obtain ⟨b1, hb1, hre⟩ := hL.one (by omega) g_64
          obtain ⟨C9, k1, k2, -⟩ := Rep.rv hre
          refine g_ck q1865 k1 k2 dX16_policy_69 ?_
          refine g_goto (tgt := 83) dX16_policy_72 (by decide) ?_
          exact g_aret (hk := by show _ ≤ 10 * w + 8; omega) (hn := by show _ ≤ 70 * (10 * w + 8); omega) dX16_policy_83 rfl (Or.inl ⟨_, rfl⟩) ⟨_, rfl, rfl, g1, by rw [hb1]; exact hre.up, hF⟩
      · exfalso
        have hx : hrF t n pz = 124 := hv.mp (by omega)
        have := hr_in (t := t) (n := n) (p := pz) (lo := 1) (by decide) (by omega)
        omega
    | succ k ih =>
      intro pz B9 Ls hh cc hkN hp hf2 hap hL hl1 hl2 g1 hd1 hF hres hcc
      have hge := rsq_ge hres
      first | refine g_aload0 dX16_policy_19 ?_ | refine g_aloadQ0 dX16_policy_19 ?_ | refine g_aloadN0 dX16_policy_19 ?_
      refine g_callVR (ctX16_here g1 hd1 (by omega)) kX16_here q1642 (gRv.g g1 rfl rfl) ⟨by show 4 + 1 ≤ (N + 1) + 20; omega, by show 8 + (1 + 11) + (85) ≤ 60 * (N + 1) + 700; omega⟩ ⟨by show _ + 0 ≤ 10 * w + 8; omega, by show _ + 0 ≤ 70 * (10 * w + 8); omega⟩ rfl (Nat.le_of_ble_eq_true rfl) dX16_policy_20 k_x (k_n (fun r_20 h_20 p_20 => ?_))
      obtain ⟨rfl, z_20⟩ := p_20
      rw [z_20]
      refine V.wide (k' := cc) (n' := 70 * (cc)) (by show cc + 0 ≤ _; omega) (by show 70 * cc + 0 ≤ _; omega) ?_
      have hv := hvE t n pz 124 (by decide) (by decide)
      have hvl := hv_lt hd1 pz
      refine g_bipush (nI 124) dX16_policy_23 (by decide) ?_
      first | refine g_icmpN_ne (tgt := 52) dX16_policy_25 (by decide) (by omega) (by omega) (fun c_25 => ?_) (fun c_25 => ?_) | refine g_icmpU_ne (tgt := 52) dX16_policy_25 (by decide) (by omega) (by omega) (fun c_25 => ?_) (fun c_25 => ?_) | refine g_icmp_ne (tgt := 52) dX16_policy_25 (by decide) (fun c_25 => ?_) (fun c_25 => ?_)
      · have hx : ¬ hrF t n pz = sepq 0 := fun z => c_25 (by have := hv.mpr z; omega)
        rw [rsq_end hx] at hres
        obtain ⟨z1, z2⟩ := Prod.mk.inj hres
        obtain ⟨z2, z3⟩ := Prod.mk.inj z2
        subst z1 z2 z3
        first | refine g_aload1 dX16_policy_52 ?_ | refine g_aloadQ1 dX16_policy_52 ?_ | refine g_aloadN1 dX16_policy_52 ?_
        refine g_callF (ctJ21_size _ hL.2.1) uJ21_size q1862 q1020 ⟨q1019, q1018, q1023, q1021, q994⟩ ⟨⟨by decide, by decide⟩, rfl⟩ (LI.at hL.2.1).choose_spec rfl ⟨by show 0 + 1 ≤ (N + 1) + 20; omega, by show 8 + (1 + 11) + (0) ≤ 60 * (N + 1) + 700; omega⟩ ⟨by show _ + 0 ≤ 10 * w + 8; omega, by show _ + 0 ≤ 70 * (10 * w + 8); omega⟩ rfl (Nat.le_of_ble_eq_true rfl) dX16_policy_53 k_x (k_n (fun r_53 h_53 p_53 => ?_))
        obtain ⟨rfl, z_53⟩ := p_53
        rw [z_53]
        refine V.wide (k' := cc) (n' := 70 * (cc)) (by show cc + 0 ≤ _; omega) (by show 70 * cc + 0 ≤ _; omega) ?_
        refine g_iconst (nI 1) dX16_policy_58 (by decide) ?_
        first | refine g_icmpN_ne (tgt := 75) dX16_policy_59 (by decide) (by omega) (by omega) (fun c_59 => ?_) (fun c_59 => ?_) | refine g_icmpU_ne (tgt := 75) dX16_policy_59 (by decide) (by omega) (by omega) (fun c_59 => ?_) (fun c_59 => ?_) | refine g_icmp_ne (tgt := 75) dX16_policy_59 (by decide) (fun c_59 => ?_) (fun c_59 => ?_)
        · refine g_new 19 (7) [.null] in_X21 tyX21_ok q1877 q1878 q117 rfl nwX21 (by show _ + 1 ≤ 10 * w + 8; omega) (by show _ + 1 ≤ 70 * (10 * w + 8); omega) dX16_policy_75 (fun q_75 f_75 => ?_)
          refine g_dup dX16_policy_78 rfl ?_
          first | refine g_aload1 dX16_policy_79 ?_ | refine g_aloadQ1 dX16_policy_79 ?_ | refine g_aloadN1 dX16_policy_79 ?_
          refine g_callI (ctX21_init (g_up_self _ _ _)) kX21_init q1879 ⟨by show 2 + 1 ≤ (N + 1) + 20; omega, by show 8 + (2 + 11) + (40) ≤ 60 * (N + 1) + 700; omega⟩ ⟨by show _ + 0 ≤ 10 * w + 8; omega, by show _ + 0 ≤ 70 * (10 * w + 8); omega⟩ rfl (Nat.le_of_ble_eq_true rfl) dX16_policy_80 k_x (k_v (fun h_80 p_80 => ?_))
          rw [p_80, g_upup]
          refine V.wide (k' := cc + 1) (n' := 70 * (cc + 1)) (by show cc + 1 + 0 ≤ _; omega) (by show 70 * cc + 1 + 0 ≤ _; omega) ?_
          have hn2 : 2 ≤ Ls.length := by omega
          have hL2 := hL.fr (Fr.new (P := F0r) (z := (7, gO 19 [.ref l])) f_75) id id id id
          obtain ⟨h9, r1, r2, r3⟩ := hL2.rt (by omega) (fun z => by rw [z] at hn2; exact absurd hn2 (by decide))
          refine V.retag r1 ?_
          exact g_aret (hk := by show _ ≤ 10 * w + 8; omega) (hn := by show _ ≤ 70 * (10 * w + 8); omega) dX16_policy_83 rfl (Or.inl ⟨_, rfl⟩) ⟨_, rfl, rfl, r3 _ _ _ (g_upf g1 f_75) (by omega), Or.inr ⟨l, Ls, B9, r2.1, r2.2.1, r2.2.2, Or.inl ⟨by rw [hL.1]; exact hn2, ob_0 (by rw [hL.1]; exact hn2), r3 _ _ _ (g_up_self _ _ _) (by omega)⟩⟩, hF.tr ((Fr.new f_75).tr r3.lst)⟩
        · first | refine g_aload1 dX16_policy_62 ?_ | refine g_aloadQ1 dX16_policy_62 ?_ | refine g_aloadN1 dX16_policy_62 ?_
          refine g_iconst (nI 0) dX16_policy_63 (by decide) ?_
          refine g_callF (ctJ21_get _ _ hL.2.1 (by omega)) uJ21_get q1864 q1216 ⟨q1215, q1214, q1219, q1217, q994⟩ ⟨⟨by decide, by decide⟩, rfl⟩ (LI.at hL.2.1).choose_spec rfl ⟨by show 2 + 1 ≤ (N + 1) + 20; omega, by show 8 + (2 + 11) + (43) ≤ 60 * (N + 1) + 700; omega⟩ ⟨by show _ + 0 ≤ 10 * w + 8; omega, by show _ + 0 ≤ 70 * (10 * w + 8); omega⟩ rfl (Nat.le_of_ble_eq_true rfl) dX16_policy_64 k_x (k_r (fun r_64 h_64 p_64 => ?_))
          obtain ⟨g_64, z_64⟩ := p_64
          rw [z_64]
          refine V.wide (k' := cc) (n' := 70 * (cc)) (by show cc + 0 ≤ _; omega) (by show 70 * cc + 0 ≤ _; omega) ?_
          obtain ⟨b1, hb1, hre⟩ := hL.one (by omega) g_64
          obtain ⟨C9, k1, k2, -⟩ := Rep.rv hre
          refine g_ck q1865 k1 k2 dX16_policy_69 ?_
          refine g_goto (tgt := 83) dX16_policy_72 (by decide) ?_
          exact g_aret (hk := by show _ ≤ 10 * w + 8; omega) (hn := by show _ ≤ 70 * (10 * w + 8); omega) dX16_policy_83 rfl (Or.inl ⟨_, rfl⟩) ⟨_, rfl, rfl, g1, by rw [hb1]; exact hre.up, hF⟩
      · have hx : hrF t n pz = sepq 0 := hv.mp (by omega)
        have hpn := (hr_in (t := t) (n := n) (p := pz) (lo := 1) (by decide) (by rw [hx]; decide)).1
        have hgs := prs_ge (hrF t n) k 1 (pz + 1)
        have hP1 : (prs (hrF t n) k 1 (pz + 1)).2.1 ≤ P1 := by
          by_cases z : (prs (hrF t n) k 1 (pz + 1)).1 = 1
          · rw [rsq_yes (by decide) hx z] at hres
            exact rsq_ge hres
          · rw [rsq_no (by decide) hx z] at hres
            cases hres
            exact Nat.le_refl _
        have hd2 := hd1.fr (Fr.put (P := fun u => u = 1100) (e' := gO 14 [.ref tx, .int (nI (pz + 1))]) g1 rfl) (by decide) (by decide)
        first | refine g_aload0 dX16_policy_28 ?_ | refine g_aloadQ0 dX16_policy_28 ?_ | refine g_aloadN0 dX16_policy_28 ?_
        refine g_dup dX16_policy_29 rfl ?_
        refine g_get (k0 := 1) (by first | assumption | exact g_up_self _ _ _ | (refine g_upf ?_ ?_ <;> assumption) | (refine g_upt ?_ ?_ (by decide) <;> assumption)) in_X16 q1624 rfl (by decide) rfl dX16_policy_30 ?_
        refine g_iconst (nI 1) dX16_policy_33 (by decide) ?_
        first | refine g_iaddN dX16_policy_34 ?_ | refine g_iadd dX16_policy_34 ?_
        refine g_put (k0 := 1) (by first | assumption | exact g_up_self _ _ _ | (refine g_upf ?_ ?_ <;> assumption) | (refine g_upt ?_ ?_ (by decide) <;> assumption)) in_X16 q1624 tyX16_ok nmX16 rfl (by decide) rfl (by rfl) (by rfl) (Nat.le_of_ble_eq_true rfl) dX16_policy_35 ?_
        first | refine g_aload1 dX16_policy_38 ?_ | refine g_aloadQ1 dX16_policy_38 ?_ | refine g_aloadN1 dX16_policy_38 ?_
        first | refine g_aload0 dX16_policy_39 ?_ | refine g_aloadQ0 dX16_policy_39 ?_ | refine g_aloadN0 dX16_policy_39 ?_
        refine g_callVR (IH k (pz + 1) (T + 2) _ (by omega) (by omega) (by omega) (by omega) (g_up_self _ _ _) hd2) (kX16_all _ _) q1817 (gRv.g (g_up_self _ _ _) rfl rfl) ⟨by show N + 20 + 1 ≤ (N + 1) + 20; omega, by show 8 + (2 + 11) + (60 * N + 700) ≤ 60 * (N + 1) + 700; omega⟩ ⟨by show cc + (10 * ((prs (hrF t n) k 1 (pz + 1)).2.1 - (pz + 1)) + 5) ≤ 10 * w + 8; omega, by show 70 * cc + 70 * (10 * ((prs (hrF t n) k 1 (pz + 1)).2.1 - (pz + 1)) + 5) ≤ 70 * (10 * w + 8); omega⟩ rfl (Nat.le_of_ble_eq_true rfl) dX16_policy_40 (fun C_ q_ h2_ px => by obtain ⟨rfl, m_40, t_40⟩ := px; rw [rsq_no (by decide) hx m_40] at hres; obtain ⟨z1, z2⟩ := Prod.mk.inj hres; obtain ⟨z2, z3⟩ := Prod.mk.inj z2; subst z1 z2; exact gx_out0 rfl ⟨rfl, Nat.zero_ne_one, TEq.tr (hF.tr (Fr.put g1 (Or.inl rfl))) t_40⟩ (by show cc + (10 * ((prs (hrF t n) k 1 (pz + 1)).2.1 - (pz + 1)) + 5) ≤ 10 * w + 8; omega) (by show 70 * cc + 70 * (10 * ((prs (hrF t n) k 1 (pz + 1)).2.1 - (pz + 1)) + 5) ≤ 70 * (10 * w + 8); omega)) (k_r (fun r_40 h_40 p_40 => ?_))
        obtain ⟨e1, g2, hre, f_40⟩ := p_40
        have hgt := prs_gt _ _ _ _ e1
        rw [rsq_yes (by decide) hx e1] at hres
        have hge2 := rsq_ge hres
        have hle := prs_le (t := t) (n := n) (k := k) (q := 1) (a := pz + 1) (by omega)
        have hL2 := (hL.fr (Fr.put (P := fun u => u = 1100) g1 rfl) (by decide) (by decide) (by omega) (by omega)).fr f_40 (rPn (by omega) (by decide)) (rPn (by omega) (by decide)) (rPn (by omega) (by omega)) (rPn (by omega) (by omega))
        have hd3 := hd2.fr f_40 (rPn (by omega) (by decide)) (rPn (by omega) (by decide))
        have F1 := hF.tr ((Fr.put (P := rP T) (e' := gO 14 [.ref tx, .int (nI (pz + 1))]) g1 (Or.inl rfl)).tr (f_40.mono rP.m))
        refine V.wide (k' := cc + (10 * ((prs (hrF t n) k 1 (pz + 1)).2.1 - (pz + 1)) + 5)) (n' := 70 * (cc + (10 * ((prs (hrF t n) k 1 (pz + 1)).2.1 - (pz + 1)) + 5))) (by show cc + (10 * ((prs (hrF t n) k 1 (pz + 1)).2.1 - (pz + 1)) + 5) ≤ _; omega) (by show 70 * cc + 70 * (10 * ((prs (hrF t n) k 1 (pz + 1)).2.1 - (pz + 1)) + 5) ≤ _; omega) ?_
        refine g_callF (ctJ21_add hL2.2.1 (by omega) hL2.ob hre.ob) uJ21_add q1834 q995 ⟨q993, q992, q998, q996, q994⟩ ⟨⟨by decide, by decide⟩, rfl⟩ (LI.at hL2.2.1).choose_spec rfl ⟨by show 6 + 1 ≤ (N + 1) + 20; omega, by show 8 + (2 + 11) + (170) ≤ 60 * (N + 1) + 700; omega⟩ ⟨by show cc + (10 * ((prs (hrF t n) k 1 (pz + 1)).2.1 - (pz + 1)) + 5) + 1 ≤ 10 * w + 8; omega, by show 70 * (cc + (10 * ((prs (hrF t n) k 1 (pz + 1)).2.1 - (pz + 1)) + 5)) + 64 ≤ 70 * (10 * w + 8); omega⟩ rfl (Nat.le_of_ble_eq_true rfl) dX16_policy_43 k_x (k_n (fun r_43 h_43 p_43 => ?_))
        obtain ⟨rfl, l_43, f_43⟩ := p_43
        have hL3 := hL2.add hre l_43 f_43 (by omega) (by omega)
        refine V.wide (k' := cc + (10 * ((prs (hrF t n) k 1 (pz + 1)).2.1 - (pz + 1)) + 5) + 1) (n' := 70 * (cc + (10 * ((prs (hrF t n) k 1 (pz + 1)).2.1 - (pz + 1)) + 5) + 1)) (by show cc + (10 * ((prs (hrF t n) k 1 (pz + 1)).2.1 - (pz + 1)) + 5) + 1 ≤ _; omega) (by show 70 * (cc + (10 * ((prs (hrF t n) k 1 (pz + 1)).2.1 - (pz + 1)) + 5)) + 64 ≤ _; omega) ?_
        refine g_pop dX16_policy_48 (by first | rfl | exact cat_rf _) ?_
        refine g_goto (tgt := 19) dX16_policy_49 (by decide) ?_
        exact ih _ _ _ _ _ (by omega) hle (by omega) (by omega) hL3 (by rw [List.length_append, List.length_singleton]; omega) (by rw [List.length_append, List.length_singleton]; omega) (f_43 _ _ _ g2 (by omega)) (hd3.fr f_43 (by omega) (by omega)) (F1.tr f_43.lst) hres (by omega)
  have hP1 : (prs (hrF t n) k 1 a).2.1 ≤ P1 ∧ a ≤ (prs (hrF t n) k 1 a).2.1 := by
    have hgs := prs_ge (hrF t n) k 1 a
    refine ⟨?_, hgs⟩
    by_cases z : (prs (hrF t n) k 1 a).1 = 1
    · have y := hres
      rw [prs_first (by decide) z] at y
      exact rsq_ge y
    · have y := hres
      rw [prs_rem (by decide), if_neg (c := (prs (hrF t n) k (subq 0) a).1 = 1) z] at y
      cases y
      exact Nat.le_refl _
  refine g_new 9 (T) [.int 0, .null, .int 0] in_J21 tyJ21_ok q1815 q965 q92 rfl nwJ21 (by show _ + 1 ≤ 10 * w + 8; omega) (by show _ + 3 ≤ 70 * (10 * w + 8); omega) dX16_policy_0 (fun q_0 f_0 => ?_)
  refine g_dup dX16_policy_3 rfl ?_
  refine g_callI (ctJ21_init _ (g_up_self _ _ _)) kJ21_init q1816 ⟨by show 3 + 1 ≤ (N + 1) + 20; omega, by show 8 + (1 + 11) + (60) ≤ 60 * (N + 1) + 700; omega⟩ ⟨by show _ + 0 ≤ 10 * w + 8; omega, by show _ + 0 ≤ 70 * (10 * w + 8); omega⟩ rfl (Nat.le_of_ble_eq_true rfl) dX16_policy_4 k_x (k_v (fun h_4 p_4 => ?_))
  rw [p_4, g_upup]
  refine V.wide (k' := 1) (n' := 70 * (1)) (by show 0 + 1 + 0 ≤ _; omega) (by show 0 + 3 + 0 ≤ _; omega) ?_
  have g0 := g_upf (z := (T, gO 9 [.int 0, .ref (eE E), .int 0])) hr f_0
  have hd0 := hd.fr (Fr.new (P := F0r) (z := (T, gO 9 [.int 0, .ref (eE E), .int 0])) f_0) id id
  first | refine g_astore1 dX16_policy_7 (show ¬ 1 = 255 + 1 by decide) ?_ | refine g_astoreQ1 dX16_policy_7 (show ¬ 1 = 255 + 1 by decide) ?_ | refine g_astoreN1 dX16_policy_7 (show ¬ 1 = 255 + 1 by decide) ?_
  first | refine g_aload1 dX16_policy_8 ?_ | refine g_aloadQ1 dX16_policy_8 ?_ | refine g_aloadN1 dX16_policy_8 ?_
  first | refine g_aload0 dX16_policy_9 ?_ | refine g_aloadQ0 dX16_policy_9 ?_ | refine g_aloadN0 dX16_policy_9 ?_
  refine g_callVR (IH k a (T + 2) _ (by omega) ha (by omega) (by omega) g0 hd0) (kX16_all _ _) q1817 (gRv.g g0 rfl rfl) ⟨by show N + 20 + 1 ≤ (N + 1) + 20; omega, by show 8 + (2 + 11) + (60 * N + 700) ≤ 60 * (N + 1) + 700; omega⟩ ⟨by show 1 + (10 * ((prs (hrF t n) k 1 a).2.1 - a) + 5) ≤ 10 * w + 8; omega, by show 70 + 70 * (10 * ((prs (hrF t n) k 1 a).2.1 - a) + 5) ≤ 70 * (10 * w + 8); omega⟩ rfl (Nat.le_of_ble_eq_true rfl) dX16_policy_10 (fun C_ q_ h2_ px => by obtain ⟨rfl, m_10, t_10⟩ := px; rw [prs_rem (by decide), if_neg (c := (prs (hrF t n) k (subq 0) a).1 = 1) m_10] at hres; obtain ⟨z1, z2⟩ := Prod.mk.inj hres; obtain ⟨z2, z3⟩ := Prod.mk.inj z2; subst z1 z2; exact gx_out0 rfl ⟨rfl, Nat.zero_ne_one, TEq.tr (Fr.new f_0) t_10⟩ (by show 1 + (10 * ((prs (hrF t n) k 1 a).2.1 - a) + 5) ≤ 10 * w + 8; omega) (by show 70 * 1 + 70 * (10 * ((prs (hrF t n) k 1 a).2.1 - a) + 5) ≤ 70 * (10 * w + 8); omega)) (k_r (fun r_10 h_10 p_10 => ?_))
  obtain ⟨e1, g2, hre, f_10⟩ := p_10
  have hgt := prs_gt _ _ _ _ e1
  rw [prs_first (by decide) e1] at hres
  have hge2 := rsq_ge hres
  have hle := prs_le (t := t) (n := n) (k := k) (q := 1) (a := a) ha
  have hL2 := RT.fr (B := []) (k := N) ⟨rfl, LI.nil (E := E) (h := h) (a := q_0) (t := T), fun i y b z => by simp at z⟩ f_10 (rPn (by omega) (by decide)) (rPn (by omega) (by decide)) (rPn (by omega) (by omega)) (rPn (by omega) (by omega))
  have hd3 := hd0.fr f_10 (rPn (by omega) (by decide)) (rPn (by omega) (by decide))
  have F1 : Fr (rP T) h h_10 := (Fr.new f_0).tr (f_10.mono rP.m)
  refine V.wide (k' := 1 + (10 * ((prs (hrF t n) k 1 a).2.1 - a) + 5)) (n' := 70 * (1 + (10 * ((prs (hrF t n) k 1 a).2.1 - a) + 5))) (by show 1 + (10 * ((prs (hrF t n) k 1 a).2.1 - a) + 5) ≤ _; omega) (by show 70 * 1 + 70 * (10 * ((prs (hrF t n) k 1 a).2.1 - a) + 5) ≤ _; omega) ?_
  refine g_callF (ctJ21_add hL2.2.1 (by decide) hL2.ob hre.ob) uJ21_add q1834 q995 ⟨q993, q992, q998, q996, q994⟩ ⟨⟨by decide, by decide⟩, rfl⟩ (LI.at hL2.2.1).choose_spec rfl ⟨by show 6 + 1 ≤ (N + 1) + 20; omega, by show 8 + (2 + 11) + (170) ≤ 60 * (N + 1) + 700; omega⟩ ⟨by show 1 + (10 * ((prs (hrF t n) k 1 a).2.1 - a) + 5) + 1 ≤ 10 * w + 8; omega, by show 70 * (1 + (10 * ((prs (hrF t n) k 1 a).2.1 - a) + 5)) + 64 ≤ 70 * (10 * w + 8); omega⟩ rfl (Nat.le_of_ble_eq_true rfl) dX16_policy_13 k_x (k_n (fun r_13 h_13 p_13 => ?_))
  obtain ⟨rfl, l_13, f_13⟩ := p_13
  have hL3 := hL2.add hre l_13 f_13 (by omega) (by omega)
  refine V.wide (k' := 1 + (10 * ((prs (hrF t n) k 1 a).2.1 - a) + 5) + 1) (n' := 70 * (1 + (10 * ((prs (hrF t n) k 1 a).2.1 - a) + 5) + 1)) (by show 1 + (10 * ((prs (hrF t n) k 1 a).2.1 - a) + 5) + 1 ≤ _; omega) (by show 70 * (1 + (10 * ((prs (hrF t n) k 1 a).2.1 - a) + 5)) + 64 ≤ _; omega) ?_
  refine g_pop dX16_policy_18 (by first | rfl | exact cat_rf _) ?_
  exact KK q_0 _ _ _ _ _ _ (by omega) hle (by omega) hgt hL3 (Nat.le_refl 1) (by show 2 * 1 ≤ _; omega) (f_13 _ _ _ g2 (by omega)) (hd3.fr f_13 (by omega) (by omega)) (F1.tr f_13.lst) hres (by omega)
set_option maxHeartbeats 400000 in
theorem stX16_all {E : GE} {h : AH} {rd tx n N k a T w R1 P1 : Nat} {t : Nat → Nat} {L1 : List Att} (IH : ∀ (k a T : Nat) (h : AH), k ≤ N → a ≤ n → 4 * n + 3 ≤ k + 4 * a + 2 → 1200 ≤ T → h rd = some (1100, gO 14 [.ref tx, .int (nI a)]) → RD E h tx t n → Ct E cX16_part (mX16_part N ((prs (hrF t n) k 2 a).2.1 - a)) [.ref rd] h (pR fun r h' => (prs (hrF t n) k 2 a).1 = 1 ∧ h' rd = some (1100, gO 14 [.ref tx, .int (nI (prs (hrF t n) k 2 a).2.1)]) ∧ Rep E h' N r (obq 2 (prs (hrF t n) k 2 a).2.2) ∧ Fr (rP T) h h') (fun C x h' => C = "SecretVault$TextError" ∧ ¬ (prs (hrF t n) k 2 a).1 = 1 ∧ TEq (rP T) h h' x (prs (hrF t n) k 2 a).2.1)) (hk : k ≤ N + 1) (ha : a ≤ n) (hf : 4 * n + 3 ≤ k + 4 * a + 1) (hT : 1200 ≤ T) (hr : h rd = some (1100, gO 14 [.ref tx, .int (nI a)])) (hd : RD E h tx t n) (hres : prs (hrF t n) k 1 a = (R1, P1, L1)) (hw : w = P1 - a) : Ct E cX16_all (mX16_all (N + 1) w) [.ref rd] (h) (pR fun r h' => R1 = 1 ∧ h' rd = some (1100, gO 14 [.ref tx, .int (nI P1)]) ∧ Rep E h' (N + 1) r (obq 1 L1) ∧ Fr (rP T) h h') (fun C x h' => C = "SecretVault$TextError" ∧ ¬ R1 = 1 ∧ TEq (rP T) h h' x P1) := by
  refine g_enter (own := "SecretVault$Reader") [some (.ref rd), none] (show plainName yX16_all.cls = true by decide +kernel) rfl rfl (Nat.le_of_ble_eq_true rfl) rfl rfl (fun X => ?_)
  obtain ⟨k, rfl⟩ : ∃ k2, k = k2 + 1 := ⟨k - 1, by omega⟩
  have hn40 := hd.le
  have KK : ∀ l, ∀ k pz B9 Ls hh cc, k ≤ N → pz ≤ n → 4 * n + 3 ≤ k + 4 * (pz + 1) + 1 → a < pz → RT E T hh N l Ls B9 → 1 ≤ Ls.length → 2 * Ls.length ≤ pz - a + 1 → hh rd = some (1100, gO 14 [.ref tx, .int (nI pz)]) → RD E hh tx t n → Fr (rP T) h hh → rsq (hrF t n) 1 k pz B9 = (R1, P1, L1) → cc ≤ 10 * (pz - a) + 4 → V E cX16_all "SecretVault$Reader" (mX16_all (N + 1) w) (pR fun r h' => R1 = 1 ∧ h' rd = some (1100, gO 14 [.ref tx, .int (nI P1)]) ∧ Rep E h' (N + 1) r (obq 1 L1) ∧ Fr (rP T) h h') (fun C x h' => C = "SecretVault$TextError" ∧ ¬ R1 = 1 ∧ TEq (rP T) h h' x P1) X (hh) cc (70 * cc) 19 [some (.ref rd), some (.ref l)] [] := by
    intro l k
    induction k with
    | zero =>
      intro pz B9 Ls hh cc hkN hp hf2 hap hL hl1 hl2 g1 hd1 hF hres hcc
      have hge := rsq_ge hres
      first | refine g_aload0 dX16_all_19 ?_ | refine g_aloadQ0 dX16_all_19 ?_ | refine g_aloadN0 dX16_all_19 ?_
      refine g_callVR (ctX16_here g1 hd1 (by omega)) kX16_here q1642 (gRv.g g1 rfl rfl) ⟨by show 4 + 1 ≤ (N + 1) + 20; omega, by show 8 + (1 + 11) + (85) ≤ 60 * (N + 1) + 700; omega⟩ ⟨by show _ + 0 ≤ 10 * w + 5; omega, by show _ + 0 ≤ 70 * (10 * w + 5); omega⟩ rfl (Nat.le_of_ble_eq_true rfl) dX16_all_20 k_x (k_n (fun r_20 h_20 p_20 => ?_))
      obtain ⟨rfl, z_20⟩ := p_20
      rw [z_20]
      refine V.wide (k' := cc) (n' := 70 * (cc)) (by show cc + 0 ≤ _; omega) (by show 70 * cc + 0 ≤ _; omega) ?_
      have hv := hvE t n pz 38 (by decide) (by decide)
      have hvl := hv_lt hd1 pz
      refine g_bipush (nI 38) dX16_all_23 (by decide) ?_
      first | refine g_icmpN_ne (tgt := 52) dX16_all_25 (by decide) (by omega) (by omega) (fun c_25 => ?_) (fun c_25 => ?_) | refine g_icmpU_ne (tgt := 52) dX16_all_25 (by decide) (by omega) (by omega) (fun c_25 => ?_) (fun c_25 => ?_) | refine g_icmp_ne (tgt := 52) dX16_all_25 (by decide) (fun c_25 => ?_) (fun c_25 => ?_)
      · have hx : ¬ hrF t n pz = sepq 1 := fun z => c_25 (by have := hv.mpr z; omega)
        rw [rsq_end hx] at hres
        obtain ⟨z1, z2⟩ := Prod.mk.inj hres
        obtain ⟨z2, z3⟩ := Prod.mk.inj z2
        subst z1 z2 z3
        first | refine g_aload1 dX16_all_52 ?_ | refine g_aloadQ1 dX16_all_52 ?_ | refine g_aloadN1 dX16_all_52 ?_
        refine g_callF (ctJ21_size _ hL.2.1) uJ21_size q1862 q1020 ⟨q1019, q1018, q1023, q1021, q994⟩ ⟨⟨by decide, by decide⟩, rfl⟩ (LI.at hL.2.1).choose_spec rfl ⟨by show 0 + 1 ≤ (N + 1) + 20; omega, by show 8 + (1 + 11) + (0) ≤ 60 * (N + 1) + 700; omega⟩ ⟨by show _ + 0 ≤ 10 * w + 5; omega, by show _ + 0 ≤ 70 * (10 * w + 5); omega⟩ rfl (Nat.le_of_ble_eq_true rfl) dX16_all_53 k_x (k_n (fun r_53 h_53 p_53 => ?_))
        obtain ⟨rfl, z_53⟩ := p_53
        rw [z_53]
        refine V.wide (k' := cc) (n' := 70 * (cc)) (by show cc + 0 ≤ _; omega) (by show 70 * cc + 0 ≤ _; omega) ?_
        refine g_iconst (nI 1) dX16_all_58 (by decide) ?_
        first | refine g_icmpN_ne (tgt := 75) dX16_all_59 (by decide) (by omega) (by omega) (fun c_59 => ?_) (fun c_59 => ?_) | refine g_icmpU_ne (tgt := 75) dX16_all_59 (by decide) (by omega) (by omega) (fun c_59 => ?_) (fun c_59 => ?_) | refine g_icmp_ne (tgt := 75) dX16_all_59 (by decide) (fun c_59 => ?_) (fun c_59 => ?_)
        · refine g_new 18 (7) [.null] in_X20 tyX20_ok q1866 q1867 q116 rfl nwX20 (by show _ + 1 ≤ 10 * w + 5; omega) (by show _ + 1 ≤ 70 * (10 * w + 5); omega) dX16_all_75 (fun q_75 f_75 => ?_)
          refine g_dup dX16_all_78 rfl ?_
          first | refine g_aload1 dX16_all_79 ?_ | refine g_aloadQ1 dX16_all_79 ?_ | refine g_aloadN1 dX16_all_79 ?_
          refine g_callI (ctX20_init (g_up_self _ _ _)) kX20_init q1868 ⟨by show 2 + 1 ≤ (N + 1) + 20; omega, by show 8 + (2 + 11) + (40) ≤ 60 * (N + 1) + 700; omega⟩ ⟨by show _ + 0 ≤ 10 * w + 5; omega, by show _ + 0 ≤ 70 * (10 * w + 5); omega⟩ rfl (Nat.le_of_ble_eq_true rfl) dX16_all_80 k_x (k_v (fun h_80 p_80 => ?_))
          rw [p_80, g_upup]
          refine V.wide (k' := cc + 1) (n' := 70 * (cc + 1)) (by show cc + 1 + 0 ≤ _; omega) (by show 70 * cc + 1 + 0 ≤ _; omega) ?_
          have hn2 : 2 ≤ Ls.length := by omega
          have hL2 := hL.fr (Fr.new (P := F0r) (z := (7, gO 18 [.ref l])) f_75) id id id id
          obtain ⟨h9, r1, r2, r3⟩ := hL2.rt (by omega) (fun z => by rw [z] at hn2; exact absurd hn2 (by decide))
          refine V.retag r1 ?_
          exact g_aret (hk := by show _ ≤ 10 * w + 5; omega) (hn := by show _ ≤ 70 * (10 * w + 5); omega) dX16_all_83 rfl (Or.inl ⟨_, rfl⟩) ⟨_, rfl, rfl, r3 _ _ _ (g_upf g1 f_75) (by omega), Or.inr ⟨l, Ls, B9, r2.1, r2.2.1, r2.2.2, Or.inr (Or.inl ⟨by rw [hL.1]; exact hn2, ob_1 (by rw [hL.1]; exact hn2), r3 _ _ _ (g_up_self _ _ _) (by omega)⟩)⟩, hF.tr ((Fr.new f_75).tr r3.lst)⟩
        · first | refine g_aload1 dX16_all_62 ?_ | refine g_aloadQ1 dX16_all_62 ?_ | refine g_aloadN1 dX16_all_62 ?_
          refine g_iconst (nI 0) dX16_all_63 (by decide) ?_
          refine g_callF (ctJ21_get _ _ hL.2.1 (by omega)) uJ21_get q1864 q1216 ⟨q1215, q1214, q1219, q1217, q994⟩ ⟨⟨by decide, by decide⟩, rfl⟩ (LI.at hL.2.1).choose_spec rfl ⟨by show 2 + 1 ≤ (N + 1) + 20; omega, by show 8 + (2 + 11) + (43) ≤ 60 * (N + 1) + 700; omega⟩ ⟨by show _ + 0 ≤ 10 * w + 5; omega, by show _ + 0 ≤ 70 * (10 * w + 5); omega⟩ rfl (Nat.le_of_ble_eq_true rfl) dX16_all_64 k_x (k_r (fun r_64 h_64 p_64 => ?_))
          obtain ⟨g_64, z_64⟩ := p_64
          rw [z_64]
          refine V.wide (k' := cc) (n' := 70 * (cc)) (by show cc + 0 ≤ _; omega) (by show 70 * cc + 0 ≤ _; omega) ?_
          obtain ⟨b1, hb1, hre⟩ := hL.one (by omega) g_64
          obtain ⟨C9, k1, k2, -⟩ := Rep.rv hre
          refine g_ck q1865 k1 k2 dX16_all_69 ?_
          refine g_goto (tgt := 83) dX16_all_72 (by decide) ?_
          exact g_aret (hk := by show _ ≤ 10 * w + 5; omega) (hn := by show _ ≤ 70 * (10 * w + 5); omega) dX16_all_83 rfl (Or.inl ⟨_, rfl⟩) ⟨_, rfl, rfl, g1, by rw [hb1]; exact hre.up, hF⟩
      · exfalso
        have hx : hrF t n pz = 38 := hv.mp (by omega)
        have := hr_in (t := t) (n := n) (p := pz) (lo := 1) (by decide) (by omega)
        omega
    | succ k ih =>
      intro pz B9 Ls hh cc hkN hp hf2 hap hL hl1 hl2 g1 hd1 hF hres hcc
      have hge := rsq_ge hres
      first | refine g_aload0 dX16_all_19 ?_ | refine g_aloadQ0 dX16_all_19 ?_ | refine g_aloadN0 dX16_all_19 ?_
      refine g_callVR (ctX16_here g1 hd1 (by omega)) kX16_here q1642 (gRv.g g1 rfl rfl) ⟨by show 4 + 1 ≤ (N + 1) + 20; omega, by show 8 + (1 + 11) + (85) ≤ 60 * (N + 1) + 700; omega⟩ ⟨by show _ + 0 ≤ 10 * w + 5; omega, by show _ + 0 ≤ 70 * (10 * w + 5); omega⟩ rfl (Nat.le_of_ble_eq_true rfl) dX16_all_20 k_x (k_n (fun r_20 h_20 p_20 => ?_))
      obtain ⟨rfl, z_20⟩ := p_20
      rw [z_20]
      refine V.wide (k' := cc) (n' := 70 * (cc)) (by show cc + 0 ≤ _; omega) (by show 70 * cc + 0 ≤ _; omega) ?_
      have hv := hvE t n pz 38 (by decide) (by decide)
      have hvl := hv_lt hd1 pz
      refine g_bipush (nI 38) dX16_all_23 (by decide) ?_
      first | refine g_icmpN_ne (tgt := 52) dX16_all_25 (by decide) (by omega) (by omega) (fun c_25 => ?_) (fun c_25 => ?_) | refine g_icmpU_ne (tgt := 52) dX16_all_25 (by decide) (by omega) (by omega) (fun c_25 => ?_) (fun c_25 => ?_) | refine g_icmp_ne (tgt := 52) dX16_all_25 (by decide) (fun c_25 => ?_) (fun c_25 => ?_)
      · have hx : ¬ hrF t n pz = sepq 1 := fun z => c_25 (by have := hv.mpr z; omega)
        rw [rsq_end hx] at hres
        obtain ⟨z1, z2⟩ := Prod.mk.inj hres
        obtain ⟨z2, z3⟩ := Prod.mk.inj z2
        subst z1 z2 z3
        first | refine g_aload1 dX16_all_52 ?_ | refine g_aloadQ1 dX16_all_52 ?_ | refine g_aloadN1 dX16_all_52 ?_
        refine g_callF (ctJ21_size _ hL.2.1) uJ21_size q1862 q1020 ⟨q1019, q1018, q1023, q1021, q994⟩ ⟨⟨by decide, by decide⟩, rfl⟩ (LI.at hL.2.1).choose_spec rfl ⟨by show 0 + 1 ≤ (N + 1) + 20; omega, by show 8 + (1 + 11) + (0) ≤ 60 * (N + 1) + 700; omega⟩ ⟨by show _ + 0 ≤ 10 * w + 5; omega, by show _ + 0 ≤ 70 * (10 * w + 5); omega⟩ rfl (Nat.le_of_ble_eq_true rfl) dX16_all_53 k_x (k_n (fun r_53 h_53 p_53 => ?_))
        obtain ⟨rfl, z_53⟩ := p_53
        rw [z_53]
        refine V.wide (k' := cc) (n' := 70 * (cc)) (by show cc + 0 ≤ _; omega) (by show 70 * cc + 0 ≤ _; omega) ?_
        refine g_iconst (nI 1) dX16_all_58 (by decide) ?_
        first | refine g_icmpN_ne (tgt := 75) dX16_all_59 (by decide) (by omega) (by omega) (fun c_59 => ?_) (fun c_59 => ?_) | refine g_icmpU_ne (tgt := 75) dX16_all_59 (by decide) (by omega) (by omega) (fun c_59 => ?_) (fun c_59 => ?_) | refine g_icmp_ne (tgt := 75) dX16_all_59 (by decide) (fun c_59 => ?_) (fun c_59 => ?_)
        · refine g_new 18 (7) [.null] in_X20 tyX20_ok q1866 q1867 q116 rfl nwX20 (by show _ + 1 ≤ 10 * w + 5; omega) (by show _ + 1 ≤ 70 * (10 * w + 5); omega) dX16_all_75 (fun q_75 f_75 => ?_)
          refine g_dup dX16_all_78 rfl ?_
          first | refine g_aload1 dX16_all_79 ?_ | refine g_aloadQ1 dX16_all_79 ?_ | refine g_aloadN1 dX16_all_79 ?_
          refine g_callI (ctX20_init (g_up_self _ _ _)) kX20_init q1868 ⟨by show 2 + 1 ≤ (N + 1) + 20; omega, by show 8 + (2 + 11) + (40) ≤ 60 * (N + 1) + 700; omega⟩ ⟨by show _ + 0 ≤ 10 * w + 5; omega, by show _ + 0 ≤ 70 * (10 * w + 5); omega⟩ rfl (Nat.le_of_ble_eq_true rfl) dX16_all_80 k_x (k_v (fun h_80 p_80 => ?_))
          rw [p_80, g_upup]
          refine V.wide (k' := cc + 1) (n' := 70 * (cc + 1)) (by show cc + 1 + 0 ≤ _; omega) (by show 70 * cc + 1 + 0 ≤ _; omega) ?_
          have hn2 : 2 ≤ Ls.length := by omega
          have hL2 := hL.fr (Fr.new (P := F0r) (z := (7, gO 18 [.ref l])) f_75) id id id id
          obtain ⟨h9, r1, r2, r3⟩ := hL2.rt (by omega) (fun z => by rw [z] at hn2; exact absurd hn2 (by decide))
          refine V.retag r1 ?_
          exact g_aret (hk := by show _ ≤ 10 * w + 5; omega) (hn := by show _ ≤ 70 * (10 * w + 5); omega) dX16_all_83 rfl (Or.inl ⟨_, rfl⟩) ⟨_, rfl, rfl, r3 _ _ _ (g_upf g1 f_75) (by omega), Or.inr ⟨l, Ls, B9, r2.1, r2.2.1, r2.2.2, Or.inr (Or.inl ⟨by rw [hL.1]; exact hn2, ob_1 (by rw [hL.1]; exact hn2), r3 _ _ _ (g_up_self _ _ _) (by omega)⟩)⟩, hF.tr ((Fr.new f_75).tr r3.lst)⟩
        · first | refine g_aload1 dX16_all_62 ?_ | refine g_aloadQ1 dX16_all_62 ?_ | refine g_aloadN1 dX16_all_62 ?_
          refine g_iconst (nI 0) dX16_all_63 (by decide) ?_
          refine g_callF (ctJ21_get _ _ hL.2.1 (by omega)) uJ21_get q1864 q1216 ⟨q1215, q1214, q1219, q1217, q994⟩ ⟨⟨by decide, by decide⟩, rfl⟩ (LI.at hL.2.1).choose_spec rfl ⟨by show 2 + 1 ≤ (N + 1) + 20; omega, by show 8 + (2 + 11) + (43) ≤ 60 * (N + 1) + 700; omega⟩ ⟨by show _ + 0 ≤ 10 * w + 5; omega, by show _ + 0 ≤ 70 * (10 * w + 5); omega⟩ rfl (Nat.le_of_ble_eq_true rfl) dX16_all_64 k_x (k_r (fun r_64 h_64 p_64 => ?_))
          obtain ⟨g_64, z_64⟩ := p_64
          rw [z_64]
          refine V.wide (k' := cc) (n' := 70 * (cc)) (by show cc + 0 ≤ _; omega) (by show 70 * cc + 0 ≤ _; omega) ?_
          obtain ⟨b1, hb1, hre⟩ := hL.one (by omega) g_64
          obtain ⟨C9, k1, k2, -⟩ := Rep.rv hre
          refine g_ck q1865 k1 k2 dX16_all_69 ?_
          refine g_goto (tgt := 83) dX16_all_72 (by decide) ?_
          exact g_aret (hk := by show _ ≤ 10 * w + 5; omega) (hn := by show _ ≤ 70 * (10 * w + 5); omega) dX16_all_83 rfl (Or.inl ⟨_, rfl⟩) ⟨_, rfl, rfl, g1, by rw [hb1]; exact hre.up, hF⟩
      · have hx : hrF t n pz = sepq 1 := hv.mp (by omega)
        have hpn := (hr_in (t := t) (n := n) (p := pz) (lo := 1) (by decide) (by rw [hx]; decide)).1
        have hgs := prs_ge (hrF t n) k 2 (pz + 1)
        have hP1 : (prs (hrF t n) k 2 (pz + 1)).2.1 ≤ P1 := by
          by_cases z : (prs (hrF t n) k 2 (pz + 1)).1 = 1
          · rw [rsq_yes (by decide) hx z] at hres
            exact rsq_ge hres
          · rw [rsq_no (by decide) hx z] at hres
            cases hres
            exact Nat.le_refl _
        have hd2 := hd1.fr (Fr.put (P := fun u => u = 1100) (e' := gO 14 [.ref tx, .int (nI (pz + 1))]) g1 rfl) (by decide) (by decide)
        first | refine g_aload0 dX16_all_28 ?_ | refine g_aloadQ0 dX16_all_28 ?_ | refine g_aloadN0 dX16_all_28 ?_
        refine g_dup dX16_all_29 rfl ?_
        refine g_get (k0 := 1) (by first | assumption | exact g_up_self _ _ _ | (refine g_upf ?_ ?_ <;> assumption) | (refine g_upt ?_ ?_ (by decide) <;> assumption)) in_X16 q1624 rfl (by decide) rfl dX16_all_30 ?_
        refine g_iconst (nI 1) dX16_all_33 (by decide) ?_
        first | refine g_iaddN dX16_all_34 ?_ | refine g_iadd dX16_all_34 ?_
        refine g_put (k0 := 1) (by first | assumption | exact g_up_self _ _ _ | (refine g_upf ?_ ?_ <;> assumption) | (refine g_upt ?_ ?_ (by decide) <;> assumption)) in_X16 q1624 tyX16_ok nmX16 rfl (by decide) rfl (by rfl) (by rfl) (Nat.le_of_ble_eq_true rfl) dX16_all_35 ?_
        first | refine g_aload1 dX16_all_38 ?_ | refine g_aloadQ1 dX16_all_38 ?_ | refine g_aloadN1 dX16_all_38 ?_
        first | refine g_aload0 dX16_all_39 ?_ | refine g_aloadQ0 dX16_all_39 ?_ | refine g_aloadN0 dX16_all_39 ?_
        refine g_callVR (IH k (pz + 1) (T + 2) _ (by omega) (by omega) (by omega) (by omega) (g_up_self _ _ _) hd2) (kX16_part _ _) q1821 (gRv.g (g_up_self _ _ _) rfl rfl) ⟨by show N + 20 + 1 ≤ (N + 1) + 20; omega, by show 8 + (2 + 11) + (60 * N + 700) ≤ 60 * (N + 1) + 700; omega⟩ ⟨by show cc + (10 * ((prs (hrF t n) k 2 (pz + 1)).2.1 - (pz + 1)) + 2) ≤ 10 * w + 5; omega, by show 70 * cc + 70 * (10 * ((prs (hrF t n) k 2 (pz + 1)).2.1 - (pz + 1)) + 2) ≤ 70 * (10 * w + 5); omega⟩ rfl (Nat.le_of_ble_eq_true rfl) dX16_all_40 (fun C_ q_ h2_ px => by obtain ⟨rfl, m_40, t_40⟩ := px; rw [rsq_no (by decide) hx m_40] at hres; obtain ⟨z1, z2⟩ := Prod.mk.inj hres; obtain ⟨z2, z3⟩ := Prod.mk.inj z2; subst z1 z2; exact gx_out0 rfl ⟨rfl, Nat.zero_ne_one, TEq.tr (hF.tr (Fr.put g1 (Or.inl rfl))) t_40⟩ (by show cc + (10 * ((prs (hrF t n) k 2 (pz + 1)).2.1 - (pz + 1)) + 2) ≤ 10 * w + 5; omega) (by show 70 * cc + 70 * (10 * ((prs (hrF t n) k 2 (pz + 1)).2.1 - (pz + 1)) + 2) ≤ 70 * (10 * w + 5); omega)) (k_r (fun r_40 h_40 p_40 => ?_))
        obtain ⟨e1, g2, hre, f_40⟩ := p_40
        have hgt := prs_gt _ _ _ _ e1
        rw [rsq_yes (by decide) hx e1] at hres
        have hge2 := rsq_ge hres
        have hle := prs_le (t := t) (n := n) (k := k) (q := 2) (a := pz + 1) (by omega)
        have hL2 := (hL.fr (Fr.put (P := fun u => u = 1100) g1 rfl) (by decide) (by decide) (by omega) (by omega)).fr f_40 (rPn (by omega) (by decide)) (rPn (by omega) (by decide)) (rPn (by omega) (by omega)) (rPn (by omega) (by omega))
        have hd3 := hd2.fr f_40 (rPn (by omega) (by decide)) (rPn (by omega) (by decide))
        have F1 := hF.tr ((Fr.put (P := rP T) (e' := gO 14 [.ref tx, .int (nI (pz + 1))]) g1 (Or.inl rfl)).tr (f_40.mono rP.m))
        refine V.wide (k' := cc + (10 * ((prs (hrF t n) k 2 (pz + 1)).2.1 - (pz + 1)) + 2)) (n' := 70 * (cc + (10 * ((prs (hrF t n) k 2 (pz + 1)).2.1 - (pz + 1)) + 2))) (by show cc + (10 * ((prs (hrF t n) k 2 (pz + 1)).2.1 - (pz + 1)) + 2) ≤ _; omega) (by show 70 * cc + 70 * (10 * ((prs (hrF t n) k 2 (pz + 1)).2.1 - (pz + 1)) + 2) ≤ _; omega) ?_
        refine g_callF (ctJ21_add hL2.2.1 (by omega) hL2.ob hre.ob) uJ21_add q1834 q995 ⟨q993, q992, q998, q996, q994⟩ ⟨⟨by decide, by decide⟩, rfl⟩ (LI.at hL2.2.1).choose_spec rfl ⟨by show 6 + 1 ≤ (N + 1) + 20; omega, by show 8 + (2 + 11) + (170) ≤ 60 * (N + 1) + 700; omega⟩ ⟨by show cc + (10 * ((prs (hrF t n) k 2 (pz + 1)).2.1 - (pz + 1)) + 2) + 1 ≤ 10 * w + 5; omega, by show 70 * (cc + (10 * ((prs (hrF t n) k 2 (pz + 1)).2.1 - (pz + 1)) + 2)) + 64 ≤ 70 * (10 * w + 5); omega⟩ rfl (Nat.le_of_ble_eq_true rfl) dX16_all_43 k_x (k_n (fun r_43 h_43 p_43 => ?_))
        obtain ⟨rfl, l_43, f_43⟩ := p_43
        have hL3 := hL2.add hre l_43 f_43 (by omega) (by omega)
        refine V.wide (k' := cc + (10 * ((prs (hrF t n) k 2 (pz + 1)).2.1 - (pz + 1)) + 2) + 1) (n' := 70 * (cc + (10 * ((prs (hrF t n) k 2 (pz + 1)).2.1 - (pz + 1)) + 2) + 1)) (by show cc + (10 * ((prs (hrF t n) k 2 (pz + 1)).2.1 - (pz + 1)) + 2) + 1 ≤ _; omega) (by show 70 * (cc + (10 * ((prs (hrF t n) k 2 (pz + 1)).2.1 - (pz + 1)) + 2)) + 64 ≤ _; omega) ?_
        refine g_pop dX16_all_48 (by first | rfl | exact cat_rf _) ?_
        refine g_goto (tgt := 19) dX16_all_49 (by decide) ?_
        exact ih _ _ _ _ _ (by omega) hle (by omega) (by omega) hL3 (by rw [List.length_append, List.length_singleton]; omega) (by rw [List.length_append, List.length_singleton]; omega) (f_43 _ _ _ g2 (by omega)) (hd3.fr f_43 (by omega) (by omega)) (F1.tr f_43.lst) hres (by omega)
  have hP1 : (prs (hrF t n) k 2 a).2.1 ≤ P1 ∧ a ≤ (prs (hrF t n) k 2 a).2.1 := by
    have hgs := prs_ge (hrF t n) k 2 a
    refine ⟨?_, hgs⟩
    by_cases z : (prs (hrF t n) k 2 a).1 = 1
    · have y := hres
      rw [prs_first (by decide) z] at y
      exact rsq_ge y
    · have y := hres
      rw [prs_rem (by decide), if_neg (c := (prs (hrF t n) k (subq 1) a).1 = 1) z] at y
      cases y
      exact Nat.le_refl _
  refine g_new 9 (T) [.int 0, .null, .int 0] in_J21 tyJ21_ok q1815 q965 q92 rfl nwJ21 (by show _ + 1 ≤ 10 * w + 5; omega) (by show _ + 3 ≤ 70 * (10 * w + 5); omega) dX16_all_0 (fun q_0 f_0 => ?_)
  refine g_dup dX16_all_3 rfl ?_
  refine g_callI (ctJ21_init _ (g_up_self _ _ _)) kJ21_init q1816 ⟨by show 3 + 1 ≤ (N + 1) + 20; omega, by show 8 + (1 + 11) + (60) ≤ 60 * (N + 1) + 700; omega⟩ ⟨by show _ + 0 ≤ 10 * w + 5; omega, by show _ + 0 ≤ 70 * (10 * w + 5); omega⟩ rfl (Nat.le_of_ble_eq_true rfl) dX16_all_4 k_x (k_v (fun h_4 p_4 => ?_))
  rw [p_4, g_upup]
  refine V.wide (k' := 1) (n' := 70 * (1)) (by show 0 + 1 + 0 ≤ _; omega) (by show 0 + 3 + 0 ≤ _; omega) ?_
  have g0 := g_upf (z := (T, gO 9 [.int 0, .ref (eE E), .int 0])) hr f_0
  have hd0 := hd.fr (Fr.new (P := F0r) (z := (T, gO 9 [.int 0, .ref (eE E), .int 0])) f_0) id id
  first | refine g_astore1 dX16_all_7 (show ¬ 1 = 255 + 1 by decide) ?_ | refine g_astoreQ1 dX16_all_7 (show ¬ 1 = 255 + 1 by decide) ?_ | refine g_astoreN1 dX16_all_7 (show ¬ 1 = 255 + 1 by decide) ?_
  first | refine g_aload1 dX16_all_8 ?_ | refine g_aloadQ1 dX16_all_8 ?_ | refine g_aloadN1 dX16_all_8 ?_
  first | refine g_aload0 dX16_all_9 ?_ | refine g_aloadQ0 dX16_all_9 ?_ | refine g_aloadN0 dX16_all_9 ?_
  refine g_callVR (IH k a (T + 2) _ (by omega) ha (by omega) (by omega) g0 hd0) (kX16_part _ _) q1821 (gRv.g g0 rfl rfl) ⟨by show N + 20 + 1 ≤ (N + 1) + 20; omega, by show 8 + (2 + 11) + (60 * N + 700) ≤ 60 * (N + 1) + 700; omega⟩ ⟨by show 1 + (10 * ((prs (hrF t n) k 2 a).2.1 - a) + 2) ≤ 10 * w + 5; omega, by show 70 + 70 * (10 * ((prs (hrF t n) k 2 a).2.1 - a) + 2) ≤ 70 * (10 * w + 5); omega⟩ rfl (Nat.le_of_ble_eq_true rfl) dX16_all_10 (fun C_ q_ h2_ px => by obtain ⟨rfl, m_10, t_10⟩ := px; rw [prs_rem (by decide), if_neg (c := (prs (hrF t n) k (subq 1) a).1 = 1) m_10] at hres; obtain ⟨z1, z2⟩ := Prod.mk.inj hres; obtain ⟨z2, z3⟩ := Prod.mk.inj z2; subst z1 z2; exact gx_out0 rfl ⟨rfl, Nat.zero_ne_one, TEq.tr (Fr.new f_0) t_10⟩ (by show 1 + (10 * ((prs (hrF t n) k 2 a).2.1 - a) + 2) ≤ 10 * w + 5; omega) (by show 70 * 1 + 70 * (10 * ((prs (hrF t n) k 2 a).2.1 - a) + 2) ≤ 70 * (10 * w + 5); omega)) (k_r (fun r_10 h_10 p_10 => ?_))
  obtain ⟨e1, g2, hre, f_10⟩ := p_10
  have hgt := prs_gt _ _ _ _ e1
  rw [prs_first (by decide) e1] at hres
  have hge2 := rsq_ge hres
  have hle := prs_le (t := t) (n := n) (k := k) (q := 2) (a := a) ha
  have hL2 := RT.fr (B := []) (k := N) ⟨rfl, LI.nil (E := E) (h := h) (a := q_0) (t := T), fun i y b z => by simp at z⟩ f_10 (rPn (by omega) (by decide)) (rPn (by omega) (by decide)) (rPn (by omega) (by omega)) (rPn (by omega) (by omega))
  have hd3 := hd0.fr f_10 (rPn (by omega) (by decide)) (rPn (by omega) (by decide))
  have F1 : Fr (rP T) h h_10 := (Fr.new f_0).tr (f_10.mono rP.m)
  refine V.wide (k' := 1 + (10 * ((prs (hrF t n) k 2 a).2.1 - a) + 2)) (n' := 70 * (1 + (10 * ((prs (hrF t n) k 2 a).2.1 - a) + 2))) (by show 1 + (10 * ((prs (hrF t n) k 2 a).2.1 - a) + 2) ≤ _; omega) (by show 70 * 1 + 70 * (10 * ((prs (hrF t n) k 2 a).2.1 - a) + 2) ≤ _; omega) ?_
  refine g_callF (ctJ21_add hL2.2.1 (by decide) hL2.ob hre.ob) uJ21_add q1834 q995 ⟨q993, q992, q998, q996, q994⟩ ⟨⟨by decide, by decide⟩, rfl⟩ (LI.at hL2.2.1).choose_spec rfl ⟨by show 6 + 1 ≤ (N + 1) + 20; omega, by show 8 + (2 + 11) + (170) ≤ 60 * (N + 1) + 700; omega⟩ ⟨by show 1 + (10 * ((prs (hrF t n) k 2 a).2.1 - a) + 2) + 1 ≤ 10 * w + 5; omega, by show 70 * (1 + (10 * ((prs (hrF t n) k 2 a).2.1 - a) + 2)) + 64 ≤ 70 * (10 * w + 5); omega⟩ rfl (Nat.le_of_ble_eq_true rfl) dX16_all_13 k_x (k_n (fun r_13 h_13 p_13 => ?_))
  obtain ⟨rfl, l_13, f_13⟩ := p_13
  have hL3 := hL2.add hre l_13 f_13 (by omega) (by omega)
  refine V.wide (k' := 1 + (10 * ((prs (hrF t n) k 2 a).2.1 - a) + 2) + 1) (n' := 70 * (1 + (10 * ((prs (hrF t n) k 2 a).2.1 - a) + 2) + 1)) (by show 1 + (10 * ((prs (hrF t n) k 2 a).2.1 - a) + 2) + 1 ≤ _; omega) (by show 70 * (1 + (10 * ((prs (hrF t n) k 2 a).2.1 - a) + 2)) + 64 ≤ _; omega) ?_
  refine g_pop dX16_all_18 (by first | rfl | exact cat_rf _) ?_
  exact KK q_0 _ _ _ _ _ _ (by omega) hle (by omega) hgt hL3 (Nat.le_refl 1) (by show 2 * 1 ≤ _; omega) (f_13 _ _ _ g2 (by omega)) (hd3.fr f_13 (by omega) (by omega)) (F1.tr f_13.lst) hres (by omega)
