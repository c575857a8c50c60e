/-! THE TWIN: policies are written -/
set_option maxRecDepth 100000
theorem txA_0 (A : Att) : txA 0 A = aT A := if_neg (fun z => absurd z.1 (by decide))
theorem txA_n {en : Nat} {A : Att} (h : ¬ aK A = 1) : txA en A = aT A := if_neg (fun z => h z.2)
theorem txA_z {en : Nat} {A : Att} (h : ¬ en = 1) : txA en A = aT A := if_neg (fun z => h z.1)
theorem txA_y {en : Nat} {A : Att} (he : en = 1) (h : aK A = 1) : txA en A = [40] ++ aT A ++ [41] := if_pos ⟨he, h⟩
theorem any_t {L : List Att} (h : L ≠ []) : aT (mkAny L) = txL 124 0 L := by
  match L, h with
  | [A], _ => exact (txA_0 A).symm
  | A :: B :: L, _ => rfl
theorem all_t {A B : Att} {L : List Att} (en : Nat) : txA en (mkAll (A :: B :: L)) = txL 38 1 (A :: B :: L) := txA_n (by show ¬ 2 = 1; decide)
theorem txL_c {sep enc : Nat} {A : Att} {L : List Att} (h : L ≠ []) : txL sep enc (A :: L) = txA enc A ++ sep :: txL sep enc L := by
  match L, h with
  | B :: L, _ => rfl
def enq (q : Nat) : Nat := if q = 1 ∨ q = 2 then 1 else 0
def txs (q : Nat) (L : List Att) : List Nat := txL (sepq q) (enq q) L
def txB (a : List Nat) (l : Nat) : Prop := a.length ≤ l ∧ ∀ x ∈ a, x < 128
theorem txB.ap {a b : List Nat} {l m n : Nat} (h : txB a l) (h2 : txB b m) (hn : l + m ≤ n) : txB (a ++ b) n := by
  refine ⟨by have := h.1; have := h2.1; rw [List.length_append]; omega, fun x hx => ?_⟩
  rcases List.mem_append.mp hx with z | z
  · exact h.2 x z
  · exact h2.2 x z
theorem txB.one {c : Nat} (hc : c < 128) : txB [c] 1 := ⟨Nat.le_refl _, fun x hx => by rw [List.mem_singleton.mp hx]; exact hc⟩
theorem txB.le {a : List Nat} {l m : Nat} (h : txB a l) (hm : l ≤ m) : txB a m := ⟨Nat.le_trans h.1 hm, h.2⟩
theorem txA_B {en en2 : Nat} {A : Att} {l : Nat} (h : txB (txA 1 A) l) (he : en < 2) : txB (txA en A) l := by
  rcases (show en = 1 ∨ en = 0 by omega) with rfl | rfl
  · exact h
  · rw [txA_0]
    unfold txA at h
    split at h
    · refine ⟨?_, fun x hx => h.2 x (List.mem_append_left _ (List.mem_append_right _ hx))⟩
      have := h.1
      simp only [List.length_append] at this
      omega
    · exact h
theorem mk_tx {q : Nat} {B : List Att} {l : Nat} (hq : q = 0 ∨ q = 1 ∨ q = 3) (hn : B ≠ []) (h : txB (txs (subq q) B) l) : txB (txA (enq q) (mkS q B)) l := by
  unfold txs at h
  by_cases h0 : q = 0
  · subst h0
    match B, hn with
    | [A], _ => exact txA_B (en2 := 0) h (by decide)
    | A :: C :: L, _ => exact h
  · by_cases h1 : q = 1
    · subst h1
      match B, hn with
      | [A], _ => exact h
      | A :: C :: L, _ =>
        refine ⟨?_, fun x hx => h.2 x (List.mem_append_left _ hx)⟩
        have h9 : (txA 1 A ++ sepq (subq 1) :: txL (sepq (subq 1)) (enq (subq 1)) (C :: L)).length ≤ l := h.1
        rw [List.length_append] at h9
        exact Nat.le_trans (Nat.le_add_right _ _) h9
    · obtain rfl : q = 3 := by omega
      rw [show enq 3 = 0 from rfl, show mkS 3 B = mkAny B from rfl, txA_0, any_t hn]
      exact h

theorem Seg.tx {t : Nat → Nat} {k : Nat} : ∀ {q f l : Nat} {L : List Att}, (q = 0 ∨ q = 1 ∨ q = 2 ∨ q = 3) → Seg t k q f l L → txB (txs q L) l := by
  induction k with
  | zero => intro q f l L _ h; exact h.elim
  | succ k ih =>
    intro q f l L hq h
    rcases h with ⟨rfl, h⟩ | ⟨h2, h⟩
    · rcases h with ⟨rfl, h3, h4, rfl⟩ | ⟨l1, B, rfl, h3, h4, h5, rfl⟩ | ⟨l1, B, rfl, h3, h4, h5, h6, h7, h8, h9, rfl⟩
      · show txB (txA 1 (attOne (t f - 48))) 1
        rw [txA_n (by show ¬ 0 = 1; decide)]
        exact txB.one (by omega)
      · have i1 := ih (Or.inl rfl) h4
        show txB (txA 1 (mkAny B)) (l1 + 2)
        have e : aT (mkAny B) = txs 0 B := any_t h4.ne
        unfold txA
        split
        · rw [e]
          exact ((txB.one (c := 40) (by decide)).ap i1 (Nat.le_refl _)).ap (txB.one (c := 41) (by decide)) (by omega)
        · rw [e]
          exact i1.le (by omega)
      · have i1 := ih (Or.inr (Or.inr (Or.inr rfl))) h8
        show txB (txA 1 (attSome (t f - 48) B)) (l1 + 5)
        rw [txA_n (by show ¬ 3 = 1; decide)]
        have z : txB ([48 + (t f - 48)] ++ ([111] ++ ([102] ++ ([40] ++ (txs 3 B ++ [41]))))) (l1 + 5) := by
          refine (txB.one (by omega)).ap (m := l1 + 4) ?_ (by omega)
          refine (txB.one (by decide)).ap (m := l1 + 3) ?_ (by omega)
          refine (txB.one (by decide)).ap (m := l1 + 2) ?_ (by omega)
          refine (txB.one (by decide)).ap (m := l1 + 1) ?_ (by omega)
          exact i1.ap (txB.one (by decide)) (Nat.le_refl _)
        have e : aT (attSome (t f - 48) B) = [48 + (t f - 48)] ++ ([111] ++ ([102] ++ ([40] ++ (txs 3 B ++ [41])))) := by
          show [48 + (t f - 48), 111, 102, 40] ++ txL 44 0 B ++ [41] = _
          simp [txs, sepq, enq]
        rw [e]
        exact z
    · have hq3 : q = 0 ∨ q = 1 ∨ q = 3 := by omega
      have hs : subq q = 0 ∨ subq q = 1 ∨ subq q = 2 ∨ subq q = 3 := by unfold subq; split <;> omega
      rcases h with ⟨B, rfl, h⟩ | ⟨l1, l2, B, L', rfl, rfl, h3, h4, h5⟩
      · exact mk_tx hq3 h.ne (ih hs h)
      · have i1 := mk_tx hq3 h3.ne (ih hs h3)
        have i2 := ih hq h5
        have sn : sepq q < 128 := by unfold sepq; split; decide; split <;> decide
        show txB (txL (sepq q) (enq q) (mkS q B :: L')) (l1 + 1 + l2)
        rw [txL_c h5.ne, show txA (enq q) (mkS q B) ++ sepq q :: txL (sepq q) (enq q) L' = (txA (enq q) (mkS q B) ++ [sepq q]) ++ txs q L' by simp [txs]]
        exact (i1.ap (txB.one sn) (Nat.le_refl _)).ap i2 (Nat.le_refl _)
theorem twB_pp {M : TW} {L : List Nat} {l : Nat} (h : twB M) (hL : txB L l) (hl : l ≤ 100) : twB (tPp M L) := by
  intro b i
  by_cases h5 : b = 12
  · subst h5
    show L.getD i (M 12 i) < 4294967296
    rw [List.getD_eq_getElem?_getD]
    cases e : L[i]? with
    | none => exact h _ _
    | some y =>
      have := hL.2 y (List.mem_of_getElem? e)
      show y < 4294967296
      omega
  · by_cases h0 : b = 0
    · subst h0
      show nup (M 0) 13 L.length i < 4294967296
      unfold nup
      split
      · have := hL.1
        omega
      · exact h _ _
    · unfold tPp
      rw [if_neg h5, if_neg h0]
      exact h _ _

theorem ctX3_nextP {E : GE} {h : AH} {A : Nat → Nat} (hA : twA A) (M : TW) (L : List Nat) (n : Nat) (s f e l c : Nat) (hB : twB M) (hL : txB L n) (hn : n ≤ 100) (hs : s < 4) (he : e = f + l) (hl : e ≤ 40) (hc : c < 2147483648) (hbal : balP (pT (M 1) s) l f 0) : Ct E cX3_next mX3_next [.ref (A 0), .int (nI s), .int (nI f), .int (nI e), .int (nI c)] (twO E A (tPp M L) h) (pN fun r h' => r = nxF (pT (M 1) s) c l f 0 ∧ h' = twO E A (tPp M L) h) noX := ctX3_nextE hA (tPp M L) s f e l c (twB_pp hB hL hn) hs he hl hc hbal
theorem ctX3_isCountP {E : GE} {h : AH} {A : Nat → Nat} (hA : twA A) (M : TW) (L : List Nat) (n : Nat) (s f e : Nat) (hB : twB M) (hL : txB L n) (hn : n ≤ 100) (hs : s < 4) (hf : f ≤ 40) (he : e ≤ 41) : Ct E cX3_isCount mX3_isCount [.ref (A 0), .int (nI s), .int (nI f), .int (nI e)] (twO E A (tPp M L) h) (pN fun r h' => r < 2 ∧ (r = 1 ↔ f + 1 < e ∧ pT (M 1) s (f + 1) = 111) ∧ h' = twO E A (tPp M L) h) noX := ctX3_isCount hA (tPp M L) s f e (twB_pp hB hL hn) hs hf he
theorem ctX3_ofP {E : GE} {h : AH} {A : Nat → Nat} (hA : twA A) (M : TW) (L : List Nat) (s k : Nat) (hs : s < 4) (hk : k ≤ 40) : Ct E cX3_of mX3_of [.ref (A 0), .int (nI s), .int (nI (12 + k))] (twO E A (tPp M L) h) (pN fun r h' => r = pT (M 1) s k ∧ h' = twO E A (tPp M L) h) noX := ctX3_of hA (tPp M L) s (12 + k) hs (by omega)

abbrev mX3_writesPart (N : Nat) : GM := (yX3_writesPart, 8, none, [], { frames := N + 5, cells := 0, slots := 0, locals := 60 * N + 200 }, 255)
theorem kX3_writesPart (N : Nat) : gCs cX3_writesPart (mX3_writesPart N) 5 := ⟨q2472, q90, q2473, (show gDs yX3_writesPart 5 from ⟨by decide +kernel, by decide +kernel, by decide +kernel⟩), rfl⟩
abbrev mX3_writesAll (N : Nat) : GM := (yX3_writesAll, 9, none, [], { frames := N + 5, cells := 0, slots := 0, locals := 60 * N + 200 }, 255)
theorem kX3_writesAll (N : Nat) : gCs cX3_writesAll (mX3_writesAll N) 5 := ⟨q2469, q90, q2470, (show gDs yX3_writesAll 5 from ⟨by decide +kernel, by decide +kernel, by decide +kernel⟩), rfl⟩
abbrev mX3_writesPolicy (N : Nat) : GM := (yX3_writesPolicy, 6, none, [], { frames := N + 5, cells := 0, slots := 0, locals := 60 * N + 200 }, 255)
theorem kX3_writesPolicy (N : Nat) : gCs cX3_writesPolicy (mX3_writesPolicy N) 4 := ⟨q2466, q90, q2467, (show gDs yX3_writesPolicy 4 from ⟨by decide +kernel, by decide +kernel, by decide +kernel⟩), rfl⟩
set_option maxHeartbeats 400000 in
theorem tail_X3_writesPolicy {E : GE} {A : Nat → Nat} (hA : twA A) (M : TW) (s : Nat) (hB : twB M) (hs : s < 4) {h : AH} {X : GX} (N f u : Nat) (T : List Nat) (hu : u ≤ 40) (ihA : ∀ (f u l en : Nat) (L : List Att) (k n : Nat) (Q : List Nat), u = f + l → 3 * l + 1 ≤ N → u ≤ 40 → en < 2 → Seg (pT (M 1) s) k 1 f l L → txB Q n → n + l ≤ 100 → Ct E cX3_writesAll (mX3_writesAll N) [.ref (A 0), .int (nI s), .int (nI f), .int (nI u), .int (nI en)] (twO E A (tPp M Q) h) (pV fun h' => h' = twO E A (tPp M (Q ++ txA en (mkAll L))) h) noX) : ∀ (k a l n : Nat) (L : List Att) (Q : List Nat) (o : Option Value), u = a + l → 3 * l + 1 ≤ N → Q ++ txL 124 0 L = T → Seg (pT (M 1) s) k 0 a l L → txB Q n → n + l ≤ 100 → V E cX3_writesPolicy "SecretVaultModel" (mX3_writesPolicy (N + 1)) (pV fun h' => h' = twO E A (tPp M T) h) noX X (twO E A (tPp M Q) h) 0 0 3 [some (.ref (A 0)), some (.int (nI (s))), some (.int (nI (f))), some (.int (nI (u))), some (.int (nI (a))), o] [] := by
  have X1 : ∀ o, V E cX3_writesPolicy "SecretVaultModel" (mX3_writesPolicy (N + 1)) (pV fun h' => h' = twO E A (tPp M T) h) noX X (twO E A (tPp M T) h) 0 0 3 [some (.ref (A 0)), some (.int (nI (s))), some (.int (nI (f))), some (.int (nI (u))), some (.int (nI (u + 1))), o] [] := by
    intro o
    refine g_iload4 dX3_writesPolicy_3 ?_
    refine g_iload3 dX3_writesPolicy_5 ?_
    first | refine g_icmpN_ge (tgt := 52) dX3_writesPolicy_6 (by decide) (by omega) (by omega) (fun c_6 => ?_) (fun c_6 => ?_) | refine g_icmp_ge (tgt := 52) dX3_writesPolicy_6 (by decide) (fun c_6 => ?_) (fun c_6 => ?_)
    · exact g_vret (hk := Nat.zero_le _) (hn := Nat.zero_le _) dX3_writesPolicy_52 rfl ⟨rfl, rfl⟩
    · omega
  intro k
  induction k with
  | zero => intro a l n L Q o _ _ _ h; exact h.elim
  | succ k ihk =>
    intro a l n L Q o he hN hT hS hQ hn
    have hpos := hS.pos
    have hbl := hS.bal
    rcases hS with ⟨q, -⟩ | ⟨-, hS⟩
    · exact absurd q (by decide)
    rcases hS with ⟨B, rfl, hsg⟩ | ⟨l1, l2, B, L', rfl, rfl, hsg, ht, h5⟩
    · replace hsg : Seg (pT (M 1) s) k 1 a l B := hsg
      have hnx : nxF (pT (M 1) s) 124 l a 0 = a + l := hsg.next0 (Or.inr (Or.inr rfl)) (Or.inr (Or.inl ⟨rfl, by decide⟩))
      have hee : a + l = a + l := rfl
      have hT2 : Q ++ txA 0 (mkAll B) = T := hT
      refine g_iload4 dX3_writesPolicy_3 ?_
      refine g_iload3 dX3_writesPolicy_5 ?_
      first | refine g_icmpN_ge (tgt := 52) dX3_writesPolicy_6 (by decide) (by omega) (by omega) (fun c_6 => ?_) (fun c_6 => ?_) | refine g_icmp_ge (tgt := 52) dX3_writesPolicy_6 (by decide) (fun c_6 => ?_) (fun c_6 => ?_)
      · omega
      · first | refine g_aload0 dX3_writesPolicy_9 ?_ | refine g_aloadQ0 dX3_writesPolicy_9 ?_ | refine g_aloadN0 dX3_writesPolicy_9 ?_
        refine g_iload1 dX3_writesPolicy_10 ?_
        refine g_iload4 dX3_writesPolicy_11 ?_
        refine g_iload3 dX3_writesPolicy_13 ?_
        refine g_bipush (nI 124) dX3_writesPolicy_14 (by decide) ?_
        refine g_V4n0 (ctX3_nextP hA M _ n _ _ _ _ _ hB hQ (by omega) (by omega) he (by omega) (by omega) hbl) kX3_next q2319 tw_0 rfl rfl ⟨by show 1 + 1 ≤ (N + 1) + 5; omega, by show 8 + (8 + 11) + (22) ≤ 60 * (N + 1) + 200; omega⟩ ⟨rfl, rfl⟩ ⟨Nat.zero_le _, Nat.zero_le _⟩ (Nat.le_of_ble_eq_true rfl) dX3_writesPolicy_16 (fun r_16 h_16 p_16 => ?_)
        obtain ⟨hi_16, rfl⟩ := p_16
        rw [hnx] at hi_16
        subst hi_16
        refine g_istore5 dX3_writesPolicy_19 (show ¬ 5 = 255 + 1 by decide) ?_
        first | refine g_aload0 dX3_writesPolicy_21 ?_ | refine g_aloadQ0 dX3_writesPolicy_21 ?_ | refine g_aloadN0 dX3_writesPolicy_21 ?_
        refine g_iload1 dX3_writesPolicy_22 ?_
        refine g_iload4 dX3_writesPolicy_23 ?_
        refine g_iload5 dX3_writesPolicy_25 ?_
        refine g_iconst (nI 0) dX3_writesPolicy_27 (by decide) ?_
        refine g_S5v0 (ihA _ _ _ _ _ k n _ hee (by omega) (by omega) (by decide) hsg hQ (by omega)) (kX3_writesAll _) q2468 ⟨by show N + 5 + 1 ≤ (N + 1) + 5; omega, by show 8 + (9 + 11) + (60 * N + 200) ≤ 60 * (N + 1) + 200; omega⟩ ⟨rfl, rfl⟩ ⟨Nat.zero_le _, Nat.zero_le _⟩ (Nat.le_of_ble_eq_true rfl) dX3_writesPolicy_28 (fun h_28 p_28 => ?_)
        subst p_28
        refine g_iload5 dX3_writesPolicy_31 ?_
        refine g_iload3 dX3_writesPolicy_33 ?_
        first | refine g_icmpN_ge (tgt := 43) dX3_writesPolicy_34 (by decide) (by omega) (by omega) (fun c_34 => ?_) (fun c_34 => ?_) | refine g_icmp_ge (tgt := 43) dX3_writesPolicy_34 (by decide) (fun c_34 => ?_) (fun c_34 => ?_)
        · refine g_iload5 dX3_writesPolicy_43 ?_
          refine g_iconst (nI 1) dX3_writesPolicy_45 (by decide) ?_
          first | refine g_iaddN dX3_writesPolicy_46 ?_ | refine g_iadd dX3_writesPolicy_46 ?_
          refine g_istore4 dX3_writesPolicy_47 (show ¬ 4 = 255 + 1 by decide) ?_
          refine g_goto (tgt := 3) dX3_writesPolicy_49 (by decide) ?_
          rw [show a + l + 1 = u + 1 by omega, hT2]
          exact X1 _
        · omega
    · replace hsg : Seg (pT (M 1) s) k 1 a l1 B := hsg
      have hpos2 := h5.pos
      have hnx : nxF (pT (M 1) s) 124 (l1 + 1 + l2) a 0 = a + l1 := hsg.next1 (Or.inr (Or.inr rfl)) (Or.inr (Or.inl ⟨rfl, by decide⟩)) ht
      have hee : a + l1 = a + l1 := rfl
      have hQ1 : txB (Q ++ txA 0 (mkAll B)) (n + l1) := hQ.ap (mk_tx (q := 0) (Or.inl rfl) hsg.ne (hsg.tx (Or.inr (Or.inl rfl)))) (Nat.le_refl _)
      have hQ2 : txB (Q ++ txA 0 (mkAll B) ++ [124]) (n + l1 + 1) := hQ1.ap (txB.one (by decide)) (Nat.le_refl _)
      have hT2 : Q ++ txA 0 (mkAll B) ++ [124] ++ txL 124 0 L' = T := by
        rw [← hT, txL_c h5.ne]
        simp [mkS]
      refine g_iload4 dX3_writesPolicy_3 ?_
      refine g_iload3 dX3_writesPolicy_5 ?_
      first | refine g_icmpN_ge (tgt := 52) dX3_writesPolicy_6 (by decide) (by omega) (by omega) (fun c_6 => ?_) (fun c_6 => ?_) | refine g_icmp_ge (tgt := 52) dX3_writesPolicy_6 (by decide) (fun c_6 => ?_) (fun c_6 => ?_)
      · omega
      · first | refine g_aload0 dX3_writesPolicy_9 ?_ | refine g_aloadQ0 dX3_writesPolicy_9 ?_ | refine g_aloadN0 dX3_writesPolicy_9 ?_
        refine g_iload1 dX3_writesPolicy_10 ?_
        refine g_iload4 dX3_writesPolicy_11 ?_
        refine g_iload3 dX3_writesPolicy_13 ?_
        refine g_bipush (nI 124) dX3_writesPolicy_14 (by decide) ?_
        refine g_V4n0 (ctX3_nextP hA M _ n _ _ _ _ _ hB hQ (by omega) (by omega) he (by omega) (by omega) hbl) kX3_next q2319 tw_0 rfl rfl ⟨by show 1 + 1 ≤ (N + 1) + 5; omega, by show 8 + (8 + 11) + (22) ≤ 60 * (N + 1) + 200; omega⟩ ⟨rfl, rfl⟩ ⟨Nat.zero_le _, Nat.zero_le _⟩ (Nat.le_of_ble_eq_true rfl) dX3_writesPolicy_16 (fun r_16 h_16 p_16 => ?_)
        obtain ⟨hi_16, rfl⟩ := p_16
        rw [hnx] at hi_16
        subst hi_16
        refine g_istore5 dX3_writesPolicy_19 (show ¬ 5 = 255 + 1 by decide) ?_
        first | refine g_aload0 dX3_writesPolicy_21 ?_ | refine g_aloadQ0 dX3_writesPolicy_21 ?_ | refine g_aloadN0 dX3_writesPolicy_21 ?_
        refine g_iload1 dX3_writesPolicy_22 ?_
        refine g_iload4 dX3_writesPolicy_23 ?_
        refine g_iload5 dX3_writesPolicy_25 ?_
        refine g_iconst (nI 0) dX3_writesPolicy_27 (by decide) ?_
        refine g_S5v0 (ihA _ _ _ _ _ k n _ hee (by omega) (by omega) (by decide) hsg hQ (by omega)) (kX3_writesAll _) q2468 ⟨by show N + 5 + 1 ≤ (N + 1) + 5; omega, by show 8 + (9 + 11) + (60 * N + 200) ≤ 60 * (N + 1) + 200; omega⟩ ⟨rfl, rfl⟩ ⟨Nat.zero_le _, Nat.zero_le _⟩ (Nat.le_of_ble_eq_true rfl) dX3_writesPolicy_28 (fun h_28 p_28 => ?_)
        subst p_28
        refine g_iload5 dX3_writesPolicy_31 ?_
        refine g_iload3 dX3_writesPolicy_33 ?_
        first | refine g_icmpN_ge (tgt := 43) dX3_writesPolicy_34 (by decide) (by omega) (by omega) (fun c_34 => ?_) (fun c_34 => ?_) | refine g_icmp_ge (tgt := 43) dX3_writesPolicy_34 (by decide) (fun c_34 => ?_) (fun c_34 => ?_)
        · omega
        · first | refine g_aload0 dX3_writesPolicy_37 ?_ | refine g_aloadQ0 dX3_writesPolicy_37 ?_ | refine g_aloadN0 dX3_writesPolicy_37 ?_
          refine g_bipush (nI 124) dX3_writesPolicy_38 (by decide) ?_
          refine g_V1v0 (ctX3_writes hA M _ _ (by have := hQ1.1; omega) (by omega)) kX3_writes q2401 tw_0 rfl rfl ⟨by show 0 + 1 ≤ (N + 1) + 5; omega, by show 8 + (2 + 11) + (0) ≤ 60 * (N + 1) + 200; omega⟩ ⟨rfl, rfl⟩ ⟨Nat.zero_le _, Nat.zero_le _⟩ (Nat.le_of_ble_eq_true rfl) dX3_writesPolicy_40 (fun h_40 p_40 => ?_)
          subst p_40
          refine g_iload5 dX3_writesPolicy_43 ?_
          refine g_iconst (nI 1) dX3_writesPolicy_45 (by decide) ?_
          first | refine g_iaddN dX3_writesPolicy_46 ?_ | refine g_iadd dX3_writesPolicy_46 ?_
          refine g_istore4 dX3_writesPolicy_47 (show ¬ 4 = 255 + 1 by decide) ?_
          refine g_goto (tgt := 3) dX3_writesPolicy_49 (by decide) ?_
          exact ihk _ l2 (n + l1 + 1) L' _ _ (by omega) (by omega) hT2 h5 hQ2 (by omega)
set_option maxHeartbeats 400000 in
theorem step_X3_writesPolicy {E : GE} {A : Nat → Nat} (hA : twA A) (M : TW) (s : Nat) (hB : twB M) (hs : s < 4) {h : AH} (N : Nat) (ihA : ∀ (f u l en : Nat) (L : List Att) (k n : Nat) (Q : List Nat), u = f + l → 3 * l + 1 ≤ N → u ≤ 40 → en < 2 → Seg (pT (M 1) s) k 1 f l L → txB Q n → n + l ≤ 100 → Ct E cX3_writesAll (mX3_writesAll N) [.ref (A 0), .int (nI s), .int (nI f), .int (nI u), .int (nI en)] (twO E A (tPp M Q) h) (pV fun h' => h' = twO E A (tPp M (Q ++ txA en (mkAll L))) h) noX) : ∀ (f u l : Nat) (L : List Att) (k n : Nat) (Q : List Nat), u = f + l → 3 * l + 2 ≤ (N + 1) → u ≤ 40 → Seg (pT (M 1) s) k 0 f l L → txB Q n → n + l ≤ 100 → Ct E cX3_writesPolicy (mX3_writesPolicy (N + 1)) [.ref (A 0), .int (nI s), .int (nI f), .int (nI u)] (twO E A (tPp M Q) h) (pV fun h' => h' = twO E A (tPp M (Q ++ txL 124 0 L)) h) noX := by
  intro f u l L k n Q he hN hu hS hQ hn
  refine g_enter (own := "SecretVaultModel") [some (.ref (A 0)), some (.int (nI s)), some (.int (nI f)), some (.int (nI u)), none, none] (show plainName yX3_writesPolicy.cls = true by decide +kernel) rfl rfl (Nat.le_of_ble_eq_true rfl) rfl rfl (fun X => ?_)
  refine g_iload2 dX3_writesPolicy_0 ?_
  refine g_istore4 dX3_writesPolicy_1 (show ¬ 4 = 255 + 1 by decide) ?_
  exact tail_X3_writesPolicy hA M s hB hs N f u _ hu ihA k f l n L Q _ he (by omega) rfl hS hQ hn
set_option maxHeartbeats 400000 in
theorem tail_X3_writesAll {E : GE} {A : Nat → Nat} (hA : twA A) (M : TW) (s : Nat) (hB : twB M) (hs : s < 4) {h : AH} {X : GX} (N f u en r5 sv e2 : Nat) (T : List Nat) (hu : u ≤ 40) (hen : en < 2) (hsv : sv < 2) (he2 : (e2 = 1 ∧ (sv = 1 ∨ en = 1)) ∨ (e2 = 0 ∧ sv = 0 ∧ en = 0)) (ih : ∀ (f u l en : Nat) (L : List Att) (k n : Nat) (Q : List Nat), u = f + l → 3 * l ≤ N → u ≤ 40 → en < 2 → Seg (pT (M 1) s) k 2 f l L → txB Q n → n + l ≤ 100 → Ct E cX3_writesPart (mX3_writesPart N) [.ref (A 0), .int (nI s), .int (nI f), .int (nI u), .int (nI en)] (twO E A (tPp M Q) h) (pV fun h' => h' = twO E A (tPp M (Q ++ txA en (L.headD (attOne 0)))) h) noX) : ∀ (k a l n : Nat) (L : List Att) (Q : List Nat) (o : Option Value), u = a + l → 3 * l ≤ N → Q ++ txL 38 e2 L = T → Seg (pT (M 1) s) k 1 a l L → txB Q n → n + l ≤ 100 → V E cX3_writesAll "SecretVaultModel" (mX3_writesAll (N + 1)) (pV fun h' => h' = twO E A (tPp M T) h) noX X (twO E A (tPp M Q) h) 0 0 27 [some (.ref (A 0)), some (.int (nI (s))), some (.int (nI (f))), some (.int (nI (u))), some (.int (nI (en))), some (.int (nI (r5))), some (.int (nI (sv))), some (.int (nI (a))), o] [] := by
  have X1 : ∀ o, V E cX3_writesAll "SecretVaultModel" (mX3_writesAll (N + 1)) (pV fun h' => h' = twO E A (tPp M T) h) noX X (twO E A (tPp M T) h) 0 0 27 [some (.ref (A 0)), some (.int (nI (s))), some (.int (nI (f))), some (.int (nI (u))), some (.int (nI (en))), some (.int (nI (r5))), some (.int (nI (sv))), some (.int (nI (u + 1))), o] [] := by
    intro o
    refine g_iload7 dX3_writesAll_27 ?_
    refine g_iload3 dX3_writesAll_29 ?_
    first | refine g_icmpN_ge (tgt := 90) dX3_writesAll_30 (by decide) (by omega) (by omega) (fun c_30 => ?_) (fun c_30 => ?_) | refine g_icmp_ge (tgt := 90) dX3_writesAll_30 (by decide) (fun c_30 => ?_) (fun c_30 => ?_)
    · exact g_vret (hk := Nat.zero_le _) (hn := Nat.zero_le _) dX3_writesAll_90 rfl ⟨rfl, rfl⟩
    · omega
  intro k
  induction k with
  | zero => intro a l n L Q o _ _ _ h; exact h.elim
  | succ k ihk =>
    intro a l n L Q o he hN hT hS hQ hn
    have hpos := hS.pos
    have hbl := hS.bal
    rcases hS with ⟨q, -⟩ | ⟨-, hS⟩
    · exact absurd q (by decide)
    rcases hS with ⟨B, rfl, hsg⟩ | ⟨l1, l2, B, L', rfl, rfl, hsg, ht, h5⟩
    · replace hsg : Seg (pT (M 1) s) k 2 a l B := hsg
      have hnx : nxF (pT (M 1) s) 38 l a 0 = a + l := hsg.next0 (Or.inl rfl) (Or.inl rfl)
      have hee : a + l = a + l := rfl
      have hT2 : Q ++ txA e2 (B.headD (attOne 0)) = T := hT
      refine g_iload7 dX3_writesAll_27 ?_
      refine g_iload3 dX3_writesAll_29 ?_
      first | refine g_icmpN_ge (tgt := 90) dX3_writesAll_30 (by decide) (by omega) (by omega) (fun c_30 => ?_) (fun c_30 => ?_) | refine g_icmp_ge (tgt := 90) dX3_writesAll_30 (by decide) (fun c_30 => ?_) (fun c_30 => ?_)
      · omega
      · first | refine g_aload0 dX3_writesAll_33 ?_ | refine g_aloadQ0 dX3_writesAll_33 ?_ | refine g_aloadN0 dX3_writesAll_33 ?_
        refine g_iload1 dX3_writesAll_34 ?_
        refine g_iload7 dX3_writesAll_35 ?_
        refine g_iload3 dX3_writesAll_37 ?_
        refine g_bipush (nI 38) dX3_writesAll_38 (by decide) ?_
        refine g_V4n0 (ctX3_nextP hA M _ n _ _ _ _ _ hB hQ (by omega) (by omega) he (by omega) (by omega) hbl) kX3_next q2319 tw_0 rfl rfl ⟨by show 1 + 1 ≤ (N + 1) + 5; omega, by show 8 + (8 + 11) + (22) ≤ 60 * (N + 1) + 200; omega⟩ ⟨rfl, rfl⟩ ⟨Nat.zero_le _, Nat.zero_le _⟩ (Nat.le_of_ble_eq_true rfl) dX3_writesAll_40 (fun r_40 h_40 p_40 => ?_)
        obtain ⟨hi_40, rfl⟩ := p_40
        rw [hnx] at hi_40
        subst hi_40
        refine g_istore8 dX3_writesAll_43 (show ¬ 8 = 255 + 1 by decide) ?_
        first | refine g_aload0 dX3_writesAll_45 ?_ | refine g_aloadQ0 dX3_writesAll_45 ?_ | refine g_aloadN0 dX3_writesAll_45 ?_
        refine g_iload1 dX3_writesAll_46 ?_
        refine g_iload7 dX3_writesAll_47 ?_
        refine g_iload8 dX3_writesAll_49 ?_
        refine g_iload6 dX3_writesAll_51 ?_
        first | refine g_ifN_ne (tgt := 61) dX3_writesAll_53 (by decide) (by omega) (fun c_53 => ?_) (fun c_53 => ?_) | refine g_if_ne (tgt := 61) dX3_writesAll_53 (by decide) (fun c_53 => ?_) (fun c_53 => ?_)
        · obtain rfl : e2 = 1 := by omega
          refine g_iconst (nI 1) dX3_writesAll_61 (by decide) ?_
          refine g_goto (tgt := 66) dX3_writesAll_62 (by decide) ?_
          refine g_S5v0 (ih _ _ _ _ _ k n _ hee (by omega) (by omega) (by decide) hsg hQ (by omega)) (kX3_writesPart _) q2471 ⟨by show N + 5 + 1 ≤ (N + 1) + 5; omega, by show 8 + (8 + 11) + (60 * N + 200) ≤ 60 * (N + 1) + 200; omega⟩ ⟨rfl, rfl⟩ ⟨Nat.zero_le _, Nat.zero_le _⟩ (Nat.le_of_ble_eq_true rfl) dX3_writesAll_66 (fun h_66 p_66 => ?_)
          subst p_66
          refine g_iload8 dX3_writesAll_69 ?_
          refine g_iload3 dX3_writesAll_71 ?_
          first | refine g_icmpN_ge (tgt := 81) dX3_writesAll_72 (by decide) (by omega) (by omega) (fun c_72 => ?_) (fun c_72 => ?_) | refine g_icmp_ge (tgt := 81) dX3_writesAll_72 (by decide) (fun c_72 => ?_) (fun c_72 => ?_)
          · refine g_iload8 dX3_writesAll_81 ?_
            refine g_iconst (nI 1) dX3_writesAll_83 (by decide) ?_
            first | refine g_iaddN dX3_writesAll_84 ?_ | refine g_iadd dX3_writesAll_84 ?_
            refine g_istore7 dX3_writesAll_85 (show ¬ 7 = 255 + 1 by decide) ?_
            refine g_goto (tgt := 27) dX3_writesAll_87 (by decide) ?_
            rw [show a + l + 1 = u + 1 by omega, hT2]
            exact X1 _
          · omega
        · 
          refine g_iload4 dX3_writesAll_56 ?_
          first | refine g_ifN_eq (tgt := 65) dX3_writesAll_58 (by decide) (by omega) (fun c_58 => ?_) (fun c_58 => ?_) | refine g_if_eq (tgt := 65) dX3_writesAll_58 (by decide) (fun c_58 => ?_) (fun c_58 => ?_)
          · obtain rfl : e2 = 0 := by omega
            refine g_iconst (nI 0) dX3_writesAll_65 (by decide) ?_
            refine g_S5v0 (ih _ _ _ _ _ k n _ hee (by omega) (by omega) (by decide) hsg hQ (by omega)) (kX3_writesPart _) q2471 ⟨by show N + 5 + 1 ≤ (N + 1) + 5; omega, by show 8 + (8 + 11) + (60 * N + 200) ≤ 60 * (N + 1) + 200; omega⟩ ⟨rfl, rfl⟩ ⟨Nat.zero_le _, Nat.zero_le _⟩ (Nat.le_of_ble_eq_true rfl) dX3_writesAll_66 (fun h_66 p_66 => ?_)
            subst p_66
            refine g_iload8 dX3_writesAll_69 ?_
            refine g_iload3 dX3_writesAll_71 ?_
            first | refine g_icmpN_ge (tgt := 81) dX3_writesAll_72 (by decide) (by omega) (by omega) (fun c_72 => ?_) (fun c_72 => ?_) | refine g_icmp_ge (tgt := 81) dX3_writesAll_72 (by decide) (fun c_72 => ?_) (fun c_72 => ?_)
            · refine g_iload8 dX3_writesAll_81 ?_
              refine g_iconst (nI 1) dX3_writesAll_83 (by decide) ?_
              first | refine g_iaddN dX3_writesAll_84 ?_ | refine g_iadd dX3_writesAll_84 ?_
              refine g_istore7 dX3_writesAll_85 (show ¬ 7 = 255 + 1 by decide) ?_
              refine g_goto (tgt := 27) dX3_writesAll_87 (by decide) ?_
              rw [show a + l + 1 = u + 1 by omega, hT2]
              exact X1 _
            · omega
          · obtain rfl : e2 = 1 := by omega
            refine g_iconst (nI 1) dX3_writesAll_61 (by decide) ?_
            refine g_goto (tgt := 66) dX3_writesAll_62 (by decide) ?_
            refine g_S5v0 (ih _ _ _ _ _ k n _ hee (by omega) (by omega) (by decide) hsg hQ (by omega)) (kX3_writesPart _) q2471 ⟨by show N + 5 + 1 ≤ (N + 1) + 5; omega, by show 8 + (8 + 11) + (60 * N + 200) ≤ 60 * (N + 1) + 200; omega⟩ ⟨rfl, rfl⟩ ⟨Nat.zero_le _, Nat.zero_le _⟩ (Nat.le_of_ble_eq_true rfl) dX3_writesAll_66 (fun h_66 p_66 => ?_)
            subst p_66
            refine g_iload8 dX3_writesAll_69 ?_
            refine g_iload3 dX3_writesAll_71 ?_
            first | refine g_icmpN_ge (tgt := 81) dX3_writesAll_72 (by decide) (by omega) (by omega) (fun c_72 => ?_) (fun c_72 => ?_) | refine g_icmp_ge (tgt := 81) dX3_writesAll_72 (by decide) (fun c_72 => ?_) (fun c_72 => ?_)
            · refine g_iload8 dX3_writesAll_81 ?_
              refine g_iconst (nI 1) dX3_writesAll_83 (by decide) ?_
              first | refine g_iaddN dX3_writesAll_84 ?_ | refine g_iadd dX3_writesAll_84 ?_
              refine g_istore7 dX3_writesAll_85 (show ¬ 7 = 255 + 1 by decide) ?_
              refine g_goto (tgt := 27) dX3_writesAll_87 (by decide) ?_
              rw [show a + l + 1 = u + 1 by omega, hT2]
              exact X1 _
            · omega
    · replace hsg : Seg (pT (M 1) s) k 2 a l1 B := hsg
      have hpos2 := h5.pos
      have hnx : nxF (pT (M 1) s) 38 (l1 + 1 + l2) a 0 = a + l1 := hsg.next1 (Or.inl rfl) (Or.inl rfl) ht
      have hee : a + l1 = a + l1 := rfl
      have hQ1 : txB (Q ++ txA e2 (B.headD (attOne 0))) (n + l1) := hQ.ap (txA_B (en2 := 0) (mk_tx (q := 1) (Or.inr (Or.inl rfl)) hsg.ne (hsg.tx (Or.inr (Or.inr (Or.inl rfl))))) (by omega)) (Nat.le_refl _)
      have hQ2 : txB (Q ++ txA e2 (B.headD (attOne 0)) ++ [38]) (n + l1 + 1) := hQ1.ap (txB.one (by decide)) (Nat.le_refl _)
      have hT2 : Q ++ txA e2 (B.headD (attOne 0)) ++ [38] ++ txL 38 e2 L' = T := by
        rw [← hT, txL_c h5.ne]
        simp [mkS]
      refine g_iload7 dX3_writesAll_27 ?_
      refine g_iload3 dX3_writesAll_29 ?_
      first | refine g_icmpN_ge (tgt := 90) dX3_writesAll_30 (by decide) (by omega) (by omega) (fun c_30 => ?_) (fun c_30 => ?_) | refine g_icmp_ge (tgt := 90) dX3_writesAll_30 (by decide) (fun c_30 => ?_) (fun c_30 => ?_)
      · omega
      · first | refine g_aload0 dX3_writesAll_33 ?_ | refine g_aloadQ0 dX3_writesAll_33 ?_ | refine g_aloadN0 dX3_writesAll_33 ?_
        refine g_iload1 dX3_writesAll_34 ?_
        refine g_iload7 dX3_writesAll_35 ?_
        refine g_iload3 dX3_writesAll_37 ?_
        refine g_bipush (nI 38) dX3_writesAll_38 (by decide) ?_
        refine g_V4n0 (ctX3_nextP hA M _ n _ _ _ _ _ hB hQ (by omega) (by omega) he (by omega) (by omega) hbl) kX3_next q2319 tw_0 rfl rfl ⟨by show 1 + 1 ≤ (N + 1) + 5; omega, by show 8 + (8 + 11) + (22) ≤ 60 * (N + 1) + 200; omega⟩ ⟨rfl, rfl⟩ ⟨Nat.zero_le _, Nat.zero_le _⟩ (Nat.le_of_ble_eq_true rfl) dX3_writesAll_40 (fun r_40 h_40 p_40 => ?_)
        obtain ⟨hi_40, rfl⟩ := p_40
        rw [hnx] at hi_40
        subst hi_40
        refine g_istore8 dX3_writesAll_43 (show ¬ 8 = 255 + 1 by decide) ?_
        first | refine g_aload0 dX3_writesAll_45 ?_ | refine g_aloadQ0 dX3_writesAll_45 ?_ | refine g_aloadN0 dX3_writesAll_45 ?_
        refine g_iload1 dX3_writesAll_46 ?_
        refine g_iload7 dX3_writesAll_47 ?_
        refine g_iload8 dX3_writesAll_49 ?_
        refine g_iload6 dX3_writesAll_51 ?_
        first | refine g_ifN_ne (tgt := 61) dX3_writesAll_53 (by decide) (by omega) (fun c_53 => ?_) (fun c_53 => ?_) | refine g_if_ne (tgt := 61) dX3_writesAll_53 (by decide) (fun c_53 => ?_) (fun c_53 => ?_)
        · obtain rfl : e2 = 1 := by omega
          refine g_iconst (nI 1) dX3_writesAll_61 (by decide) ?_
          refine g_goto (tgt := 66) dX3_writesAll_62 (by decide) ?_
          refine g_S5v0 (ih _ _ _ _ _ k n _ hee (by omega) (by omega) (by decide) hsg hQ (by omega)) (kX3_writesPart _) q2471 ⟨by show N + 5 + 1 ≤ (N + 1) + 5; omega, by show 8 + (8 + 11) + (60 * N + 200) ≤ 60 * (N + 1) + 200; omega⟩ ⟨rfl, rfl⟩ ⟨Nat.zero_le _, Nat.zero_le _⟩ (Nat.le_of_ble_eq_true rfl) dX3_writesAll_66 (fun h_66 p_66 => ?_)
          subst p_66
          refine g_iload8 dX3_writesAll_69 ?_
          refine g_iload3 dX3_writesAll_71 ?_
          first | refine g_icmpN_ge (tgt := 81) dX3_writesAll_72 (by decide) (by omega) (by omega) (fun c_72 => ?_) (fun c_72 => ?_) | refine g_icmp_ge (tgt := 81) dX3_writesAll_72 (by decide) (fun c_72 => ?_) (fun c_72 => ?_)
          · omega
          · first | refine g_aload0 dX3_writesAll_75 ?_ | refine g_aloadQ0 dX3_writesAll_75 ?_ | refine g_aloadN0 dX3_writesAll_75 ?_
            refine g_bipush (nI 38) dX3_writesAll_76 (by decide) ?_
            refine g_V1v0 (ctX3_writes hA M _ _ (by have := hQ1.1; omega) (by omega)) kX3_writes q2401 tw_0 rfl rfl ⟨by show 0 + 1 ≤ (N + 1) + 5; omega, by show 8 + (2 + 11) + (0) ≤ 60 * (N + 1) + 200; omega⟩ ⟨rfl, rfl⟩ ⟨Nat.zero_le _, Nat.zero_le _⟩ (Nat.le_of_ble_eq_true rfl) dX3_writesAll_78 (fun h_78 p_78 => ?_)
            subst p_78
            refine g_iload8 dX3_writesAll_81 ?_
            refine g_iconst (nI 1) dX3_writesAll_83 (by decide) ?_
            first | refine g_iaddN dX3_writesAll_84 ?_ | refine g_iadd dX3_writesAll_84 ?_
            refine g_istore7 dX3_writesAll_85 (show ¬ 7 = 255 + 1 by decide) ?_
            refine g_goto (tgt := 27) dX3_writesAll_87 (by decide) ?_
            exact ihk _ l2 (n + l1 + 1) L' _ _ (by omega) (by omega) hT2 h5 hQ2 (by omega)
        · 
          refine g_iload4 dX3_writesAll_56 ?_
          first | refine g_ifN_eq (tgt := 65) dX3_writesAll_58 (by decide) (by omega) (fun c_58 => ?_) (fun c_58 => ?_) | refine g_if_eq (tgt := 65) dX3_writesAll_58 (by decide) (fun c_58 => ?_) (fun c_58 => ?_)
          · obtain rfl : e2 = 0 := by omega
            refine g_iconst (nI 0) dX3_writesAll_65 (by decide) ?_
            refine g_S5v0 (ih _ _ _ _ _ k n _ hee (by omega) (by omega) (by decide) hsg hQ (by omega)) (kX3_writesPart _) q2471 ⟨by show N + 5 + 1 ≤ (N + 1) + 5; omega, by show 8 + (8 + 11) + (60 * N + 200) ≤ 60 * (N + 1) + 200; omega⟩ ⟨rfl, rfl⟩ ⟨Nat.zero_le _, Nat.zero_le _⟩ (Nat.le_of_ble_eq_true rfl) dX3_writesAll_66 (fun h_66 p_66 => ?_)
            subst p_66
            refine g_iload8 dX3_writesAll_69 ?_
            refine g_iload3 dX3_writesAll_71 ?_
            first | refine g_icmpN_ge (tgt := 81) dX3_writesAll_72 (by decide) (by omega) (by omega) (fun c_72 => ?_) (fun c_72 => ?_) | refine g_icmp_ge (tgt := 81) dX3_writesAll_72 (by decide) (fun c_72 => ?_) (fun c_72 => ?_)
            · omega
            · first | refine g_aload0 dX3_writesAll_75 ?_ | refine g_aloadQ0 dX3_writesAll_75 ?_ | refine g_aloadN0 dX3_writesAll_75 ?_
              refine g_bipush (nI 38) dX3_writesAll_76 (by decide) ?_
              refine g_V1v0 (ctX3_writes hA M _ _ (by have := hQ1.1; omega) (by omega)) kX3_writes q2401 tw_0 rfl rfl ⟨by show 0 + 1 ≤ (N + 1) + 5; omega, by show 8 + (2 + 11) + (0) ≤ 60 * (N + 1) + 200; omega⟩ ⟨rfl, rfl⟩ ⟨Nat.zero_le _, Nat.zero_le _⟩ (Nat.le_of_ble_eq_true rfl) dX3_writesAll_78 (fun h_78 p_78 => ?_)
              subst p_78
              refine g_iload8 dX3_writesAll_81 ?_
              refine g_iconst (nI 1) dX3_writesAll_83 (by decide) ?_
              first | refine g_iaddN dX3_writesAll_84 ?_ | refine g_iadd dX3_writesAll_84 ?_
              refine g_istore7 dX3_writesAll_85 (show ¬ 7 = 255 + 1 by decide) ?_
              refine g_goto (tgt := 27) dX3_writesAll_87 (by decide) ?_
              exact ihk _ l2 (n + l1 + 1) L' _ _ (by omega) (by omega) hT2 h5 hQ2 (by omega)
          · obtain rfl : e2 = 1 := by omega
            refine g_iconst (nI 1) dX3_writesAll_61 (by decide) ?_
            refine g_goto (tgt := 66) dX3_writesAll_62 (by decide) ?_
            refine g_S5v0 (ih _ _ _ _ _ k n _ hee (by omega) (by omega) (by decide) hsg hQ (by omega)) (kX3_writesPart _) q2471 ⟨by show N + 5 + 1 ≤ (N + 1) + 5; omega, by show 8 + (8 + 11) + (60 * N + 200) ≤ 60 * (N + 1) + 200; omega⟩ ⟨rfl, rfl⟩ ⟨Nat.zero_le _, Nat.zero_le _⟩ (Nat.le_of_ble_eq_true rfl) dX3_writesAll_66 (fun h_66 p_66 => ?_)
            subst p_66
            refine g_iload8 dX3_writesAll_69 ?_
            refine g_iload3 dX3_writesAll_71 ?_
            first | refine g_icmpN_ge (tgt := 81) dX3_writesAll_72 (by decide) (by omega) (by omega) (fun c_72 => ?_) (fun c_72 => ?_) | refine g_icmp_ge (tgt := 81) dX3_writesAll_72 (by decide) (fun c_72 => ?_) (fun c_72 => ?_)
            · omega
            · first | refine g_aload0 dX3_writesAll_75 ?_ | refine g_aloadQ0 dX3_writesAll_75 ?_ | refine g_aloadN0 dX3_writesAll_75 ?_
              refine g_bipush (nI 38) dX3_writesAll_76 (by decide) ?_
              refine g_V1v0 (ctX3_writes hA M _ _ (by have := hQ1.1; omega) (by omega)) kX3_writes q2401 tw_0 rfl rfl ⟨by show 0 + 1 ≤ (N + 1) + 5; omega, by show 8 + (2 + 11) + (0) ≤ 60 * (N + 1) + 200; omega⟩ ⟨rfl, rfl⟩ ⟨Nat.zero_le _, Nat.zero_le _⟩ (Nat.le_of_ble_eq_true rfl) dX3_writesAll_78 (fun h_78 p_78 => ?_)
              subst p_78
              refine g_iload8 dX3_writesAll_81 ?_
              refine g_iconst (nI 1) dX3_writesAll_83 (by decide) ?_
              first | refine g_iaddN dX3_writesAll_84 ?_ | refine g_iadd dX3_writesAll_84 ?_
              refine g_istore7 dX3_writesAll_85 (show ¬ 7 = 255 + 1 by decide) ?_
              refine g_goto (tgt := 27) dX3_writesAll_87 (by decide) ?_
              exact ihk _ l2 (n + l1 + 1) L' _ _ (by omega) (by omega) hT2 h5 hQ2 (by omega)
set_option maxHeartbeats 400000 in
theorem step_X3_writesAll {E : GE} {A : Nat → Nat} (hA : twA A) (M : TW) (s : Nat) (hB : twB M) (hs : s < 4) {h : AH} (N : Nat) (ih : ∀ (f u l en : Nat) (L : List Att) (k n : Nat) (Q : List Nat), u = f + l → 3 * l ≤ N → u ≤ 40 → en < 2 → Seg (pT (M 1) s) k 2 f l L → txB Q n → n + l ≤ 100 → Ct E cX3_writesPart (mX3_writesPart N) [.ref (A 0), .int (nI s), .int (nI f), .int (nI u), .int (nI en)] (twO E A (tPp M Q) h) (pV fun h' => h' = twO E A (tPp M (Q ++ txA en (L.headD (attOne 0)))) h) noX) : ∀ (f u l en : Nat) (L : List Att) (k n : Nat) (Q : List Nat), u = f + l → 3 * l + 1 ≤ (N + 1) → u ≤ 40 → en < 2 → Seg (pT (M 1) s) k 1 f l L → txB Q n → n + l ≤ 100 → Ct E cX3_writesAll (mX3_writesAll (N + 1)) [.ref (A 0), .int (nI s), .int (nI f), .int (nI u), .int (nI en)] (twO E A (tPp M Q) h) (pV fun h' => h' = twO E A (tPp M (Q ++ txA en (mkAll L))) h) noX := by
  intro f u l en L k n Q he hN hu hen hS hQ hn
  refine g_enter (own := "SecretVaultModel") [some (.ref (A 0)), some (.int (nI s)), some (.int (nI f)), some (.int (nI u)), some (.int (nI en)), none, none, none, none] (show plainName yX3_writesAll.cls = true by decide +kernel) rfl rfl (Nat.le_of_ble_eq_true rfl) rfl rfl (fun X => ?_)
  have hbl := hS.bal
  cases k with
  | zero => exact hS.elim
  | succ k =>
  have hS0 := hS
  rcases hS with ⟨q, -⟩ | ⟨-, hS⟩
  · exact absurd q (by decide)
  rcases hS with ⟨B, rfl, hsg⟩ | ⟨l1, l2, B, L', rfl, rfl, hsg, ht, h5⟩
  · replace hsg : Seg (pT (M 1) s) k 2 f l B := hsg
    have hnx : nxF (pT (M 1) s) 38 l f 0 = f + l := hsg.next0 (Or.inl rfl) (Or.inl rfl)
    first | refine g_aload0 dX3_writesAll_0 ?_ | refine g_aloadQ0 dX3_writesAll_0 ?_ | refine g_aloadN0 dX3_writesAll_0 ?_
    refine g_iload1 dX3_writesAll_1 ?_
    refine g_iload2 dX3_writesAll_2 ?_
    refine g_iload3 dX3_writesAll_3 ?_
    refine g_bipush (nI 38) dX3_writesAll_4 (by decide) ?_
    refine g_V4n0 (ctX3_nextP hA M _ n _ _ _ _ _ hB hQ (by omega) (by omega) he (by omega) (by omega) hbl) kX3_next q2319 tw_0 rfl rfl ⟨by show 1 + 1 ≤ (N + 1) + 5; omega, by show 8 + (8 + 11) + (22) ≤ 60 * (N + 1) + 200; omega⟩ ⟨rfl, rfl⟩ ⟨Nat.zero_le _, Nat.zero_le _⟩ (Nat.le_of_ble_eq_true rfl) dX3_writesAll_6 (fun r_6 h_6 p_6 => ?_)
    obtain ⟨hi_6, rfl⟩ := p_6
    rw [hnx] at hi_6
    subst hi_6
    refine g_istore5 dX3_writesAll_9 (show ¬ 5 = 255 + 1 by decide) ?_
    refine g_iload5 dX3_writesAll_11 ?_
    refine g_iload3 dX3_writesAll_13 ?_
    first | refine g_icmpN_ge (tgt := 21) dX3_writesAll_14 (by decide) (by omega) (by omega) (fun c_14 => ?_) (fun c_14 => ?_) | refine g_icmp_ge (tgt := 21) dX3_writesAll_14 (by decide) (fun c_14 => ?_) (fun c_14 => ?_)
    · refine g_iconst (nI 0) dX3_writesAll_21 (by decide) ?_
      refine g_istore6 dX3_writesAll_22 (show ¬ 6 = 255 + 1 by decide) ?_
      refine g_iload2 dX3_writesAll_24 ?_
      refine g_istore7 dX3_writesAll_25 (show ¬ 7 = 255 + 1 by decide) ?_
      exact tail_X3_writesAll hA M s hB hs N f u en _ 0 en _ hu hen (by decide) (by omega) ih (k + 1) f l n _ Q _ he (by omega) rfl hS0 hQ hn
    · omega
  · replace hsg : Seg (pT (M 1) s) k 2 f l1 B := hsg
    have hpos2 := h5.pos
    have hnx : nxF (pT (M 1) s) 38 (l1 + 1 + l2) f 0 = f + l1 := hsg.next1 (Or.inl rfl) (Or.inl rfl) ht
    have hL2 := h5.ne
    match L', hL2, hS0 with
    | C :: L2, _, hS0 =>
    rw [all_t]
    first | refine g_aload0 dX3_writesAll_0 ?_ | refine g_aloadQ0 dX3_writesAll_0 ?_ | refine g_aloadN0 dX3_writesAll_0 ?_
    refine g_iload1 dX3_writesAll_1 ?_
    refine g_iload2 dX3_writesAll_2 ?_
    refine g_iload3 dX3_writesAll_3 ?_
    refine g_bipush (nI 38) dX3_writesAll_4 (by decide) ?_
    refine g_V4n0 (ctX3_nextP hA M _ n _ _ _ _ _ hB hQ (by omega) (by omega) he (by omega) (by omega) hbl) kX3_next q2319 tw_0 rfl rfl ⟨by show 1 + 1 ≤ (N + 1) + 5; omega, by show 8 + (8 + 11) + (22) ≤ 60 * (N + 1) + 200; omega⟩ ⟨rfl, rfl⟩ ⟨Nat.zero_le _, Nat.zero_le _⟩ (Nat.le_of_ble_eq_true rfl) dX3_writesAll_6 (fun r_6 h_6 p_6 => ?_)
    obtain ⟨hi_6, rfl⟩ := p_6
    rw [hnx] at hi_6
    subst hi_6
    refine g_istore5 dX3_writesAll_9 (show ¬ 5 = 255 + 1 by decide) ?_
    refine g_iload5 dX3_writesAll_11 ?_
    refine g_iload3 dX3_writesAll_13 ?_
    first | refine g_icmpN_ge (tgt := 21) dX3_writesAll_14 (by decide) (by omega) (by omega) (fun c_14 => ?_) (fun c_14 => ?_) | refine g_icmp_ge (tgt := 21) dX3_writesAll_14 (by decide) (fun c_14 => ?_) (fun c_14 => ?_)
    · omega
    · refine g_iconst (nI 1) dX3_writesAll_17 (by decide) ?_
      refine g_goto (tgt := 22) dX3_writesAll_18 (by decide) ?_
      refine g_istore6 dX3_writesAll_22 (show ¬ 6 = 255 + 1 by decide) ?_
      refine g_iload2 dX3_writesAll_24 ?_
      refine g_istore7 dX3_writesAll_25 (show ¬ 7 = 255 + 1 by decide) ?_
      exact tail_X3_writesAll hA M s hB hs N f u en _ 1 1 _ hu hen (by decide) (by omega) ih (k + 1) f _ n _ Q _ he (by omega) rfl hS0 hQ hn
set_option maxHeartbeats 400000 in
theorem tail_X3_writesPart {E : GE} {A : Nat → Nat} (hA : twA A) (M : TW) (s : Nat) (hB : twB M) (hs : s < 4) {h : AH} {X : GX} (N f u en c : Nat) (T : List Nat) (hu : u ≤ 40) (h5u : 5 ≤ u) (ih : ∀ (f u l : Nat) (L : List Att) (k n : Nat) (Q : List Nat), u = f + l → 3 * l + 2 ≤ N → u ≤ 40 → Seg (pT (M 1) s) k 0 f l L → txB Q n → n + l ≤ 100 → Ct E cX3_writesPolicy (mX3_writesPolicy N) [.ref (A 0), .int (nI s), .int (nI f), .int (nI u)] (twO E A (tPp M Q) h) (pV fun h' => h' = twO E A (tPp M (Q ++ txL 124 0 L)) h) noX) : ∀ (k a l n : Nat) (L : List Att) (Q : List Nat) (o : Option Value), u = a + l + 1 → 3 * l + 2 ≤ N → Q ++ txL 44 0 L ++ [41] = T → Seg (pT (M 1) s) k 3 a l L → txB Q n → n + l + 1 ≤ 100 → V E cX3_writesPart "SecretVaultModel" (mX3_writesPart (N + 1)) (pV fun h' => h' = twO E A (tPp M T) h) noX X (twO E A (tPp M Q) h) 0 0 150 [some (.ref (A 0)), some (.int (nI (s))), some (.int (nI (f))), some (.int (nI (u))), some (.int (nI (en))), some (.int (nI (c))), some (.int (nI (a))), o] [] := by
  have X1 : ∀ o, V E cX3_writesPart "SecretVaultModel" (mX3_writesPart (N + 1)) (pV fun h' => h' = twO E A (tPp M T) h) noX X (twO E A (tPp M T) h) 0 0 150 [some (.ref (A 0)), some (.int (nI (s))), some (.int (nI (f))), some (.int (nI (u))), some (.int (nI (en))), some (.int (nI (c))), some (.int (nI (u))), o] [] := by
    intro o
    refine g_iload6 dX3_writesPart_150 ?_
    refine g_iload3 dX3_writesPart_152 ?_
    refine g_iconst (nI 1) dX3_writesPart_153 (by decide) ?_
    first | refine g_isubN dX3_writesPart_154 (by omega) ?_ | refine g_isub dX3_writesPart_154 ?_
    first | refine g_icmpN_ge (tgt := 209) dX3_writesPart_155 (by decide) (by omega) (by omega) (fun c_155 => ?_) (fun c_155 => ?_) | refine g_icmp_ge (tgt := 209) dX3_writesPart_155 (by decide) (fun c_155 => ?_) (fun c_155 => ?_)
    · refine g_goto (tgt := 218) dX3_writesPart_209 (by decide) ?_
      exact g_vret (hk := Nat.zero_le _) (hn := Nat.zero_le _) dX3_writesPart_218 rfl ⟨rfl, rfl⟩
    · omega
  intro k
  induction k with
  | zero => intro a l n L Q o _ _ _ h; exact h.elim
  | succ k ihk =>
    intro a l n L Q o he hN hT hS hQ hn
    have hpos := hS.pos
    have hbl := hS.bal
    have hle1 : u - 1 = a + l := by omega
    rcases hS with ⟨q, -⟩ | ⟨-, hS⟩
    · exact absurd q (by decide)
    rcases hS with ⟨B, rfl, hsg⟩ | ⟨l1, l2, B, L', rfl, rfl, hsg, ht, h5⟩
    · replace hsg : Seg (pT (M 1) s) k 0 a l B := hsg
      have hnx : nxF (pT (M 1) s) 44 l a 0 = a + l := hsg.next0 (Or.inr (Or.inl rfl)) (Or.inr (Or.inr ⟨rfl, rfl⟩))
      have hee : a + l = a + l := rfl
      have hQ1 : txB (Q ++ txL 124 0 B) (n + l) := hQ.ap (hsg.tx (Or.inl rfl)) (Nat.le_refl _)
      have hT2 : Q ++ txL 124 0 B ++ [41] = T := by
        rw [← hT, show txL 44 0 [mkS 3 B] = txA 0 (mkAny B) from rfl, txA_0, any_t hsg.ne]
      refine g_iload6 dX3_writesPart_150 ?_
      refine g_iload3 dX3_writesPart_152 ?_
      refine g_iconst (nI 1) dX3_writesPart_153 (by decide) ?_
      first | refine g_isubN dX3_writesPart_154 (by omega) ?_ | refine g_isub dX3_writesPart_154 ?_
      first | refine g_icmpN_ge (tgt := 209) dX3_writesPart_155 (by decide) (by omega) (by omega) (fun c_155 => ?_) (fun c_155 => ?_) | refine g_icmp_ge (tgt := 209) dX3_writesPart_155 (by decide) (fun c_155 => ?_) (fun c_155 => ?_)
      · omega
      · first | refine g_aload0 dX3_writesPart_158 ?_ | refine g_aloadQ0 dX3_writesPart_158 ?_ | refine g_aloadN0 dX3_writesPart_158 ?_
        refine g_iload1 dX3_writesPart_159 ?_
        refine g_iload6 dX3_writesPart_160 ?_
        refine g_iload3 dX3_writesPart_162 ?_
        refine g_iconst (nI 1) dX3_writesPart_163 (by decide) ?_
        first | refine g_isubN dX3_writesPart_164 (by omega) ?_ | refine g_isub dX3_writesPart_164 ?_
        refine g_bipush (nI 44) dX3_writesPart_165 (by decide) ?_
        refine g_V4n0 (ctX3_nextP hA M _ n _ _ _ _ _ hB hQ (by omega) (by omega) hle1 (by omega) (by omega) hbl) kX3_next q2319 tw_0 rfl rfl ⟨by show 1 + 1 ≤ (N + 1) + 5; omega, by show 8 + (8 + 11) + (22) ≤ 60 * (N + 1) + 200; omega⟩ ⟨rfl, rfl⟩ ⟨Nat.zero_le _, Nat.zero_le _⟩ (Nat.le_of_ble_eq_true rfl) dX3_writesPart_167 (fun r_167 h_167 p_167 => ?_)
        obtain ⟨hi_167, rfl⟩ := p_167
        rw [hnx] at hi_167
        subst hi_167
        refine g_istore7 dX3_writesPart_170 (show ¬ 7 = 255 + 1 by decide) ?_
        first | refine g_aload0 dX3_writesPart_172 ?_ | refine g_aloadQ0 dX3_writesPart_172 ?_ | refine g_aloadN0 dX3_writesPart_172 ?_
        refine g_iload1 dX3_writesPart_173 ?_
        refine g_iload6 dX3_writesPart_174 ?_
        refine g_iload7 dX3_writesPart_176 ?_
        refine g_S4v0 (ih _ _ _ _ k n _ hee (by omega) (by omega) hsg hQ (by omega)) (kX3_writesPolicy _) q2465 ⟨by show N + 5 + 1 ≤ (N + 1) + 5; omega, by show 8 + (6 + 11) + (60 * N + 200) ≤ 60 * (N + 1) + 200; omega⟩ ⟨rfl, rfl⟩ ⟨Nat.zero_le _, Nat.zero_le _⟩ (Nat.le_of_ble_eq_true rfl) dX3_writesPart_178 (fun h_178 p_178 => ?_)
        subst p_178
        first | refine g_aload0 dX3_writesPart_181 ?_ | refine g_aloadQ0 dX3_writesPart_181 ?_ | refine g_aloadN0 dX3_writesPart_181 ?_
        refine g_iload7 dX3_writesPart_182 ?_
        refine g_iload3 dX3_writesPart_184 ?_
        refine g_iconst (nI 1) dX3_writesPart_185 (by decide) ?_
        first | refine g_isubN dX3_writesPart_186 (by omega) ?_ | refine g_isub dX3_writesPart_186 ?_
        first | refine g_icmpN_ge (tgt := 195) dX3_writesPart_187 (by decide) (by omega) (by omega) (fun c_187 => ?_) (fun c_187 => ?_) | refine g_icmp_ge (tgt := 195) dX3_writesPart_187 (by decide) (fun c_187 => ?_) (fun c_187 => ?_)
        · refine g_bipush (nI 41) dX3_writesPart_195 (by decide) ?_
          refine g_V1v0 (ctX3_writes hA M _ _ (by have := hQ1.1; omega) (by omega)) kX3_writes q2401 tw_0 rfl rfl ⟨by show 0 + 1 ≤ (N + 1) + 5; omega, by show 8 + (2 + 11) + (0) ≤ 60 * (N + 1) + 200; omega⟩ ⟨rfl, rfl⟩ ⟨Nat.zero_le _, Nat.zero_le _⟩ (Nat.le_of_ble_eq_true rfl) dX3_writesPart_197 (fun h_197 p_197 => ?_)
          subst p_197
          refine g_iload7 dX3_writesPart_200 ?_
          refine g_iconst (nI 1) dX3_writesPart_202 (by decide) ?_
          first | refine g_iaddN dX3_writesPart_203 ?_ | refine g_iadd dX3_writesPart_203 ?_
          refine g_istore6 dX3_writesPart_204 (show ¬ 6 = 255 + 1 by decide) ?_
          refine g_goto (tgt := 150) dX3_writesPart_206 (by decide) ?_
          rw [show a + l + 1 = u by omega, hT2]
          exact X1 _
        · omega
    · replace hsg : Seg (pT (M 1) s) k 0 a l1 B := hsg
      have hpos2 := h5.pos
      have hnx : nxF (pT (M 1) s) 44 (l1 + 1 + l2) a 0 = a + l1 := hsg.next1 (Or.inr (Or.inl rfl)) (Or.inr (Or.inr ⟨rfl, rfl⟩)) ht
      have hee : a + l1 = a + l1 := rfl
      have hQ1 : txB (Q ++ txL 124 0 B) (n + l1) := hQ.ap (hsg.tx (Or.inl rfl)) (Nat.le_refl _)
      have hQ2 : txB (Q ++ txL 124 0 B ++ [44]) (n + l1 + 1) := hQ1.ap (txB.one (by decide)) (Nat.le_refl _)
      have hT2 : Q ++ txL 124 0 B ++ [44] ++ txL 44 0 L' ++ [41] = T := by
        rw [← hT, txL_c h5.ne, show txA 0 (mkS 3 B) = txA 0 (mkAny B) from rfl, txA_0, any_t hsg.ne]
        simp
      refine g_iload6 dX3_writesPart_150 ?_
      refine g_iload3 dX3_writesPart_152 ?_
      refine g_iconst (nI 1) dX3_writesPart_153 (by decide) ?_
      first | refine g_isubN dX3_writesPart_154 (by omega) ?_ | refine g_isub dX3_writesPart_154 ?_
      first | refine g_icmpN_ge (tgt := 209) dX3_writesPart_155 (by decide) (by omega) (by omega) (fun c_155 => ?_) (fun c_155 => ?_) | refine g_icmp_ge (tgt := 209) dX3_writesPart_155 (by decide) (fun c_155 => ?_) (fun c_155 => ?_)
      · omega
      · first | refine g_aload0 dX3_writesPart_158 ?_ | refine g_aloadQ0 dX3_writesPart_158 ?_ | refine g_aloadN0 dX3_writesPart_158 ?_
        refine g_iload1 dX3_writesPart_159 ?_
        refine g_iload6 dX3_writesPart_160 ?_
        refine g_iload3 dX3_writesPart_162 ?_
        refine g_iconst (nI 1) dX3_writesPart_163 (by decide) ?_
        first | refine g_isubN dX3_writesPart_164 (by omega) ?_ | refine g_isub dX3_writesPart_164 ?_
        refine g_bipush (nI 44) dX3_writesPart_165 (by decide) ?_
        refine g_V4n0 (ctX3_nextP hA M _ n _ _ _ _ _ hB hQ (by omega) (by omega) hle1 (by omega) (by omega) hbl) kX3_next q2319 tw_0 rfl rfl ⟨by show 1 + 1 ≤ (N + 1) + 5; omega, by show 8 + (8 + 11) + (22) ≤ 60 * (N + 1) + 200; omega⟩ ⟨rfl, rfl⟩ ⟨Nat.zero_le _, Nat.zero_le _⟩ (Nat.le_of_ble_eq_true rfl) dX3_writesPart_167 (fun r_167 h_167 p_167 => ?_)
        obtain ⟨hi_167, rfl⟩ := p_167
        rw [hnx] at hi_167
        subst hi_167
        refine g_istore7 dX3_writesPart_170 (show ¬ 7 = 255 + 1 by decide) ?_
        first | refine g_aload0 dX3_writesPart_172 ?_ | refine g_aloadQ0 dX3_writesPart_172 ?_ | refine g_aloadN0 dX3_writesPart_172 ?_
        refine g_iload1 dX3_writesPart_173 ?_
        refine g_iload6 dX3_writesPart_174 ?_
        refine g_iload7 dX3_writesPart_176 ?_
        refine g_S4v0 (ih _ _ _ _ k n _ hee (by omega) (by omega) hsg hQ (by omega)) (kX3_writesPolicy _) q2465 ⟨by show N + 5 + 1 ≤ (N + 1) + 5; omega, by show 8 + (6 + 11) + (60 * N + 200) ≤ 60 * (N + 1) + 200; omega⟩ ⟨rfl, rfl⟩ ⟨Nat.zero_le _, Nat.zero_le _⟩ (Nat.le_of_ble_eq_true rfl) dX3_writesPart_178 (fun h_178 p_178 => ?_)
        subst p_178
        first | refine g_aload0 dX3_writesPart_181 ?_ | refine g_aloadQ0 dX3_writesPart_181 ?_ | refine g_aloadN0 dX3_writesPart_181 ?_
        refine g_iload7 dX3_writesPart_182 ?_
        refine g_iload3 dX3_writesPart_184 ?_
        refine g_iconst (nI 1) dX3_writesPart_185 (by decide) ?_
        first | refine g_isubN dX3_writesPart_186 (by omega) ?_ | refine g_isub dX3_writesPart_186 ?_
        first | refine g_icmpN_ge (tgt := 195) dX3_writesPart_187 (by decide) (by omega) (by omega) (fun c_187 => ?_) (fun c_187 => ?_) | refine g_icmp_ge (tgt := 195) dX3_writesPart_187 (by decide) (fun c_187 => ?_) (fun c_187 => ?_)
        · omega
        · refine g_bipush (nI 44) dX3_writesPart_190 (by decide) ?_
          refine g_goto (tgt := 197) dX3_writesPart_192 (by decide) ?_
          refine g_V1v0 (ctX3_writes hA M _ _ (by have := hQ1.1; omega) (by omega)) kX3_writes q2401 tw_0 rfl rfl ⟨by show 0 + 1 ≤ (N + 1) + 5; omega, by show 8 + (2 + 11) + (0) ≤ 60 * (N + 1) + 200; omega⟩ ⟨rfl, rfl⟩ ⟨Nat.zero_le _, Nat.zero_le _⟩ (Nat.le_of_ble_eq_true rfl) dX3_writesPart_197 (fun h_197 p_197 => ?_)
          subst p_197
          refine g_iload7 dX3_writesPart_200 ?_
          refine g_iconst (nI 1) dX3_writesPart_202 (by decide) ?_
          first | refine g_iaddN dX3_writesPart_203 ?_ | refine g_iadd dX3_writesPart_203 ?_
          refine g_istore6 dX3_writesPart_204 (show ¬ 6 = 255 + 1 by decide) ?_
          refine g_goto (tgt := 150) dX3_writesPart_206 (by decide) ?_
          exact ihk _ l2 (n + l1 + 1) L' _ _ (by omega) (by omega) hT2 h5 hQ2 (by omega)
set_option maxHeartbeats 400000 in
theorem step_X3_writesPart {E : GE} {A : Nat → Nat} (hA : twA A) (M : TW) (s : Nat) (hB : twB M) (hs : s < 4) {h : AH} (N : Nat) (ihA : ∀ (f u l en : Nat) (L : List Att) (k n : Nat) (Q : List Nat), u = f + l → 3 * l + 1 ≤ N → u ≤ 40 → en < 2 → Seg (pT (M 1) s) k 1 f l L → txB Q n → n + l ≤ 100 → Ct E cX3_writesAll (mX3_writesAll N) [.ref (A 0), .int (nI s), .int (nI f), .int (nI u), .int (nI en)] (twO E A (tPp M Q) h) (pV fun h' => h' = twO E A (tPp M (Q ++ txA en (mkAll L))) h) noX) (ih : ∀ (f u l : Nat) (L : List Att) (k n : Nat) (Q : List Nat), u = f + l → 3 * l + 2 ≤ N → u ≤ 40 → Seg (pT (M 1) s) k 0 f l L → txB Q n → n + l ≤ 100 → Ct E cX3_writesPolicy (mX3_writesPolicy N) [.ref (A 0), .int (nI s), .int (nI f), .int (nI u)] (twO E A (tPp M Q) h) (pV fun h' => h' = twO E A (tPp M (Q ++ txL 124 0 L)) h) noX) : ∀ (f u l en : Nat) (L : List Att) (k n : Nat) (Q : List Nat), u = f + l → 3 * l ≤ (N + 1) → u ≤ 40 → en < 2 → Seg (pT (M 1) s) k 2 f l L → txB Q n → n + l ≤ 100 → Ct E cX3_writesPart (mX3_writesPart (N + 1)) [.ref (A 0), .int (nI s), .int (nI f), .int (nI u), .int (nI en)] (twO E A (tPp M Q) h) (pV fun h' => h' = twO E A (tPp M (Q ++ txA en (L.headD (attOne 0)))) h) noX := by
  intro f u l en L k n Q he hN hu hen hS hQ hn
  refine g_enter (own := "SecretVaultModel") [some (.ref (A 0)), some (.int (nI s)), some (.int (nI f)), some (.int (nI u)), some (.int (nI en)), none, none, none] (show plainName yX3_writesPart.cls = true by decide +kernel) rfl rfl (Nat.le_of_ble_eq_true rfl) rfl rfl (fun X => ?_)
  have hpos := hS.pos
  cases k with
  | zero => exact hS.elim
  | succ k =>
  rcases hS with ⟨-, hS⟩ | ⟨q, -⟩
  rotate_left
  · exact absurd rfl q
  rcases hS with ⟨rfl, h3, h4, rfl⟩ | ⟨l1, B, rfl, h3, h4, h5, rfl⟩ | ⟨l1, B, rfl, h3, h4, h5, h6, h7, h8, h9, rfl⟩
  · have hT : Q ++ [pT (M 1) s f] = Q ++ txA en (([attOne (pT (M 1) s f - 48)] : List Att).headD (attOne 0)) := by
      show _ = Q ++ txA en (attOne (pT (M 1) s f - 48))
      rw [txA_n (by show ¬ 0 = 1; decide)]
      show _ = Q ++ [48 + (pT (M 1) s f - 48)]
      rw [show 48 + (pT (M 1) s f - 48) = pT (M 1) s f by omega]
    have hQ1 := hQ
    first | refine g_aload0 dX3_writesPart_0 ?_ | refine g_aloadQ0 dX3_writesPart_0 ?_ | refine g_aloadN0 dX3_writesPart_0 ?_
    refine g_iload1 dX3_writesPart_1 ?_
    refine g_bipush (nI 12) dX3_writesPart_2 (by decide) ?_
    refine g_iload2 dX3_writesPart_4 ?_
    first | refine g_iaddN dX3_writesPart_5 ?_ | refine g_iadd dX3_writesPart_5 ?_
    refine g_V2n0 (ctX3_ofP hA M _ _ _ (by omega) (by omega)) kX3_of q2220 tw_0 rfl rfl ⟨by show 0 + 1 ≤ (N + 1) + 5; omega, by show 8 + (3 + 11) + (0) ≤ 60 * (N + 1) + 200; omega⟩ ⟨rfl, rfl⟩ ⟨Nat.zero_le _, Nat.zero_le _⟩ (Nat.le_of_ble_eq_true rfl) dX3_writesPart_6 (fun r_6 h_6 p_6 => ?_)
    obtain ⟨rfl, rfl⟩ := p_6
    refine g_istore5 dX3_writesPart_9 (show ¬ 5 = 255 + 1 by decide) ?_
    refine g_iload5 dX3_writesPart_11 ?_
    refine g_bipush (nI 40) dX3_writesPart_13 (by decide) ?_
    first | refine g_icmpN_ne (tgt := 111) dX3_writesPart_15 (by decide) (by omega) (by omega) (fun c_15 => ?_) (fun c_15 => ?_) | refine g_icmpU_ne (tgt := 111) dX3_writesPart_15 (by decide) (by omega) (by omega) (fun c_15 => ?_) (fun c_15 => ?_) | refine g_icmp_ne (tgt := 111) dX3_writesPart_15 (by decide) (fun c_15 => ?_) (fun c_15 => ?_)
    · first | refine g_aload0 dX3_writesPart_111 ?_ | refine g_aloadQ0 dX3_writesPart_111 ?_ | refine g_aloadN0 dX3_writesPart_111 ?_
      refine g_iload1 dX3_writesPart_112 ?_
      refine g_iload2 dX3_writesPart_113 ?_
      refine g_iload3 dX3_writesPart_114 ?_
      refine g_V3n0 (ctX3_isCountP hA M _ n _ _ _ hB hQ (by omega) (by omega) (by omega) (by omega)) kX3_isCount q2323 tw_0 rfl rfl ⟨by show 1 + 1 ≤ (N + 1) + 5; omega, by show 8 + (4 + 11) + (22) ≤ 60 * (N + 1) + 200; omega⟩ ⟨rfl, rfl⟩ ⟨Nat.zero_le _, Nat.zero_le _⟩ (Nat.le_of_ble_eq_true rfl) dX3_writesPart_115 (fun r_115 h_115 p_115 => ?_)
      obtain ⟨hr_115, hi_115, rfl⟩ := p_115
      first | refine g_ifN_eq (tgt := 212) dX3_writesPart_118 (by decide) (by omega) (fun c_118 => ?_) (fun c_118 => ?_) | refine g_if_eq (tgt := 212) dX3_writesPart_118 (by decide) (fun c_118 => ?_) (fun c_118 => ?_)
      · first | refine g_aload0 dX3_writesPart_212 ?_ | refine g_aloadQ0 dX3_writesPart_212 ?_ | refine g_aloadN0 dX3_writesPart_212 ?_
        refine g_iload5 dX3_writesPart_213 ?_
        refine g_V1v0 (ctX3_writes hA M _ _ (by have := hQ1.1; omega) (by omega)) kX3_writes q2401 tw_0 rfl rfl ⟨by show 0 + 1 ≤ (N + 1) + 5; omega, by show 8 + (2 + 11) + (0) ≤ 60 * (N + 1) + 200; omega⟩ ⟨rfl, rfl⟩ ⟨Nat.zero_le _, Nat.zero_le _⟩ (Nat.le_of_ble_eq_true rfl) dX3_writesPart_215 (fun h_215 p_215 => ?_)
        subst p_215
        exact g_vret (hk := Nat.zero_le _) (hn := Nat.zero_le _) dX3_writesPart_218 rfl ⟨rfl, congrArg (fun x => twO E A (tPp M x) h) hT⟩
      · omega
    · omega
  · have hpos1 := h4.pos
    have hbl := h4.bal
    have hle1 : u - 1 = f + 1 + l1 := by omega
    have hhd : ([mkAny B] : List Att).headD (attOne 0) = mkAny B := rfl
    rw [hhd]
    cases k with
    | zero => exact h4.elim
    | succ k =>
    have h40 := h4
    rcases h4 with ⟨q, -⟩ | ⟨-, h4⟩
    · exact absurd q (by decide)
    rcases h4 with ⟨B1, rfl, hsg⟩ | ⟨la, lb, B1, L', rfl, rfl, hsg, ht, h6⟩
    · replace hsg : Seg (pT (M 1) s) k 1 (f + 1) l1 B1 := hsg
      have hnx : nxF (pT (M 1) s) 124 l1 (f + 1) 0 = f + 1 + l1 := hsg.next0 (Or.inr (Or.inr rfl)) (Or.inr (Or.inl ⟨rfl, by decide⟩))
      first | refine g_aload0 dX3_writesPart_0 ?_ | refine g_aloadQ0 dX3_writesPart_0 ?_ | refine g_aloadN0 dX3_writesPart_0 ?_
      refine g_iload1 dX3_writesPart_1 ?_
      refine g_bipush (nI 12) dX3_writesPart_2 (by decide) ?_
      refine g_iload2 dX3_writesPart_4 ?_
      first | refine g_iaddN dX3_writesPart_5 ?_ | refine g_iadd dX3_writesPart_5 ?_
      refine g_V2n0 (ctX3_ofP hA M _ _ _ (by omega) (by omega)) kX3_of q2220 tw_0 rfl rfl ⟨by show 0 + 1 ≤ (N + 1) + 5; omega, by show 8 + (3 + 11) + (0) ≤ 60 * (N + 1) + 200; omega⟩ ⟨rfl, rfl⟩ ⟨Nat.zero_le _, Nat.zero_le _⟩ (Nat.le_of_ble_eq_true rfl) dX3_writesPart_6 (fun r_6 h_6 p_6 => ?_)
      obtain ⟨rfl, rfl⟩ := p_6
      refine g_istore5 dX3_writesPart_9 (show ¬ 5 = 255 + 1 by decide) ?_
      refine g_iload5 dX3_writesPart_11 ?_
      refine g_bipush (nI 40) dX3_writesPart_13 (by decide) ?_
      first | refine g_icmpN_ne (tgt := 111) dX3_writesPart_15 (by decide) (by omega) (by omega) (fun c_15 => ?_) (fun c_15 => ?_) | refine g_icmpU_ne (tgt := 111) dX3_writesPart_15 (by decide) (by omega) (by omega) (fun c_15 => ?_) (fun c_15 => ?_) | refine g_icmp_ne (tgt := 111) dX3_writesPart_15 (by decide) (fun c_15 => ?_) (fun c_15 => ?_)
      · omega
      · first | refine g_aload0 dX3_writesPart_18 ?_ | refine g_aloadQ0 dX3_writesPart_18 ?_ | refine g_aloadN0 dX3_writesPart_18 ?_
        refine g_iload1 dX3_writesPart_19 ?_
        refine g_iload2 dX3_writesPart_20 ?_
        refine g_iconst (nI 1) dX3_writesPart_21 (by decide) ?_
        first | refine g_iaddN dX3_writesPart_22 ?_ | refine g_iadd dX3_writesPart_22 ?_
        refine g_iload3 dX3_writesPart_23 ?_
        refine g_iconst (nI 1) dX3_writesPart_24 (by decide) ?_
        first | refine g_isubN dX3_writesPart_25 (by omega) ?_ | refine g_isub dX3_writesPart_25 ?_
        refine g_bipush (nI 124) dX3_writesPart_26 (by decide) ?_
        refine g_V4n0 (ctX3_nextP hA M _ n _ _ _ _ _ hB hQ (by omega) (by omega) hle1 (by omega) (by omega) hbl) kX3_next q2319 tw_0 rfl rfl ⟨by show 1 + 1 ≤ (N + 1) + 5; omega, by show 8 + (8 + 11) + (22) ≤ 60 * (N + 1) + 200; omega⟩ ⟨rfl, rfl⟩ ⟨Nat.zero_le _, Nat.zero_le _⟩ (Nat.le_of_ble_eq_true rfl) dX3_writesPart_28 (fun r_28 h_28 p_28 => ?_)
        obtain ⟨hi_28, rfl⟩ := p_28
        rw [hnx] at hi_28
        subst hi_28
        refine g_iload3 dX3_writesPart_31 ?_
        refine g_iconst (nI 1) dX3_writesPart_32 (by decide) ?_
        first | refine g_isubN dX3_writesPart_33 (by omega) ?_ | refine g_isub dX3_writesPart_33 ?_
        first | refine g_icmpN_ge (tgt := 41) dX3_writesPart_34 (by decide) (by omega) (by omega) (fun c_34 => ?_) (fun c_34 => ?_) | refine g_icmp_ge (tgt := 41) dX3_writesPart_34 (by decide) (fun c_34 => ?_) (fun c_34 => ?_)
        · refine g_iconst (nI 0) dX3_writesPart_41 (by decide) ?_
          refine g_istore6 dX3_writesPart_42 (show ¬ 6 = 255 + 1 by decide) ?_
          refine g_iload6 dX3_writesPart_44 ?_
          first | refine g_ifN_eq (tgt := 60) dX3_writesPart_46 (by decide) (by omega) (fun c_46 => ?_) (fun c_46 => ?_) | refine g_if_eq (tgt := 60) dX3_writesPart_46 (by decide) (fun c_46 => ?_) (fun c_46 => ?_)
          · refine g_iload6 dX3_writesPart_60 ?_
            first | refine g_ifN_eq (tgt := 79) dX3_writesPart_62 (by decide) (by omega) (fun c_62 => ?_) (fun c_62 => ?_) | refine g_if_eq (tgt := 79) dX3_writesPart_62 (by decide) (fun c_62 => ?_) (fun c_62 => ?_)
            · first | refine g_aload0 dX3_writesPart_79 ?_ | refine g_aloadQ0 dX3_writesPart_79 ?_ | refine g_aloadN0 dX3_writesPart_79 ?_
              refine g_iload1 dX3_writesPart_80 ?_
              refine g_iload2 dX3_writesPart_81 ?_
              refine g_iconst (nI 1) dX3_writesPart_82 (by decide) ?_
              first | refine g_iaddN dX3_writesPart_83 ?_ | refine g_iadd dX3_writesPart_83 ?_
              refine g_iload3 dX3_writesPart_84 ?_
              refine g_iconst (nI 1) dX3_writesPart_85 (by decide) ?_
              first | refine g_isubN dX3_writesPart_86 (by omega) ?_ | refine g_isub dX3_writesPart_86 ?_
              refine g_iload4 dX3_writesPart_87 ?_
              refine g_S5v0 (ihA _ _ l1 en B1 k n _ hle1 (by omega) (by omega) (by omega) hsg hQ (by omega)) (kX3_writesAll _) q2468 ⟨by show N + 5 + 1 ≤ (N + 1) + 5; omega, by show 8 + (9 + 11) + (60 * N + 200) ≤ 60 * (N + 1) + 200; omega⟩ ⟨rfl, rfl⟩ ⟨Nat.zero_le _, Nat.zero_le _⟩ (Nat.le_of_ble_eq_true rfl) dX3_writesPart_89 (fun h_89 p_89 => ?_)
              subst p_89
              refine g_iload6 dX3_writesPart_92 ?_
              first | refine g_ifN_eq (tgt := 108) dX3_writesPart_94 (by decide) (by omega) (fun c_94 => ?_) (fun c_94 => ?_) | refine g_if_eq (tgt := 108) dX3_writesPart_94 (by decide) (fun c_94 => ?_) (fun c_94 => ?_)
              · refine g_goto (tgt := 218) dX3_writesPart_108 (by decide) ?_
                exact g_vret (hk := Nat.zero_le _) (hn := Nat.zero_le _) dX3_writesPart_218 rfl ⟨rfl, rfl⟩
              · omega
            · omega
          · omega
        · omega
    · replace hsg : Seg (pT (M 1) s) k 1 (f + 1) la B1 := hsg
      have hpos2 := h6.pos
      have hnx : nxF (pT (M 1) s) 124 (la + 1 + lb) (f + 1) 0 = f + 1 + la := hsg.next1 (Or.inr (Or.inr rfl)) (Or.inr (Or.inl ⟨rfl, by decide⟩)) ht
      have hx := h40.tx (Or.inl rfl)
      have hL2 := h6.ne
      match L', hL2, hx, h40 with
      | C :: L2, _, hx, h40 =>
      have e1 : aT (mkAny (mkS 0 B1 :: C :: L2)) = txL 124 0 (mkS 0 B1 :: C :: L2) := rfl
      have hx1 : en = 1 → txA en (mkAny (mkS 0 B1 :: C :: L2)) = [40] ++ txL 124 0 (mkS 0 B1 :: C :: L2) ++ [41] := fun z => txA_y z rfl
      have hx0 : ¬ en = 1 → txA en (mkAny (mkS 0 B1 :: C :: L2)) = txL 124 0 (mkS 0 B1 :: C :: L2) := fun z => txA_z z
      have hQ1 := hQ
      have hQb : txB (Q ++ [40]) (n + 1) := hQ.ap (txB.one (by decide)) (Nat.le_refl _)
      have hQc : txB (Q ++ [40] ++ txL 124 0 (mkS 0 B1 :: C :: L2)) (n + 1 + (la + 1 + lb)) := hQb.ap hx (Nat.le_refl _)
      first | refine g_aload0 dX3_writesPart_0 ?_ | refine g_aloadQ0 dX3_writesPart_0 ?_ | refine g_aloadN0 dX3_writesPart_0 ?_
      refine g_iload1 dX3_writesPart_1 ?_
      refine g_bipush (nI 12) dX3_writesPart_2 (by decide) ?_
      refine g_iload2 dX3_writesPart_4 ?_
      first | refine g_iaddN dX3_writesPart_5 ?_ | refine g_iadd dX3_writesPart_5 ?_
      refine g_V2n0 (ctX3_ofP hA M _ _ _ (by omega) (by omega)) kX3_of q2220 tw_0 rfl rfl ⟨by show 0 + 1 ≤ (N + 1) + 5; omega, by show 8 + (3 + 11) + (0) ≤ 60 * (N + 1) + 200; omega⟩ ⟨rfl, rfl⟩ ⟨Nat.zero_le _, Nat.zero_le _⟩ (Nat.le_of_ble_eq_true rfl) dX3_writesPart_6 (fun r_6 h_6 p_6 => ?_)
      obtain ⟨rfl, rfl⟩ := p_6
      refine g_istore5 dX3_writesPart_9 (show ¬ 5 = 255 + 1 by decide) ?_
      refine g_iload5 dX3_writesPart_11 ?_
      refine g_bipush (nI 40) dX3_writesPart_13 (by decide) ?_
      first | refine g_icmpN_ne (tgt := 111) dX3_writesPart_15 (by decide) (by omega) (by omega) (fun c_15 => ?_) (fun c_15 => ?_) | refine g_icmpU_ne (tgt := 111) dX3_writesPart_15 (by decide) (by omega) (by omega) (fun c_15 => ?_) (fun c_15 => ?_) | refine g_icmp_ne (tgt := 111) dX3_writesPart_15 (by decide) (fun c_15 => ?_) (fun c_15 => ?_)
      · omega
      · first | refine g_aload0 dX3_writesPart_18 ?_ | refine g_aloadQ0 dX3_writesPart_18 ?_ | refine g_aloadN0 dX3_writesPart_18 ?_
        refine g_iload1 dX3_writesPart_19 ?_
        refine g_iload2 dX3_writesPart_20 ?_
        refine g_iconst (nI 1) dX3_writesPart_21 (by decide) ?_
        first | refine g_iaddN dX3_writesPart_22 ?_ | refine g_iadd dX3_writesPart_22 ?_
        refine g_iload3 dX3_writesPart_23 ?_
        refine g_iconst (nI 1) dX3_writesPart_24 (by decide) ?_
        first | refine g_isubN dX3_writesPart_25 (by omega) ?_ | refine g_isub dX3_writesPart_25 ?_
        refine g_bipush (nI 124) dX3_writesPart_26 (by decide) ?_
        refine g_V4n0 (ctX3_nextP hA M _ n _ _ _ _ _ hB hQ (by omega) (by omega) hle1 (by omega) (by omega) hbl) kX3_next q2319 tw_0 rfl rfl ⟨by show 1 + 1 ≤ (N + 1) + 5; omega, by show 8 + (8 + 11) + (22) ≤ 60 * (N + 1) + 200; omega⟩ ⟨rfl, rfl⟩ ⟨Nat.zero_le _, Nat.zero_le _⟩ (Nat.le_of_ble_eq_true rfl) dX3_writesPart_28 (fun r_28 h_28 p_28 => ?_)
        obtain ⟨hi_28, rfl⟩ := p_28
        rw [hnx] at hi_28
        subst hi_28
        refine g_iload3 dX3_writesPart_31 ?_
        refine g_iconst (nI 1) dX3_writesPart_32 (by decide) ?_
        first | refine g_isubN dX3_writesPart_33 (by omega) ?_ | refine g_isub dX3_writesPart_33 ?_
        first | refine g_icmpN_ge (tgt := 41) dX3_writesPart_34 (by decide) (by omega) (by omega) (fun c_34 => ?_) (fun c_34 => ?_) | refine g_icmp_ge (tgt := 41) dX3_writesPart_34 (by decide) (fun c_34 => ?_) (fun c_34 => ?_)
        · omega
        · refine g_iconst (nI 1) dX3_writesPart_37 (by decide) ?_
          refine g_goto (tgt := 42) dX3_writesPart_38 (by decide) ?_
          refine g_istore6 dX3_writesPart_42 (show ¬ 6 = 255 + 1 by decide) ?_
          refine g_iload6 dX3_writesPart_44 ?_
          first | refine g_ifN_eq (tgt := 60) dX3_writesPart_46 (by decide) (by omega) (fun c_46 => ?_) (fun c_46 => ?_) | refine g_if_eq (tgt := 60) dX3_writesPart_46 (by decide) (fun c_46 => ?_) (fun c_46 => ?_)
          · omega
          · refine g_iload4 dX3_writesPart_49 ?_
            first | refine g_ifN_eq (tgt := 60) dX3_writesPart_51 (by decide) (by omega) (fun c_51 => ?_) (fun c_51 => ?_) | refine g_if_eq (tgt := 60) dX3_writesPart_51 (by decide) (fun c_51 => ?_) (fun c_51 => ?_)
            · refine g_iload6 dX3_writesPart_60 ?_
              first | refine g_ifN_eq (tgt := 79) dX3_writesPart_62 (by decide) (by omega) (fun c_62 => ?_) (fun c_62 => ?_) | refine g_if_eq (tgt := 79) dX3_writesPart_62 (by decide) (fun c_62 => ?_) (fun c_62 => ?_)
              · omega
              · first | refine g_aload0 dX3_writesPart_65 ?_ | refine g_aloadQ0 dX3_writesPart_65 ?_ | refine g_aloadN0 dX3_writesPart_65 ?_
                refine g_iload1 dX3_writesPart_66 ?_
                refine g_iload2 dX3_writesPart_67 ?_
                refine g_iconst (nI 1) dX3_writesPart_68 (by decide) ?_
                first | refine g_iaddN dX3_writesPart_69 ?_ | refine g_iadd dX3_writesPart_69 ?_
                refine g_iload3 dX3_writesPart_70 ?_
                refine g_iconst (nI 1) dX3_writesPart_71 (by decide) ?_
                first | refine g_isubN dX3_writesPart_72 (by omega) ?_ | refine g_isub dX3_writesPart_72 ?_
                refine g_S4v0 (ih _ _ (la + 1 + lb) _ (k + 1) n _ hle1 (by omega) (by omega) h40 hQ (by omega)) (kX3_writesPolicy _) q2465 ⟨by show N + 5 + 1 ≤ (N + 1) + 5; omega, by show 8 + (6 + 11) + (60 * N + 200) ≤ 60 * (N + 1) + 200; omega⟩ ⟨rfl, rfl⟩ ⟨Nat.zero_le _, Nat.zero_le _⟩ (Nat.le_of_ble_eq_true rfl) dX3_writesPart_73 (fun h_73 p_73 => ?_)
                subst p_73
                refine g_goto (tgt := 92) dX3_writesPart_76 (by decide) ?_
                refine g_iload6 dX3_writesPart_92 ?_
                first | refine g_ifN_eq (tgt := 108) dX3_writesPart_94 (by decide) (by omega) (fun c_94 => ?_) (fun c_94 => ?_) | refine g_if_eq (tgt := 108) dX3_writesPart_94 (by decide) (fun c_94 => ?_) (fun c_94 => ?_)
                · omega
                · refine g_iload4 dX3_writesPart_97 ?_
                  first | refine g_ifN_eq (tgt := 108) dX3_writesPart_99 (by decide) (by omega) (fun c_99 => ?_) (fun c_99 => ?_) | refine g_if_eq (tgt := 108) dX3_writesPart_99 (by decide) (fun c_99 => ?_) (fun c_99 => ?_)
                  · refine g_goto (tgt := 218) dX3_writesPart_108 (by decide) ?_
                    exact g_vret (hk := Nat.zero_le _) (hn := Nat.zero_le _) dX3_writesPart_218 rfl ⟨rfl, by first | (rw [hx1 (by omega)]; exact congrArg (fun x => twO E A (tPp M x) h) (by simp)) | (rw [hx0 (by omega)])⟩
                  · omega
            · first | refine g_aload0 dX3_writesPart_54 ?_ | refine g_aloadQ0 dX3_writesPart_54 ?_ | refine g_aloadN0 dX3_writesPart_54 ?_
              refine g_bipush (nI 40) dX3_writesPart_55 (by decide) ?_
              refine g_V1v0 (ctX3_writes hA M _ _ (by have := hQ1.1; omega) (by omega)) kX3_writes q2401 tw_0 rfl rfl ⟨by show 0 + 1 ≤ (N + 1) + 5; omega, by show 8 + (2 + 11) + (0) ≤ 60 * (N + 1) + 200; omega⟩ ⟨rfl, rfl⟩ ⟨Nat.zero_le _, Nat.zero_le _⟩ (Nat.le_of_ble_eq_true rfl) dX3_writesPart_57 (fun h_57 p_57 => ?_)
              subst p_57
              refine g_iload6 dX3_writesPart_60 ?_
              first | refine g_ifN_eq (tgt := 79) dX3_writesPart_62 (by decide) (by omega) (fun c_62 => ?_) (fun c_62 => ?_) | refine g_if_eq (tgt := 79) dX3_writesPart_62 (by decide) (fun c_62 => ?_) (fun c_62 => ?_)
              · omega
              · first | refine g_aload0 dX3_writesPart_65 ?_ | refine g_aloadQ0 dX3_writesPart_65 ?_ | refine g_aloadN0 dX3_writesPart_65 ?_
                refine g_iload1 dX3_writesPart_66 ?_
                refine g_iload2 dX3_writesPart_67 ?_
                refine g_iconst (nI 1) dX3_writesPart_68 (by decide) ?_
                first | refine g_iaddN dX3_writesPart_69 ?_ | refine g_iadd dX3_writesPart_69 ?_
                refine g_iload3 dX3_writesPart_70 ?_
                refine g_iconst (nI 1) dX3_writesPart_71 (by decide) ?_
                first | refine g_isubN dX3_writesPart_72 (by omega) ?_ | refine g_isub dX3_writesPart_72 ?_
                refine g_S4v0 (ih _ _ (la + 1 + lb) _ (k + 1) (n + 1) _ hle1 (by omega) (by omega) h40 hQb (by omega)) (kX3_writesPolicy _) q2465 ⟨by show N + 5 + 1 ≤ (N + 1) + 5; omega, by show 8 + (6 + 11) + (60 * N + 200) ≤ 60 * (N + 1) + 200; omega⟩ ⟨rfl, rfl⟩ ⟨Nat.zero_le _, Nat.zero_le _⟩ (Nat.le_of_ble_eq_true rfl) dX3_writesPart_73 (fun h_73 p_73 => ?_)
                subst p_73
                refine g_goto (tgt := 92) dX3_writesPart_76 (by decide) ?_
                refine g_iload6 dX3_writesPart_92 ?_
                first | refine g_ifN_eq (tgt := 108) dX3_writesPart_94 (by decide) (by omega) (fun c_94 => ?_) (fun c_94 => ?_) | refine g_if_eq (tgt := 108) dX3_writesPart_94 (by decide) (fun c_94 => ?_) (fun c_94 => ?_)
                · omega
                · refine g_iload4 dX3_writesPart_97 ?_
                  first | refine g_ifN_eq (tgt := 108) dX3_writesPart_99 (by decide) (by omega) (fun c_99 => ?_) (fun c_99 => ?_) | refine g_if_eq (tgt := 108) dX3_writesPart_99 (by decide) (fun c_99 => ?_) (fun c_99 => ?_)
                  · omega
                  · first | refine g_aload0 dX3_writesPart_102 ?_ | refine g_aloadQ0 dX3_writesPart_102 ?_ | refine g_aloadN0 dX3_writesPart_102 ?_
                    refine g_bipush (nI 41) dX3_writesPart_103 (by decide) ?_
                    refine g_V1v0 (ctX3_writes hA M _ _ (by have := hQc.1; omega) (by omega)) kX3_writes q2401 tw_0 rfl rfl ⟨by show 0 + 1 ≤ (N + 1) + 5; omega, by show 8 + (2 + 11) + (0) ≤ 60 * (N + 1) + 200; omega⟩ ⟨rfl, rfl⟩ ⟨Nat.zero_le _, Nat.zero_le _⟩ (Nat.le_of_ble_eq_true rfl) dX3_writesPart_105 (fun h_105 p_105 => ?_)
                    subst p_105
                    refine g_goto (tgt := 218) dX3_writesPart_108 (by decide) ?_
                    exact g_vret (hk := Nat.zero_le _) (hn := Nat.zero_le _) dX3_writesPart_218 rfl ⟨rfl, by first | (rw [hx1 (by omega)]; exact congrArg (fun x => twO E A (tPp M x) h) (by simp)) | (rw [hx0 (by omega)])⟩
  · have hpos1 := h8.pos
    have hQ1 := hQ
    have hQa : txB (Q ++ [pT (M 1) s f]) (n + 1) := hQ.ap (txB.one (by omega)) (Nat.le_refl _)
    have hQb : txB (Q ++ [pT (M 1) s f] ++ [111]) (n + 2) := hQa.ap (txB.one (by decide)) (Nat.le_refl _)
    have hQc : txB (Q ++ [pT (M 1) s f] ++ [111] ++ [102]) (n + 3) := hQb.ap (txB.one (by decide)) (Nat.le_refl _)
    have hQd : txB (Q ++ [pT (M 1) s f] ++ [111] ++ [102] ++ [40]) (n + 4) := hQc.ap (txB.one (by decide)) (Nat.le_refl _)
    have hT : Q ++ [pT (M 1) s f] ++ [111] ++ [102] ++ [40] ++ txL 44 0 B ++ [41] = Q ++ txA en (([attSome (pT (M 1) s f - 48) B] : List Att).headD (attOne 0)) := by
      show _ = Q ++ txA en (attSome (pT (M 1) s f - 48) B)
      rw [txA_n (by show ¬ 3 = 1; decide)]
      show _ = Q ++ ([48 + (pT (M 1) s f - 48), 111, 102, 40] ++ txL 44 0 B ++ [41])
      rw [show 48 + (pT (M 1) s f - 48) = pT (M 1) s f by omega]
      simp
    first | refine g_aload0 dX3_writesPart_0 ?_ | refine g_aloadQ0 dX3_writesPart_0 ?_ | refine g_aloadN0 dX3_writesPart_0 ?_
    refine g_iload1 dX3_writesPart_1 ?_
    refine g_bipush (nI 12) dX3_writesPart_2 (by decide) ?_
    refine g_iload2 dX3_writesPart_4 ?_
    first | refine g_iaddN dX3_writesPart_5 ?_ | refine g_iadd dX3_writesPart_5 ?_
    refine g_V2n0 (ctX3_ofP hA M _ _ _ (by omega) (by omega)) kX3_of q2220 tw_0 rfl rfl ⟨by show 0 + 1 ≤ (N + 1) + 5; omega, by show 8 + (3 + 11) + (0) ≤ 60 * (N + 1) + 200; omega⟩ ⟨rfl, rfl⟩ ⟨Nat.zero_le _, Nat.zero_le _⟩ (Nat.le_of_ble_eq_true rfl) dX3_writesPart_6 (fun r_6 h_6 p_6 => ?_)
    obtain ⟨rfl, rfl⟩ := p_6
    refine g_istore5 dX3_writesPart_9 (show ¬ 5 = 255 + 1 by decide) ?_
    refine g_iload5 dX3_writesPart_11 ?_
    refine g_bipush (nI 40) dX3_writesPart_13 (by decide) ?_
    first | refine g_icmpN_ne (tgt := 111) dX3_writesPart_15 (by decide) (by omega) (by omega) (fun c_15 => ?_) (fun c_15 => ?_) | refine g_icmpU_ne (tgt := 111) dX3_writesPart_15 (by decide) (by omega) (by omega) (fun c_15 => ?_) (fun c_15 => ?_) | refine g_icmp_ne (tgt := 111) dX3_writesPart_15 (by decide) (fun c_15 => ?_) (fun c_15 => ?_)
    · first | refine g_aload0 dX3_writesPart_111 ?_ | refine g_aloadQ0 dX3_writesPart_111 ?_ | refine g_aloadN0 dX3_writesPart_111 ?_
      refine g_iload1 dX3_writesPart_112 ?_
      refine g_iload2 dX3_writesPart_113 ?_
      refine g_iload3 dX3_writesPart_114 ?_
      refine g_V3n0 (ctX3_isCountP hA M _ n _ _ _ hB hQ (by omega) (by omega) (by omega) (by omega)) kX3_isCount q2323 tw_0 rfl rfl ⟨by show 1 + 1 ≤ (N + 1) + 5; omega, by show 8 + (4 + 11) + (22) ≤ 60 * (N + 1) + 200; omega⟩ ⟨rfl, rfl⟩ ⟨Nat.zero_le _, Nat.zero_le _⟩ (Nat.le_of_ble_eq_true rfl) dX3_writesPart_115 (fun r_115 h_115 p_115 => ?_)
      obtain ⟨hr_115, hi_115, rfl⟩ := p_115
      first | refine g_ifN_eq (tgt := 212) dX3_writesPart_118 (by decide) (by omega) (fun c_118 => ?_) (fun c_118 => ?_) | refine g_if_eq (tgt := 212) dX3_writesPart_118 (by decide) (fun c_118 => ?_) (fun c_118 => ?_)
      · omega
      · first | refine g_aload0 dX3_writesPart_121 ?_ | refine g_aloadQ0 dX3_writesPart_121 ?_ | refine g_aloadN0 dX3_writesPart_121 ?_
        refine g_iload5 dX3_writesPart_122 ?_
        refine g_V1v0 (ctX3_writes hA M _ _ (by have := hQ1.1; omega) (by omega)) kX3_writes q2401 tw_0 rfl rfl ⟨by show 0 + 1 ≤ (N + 1) + 5; omega, by show 8 + (2 + 11) + (0) ≤ 60 * (N + 1) + 200; omega⟩ ⟨rfl, rfl⟩ ⟨Nat.zero_le _, Nat.zero_le _⟩ (Nat.le_of_ble_eq_true rfl) dX3_writesPart_124 (fun h_124 p_124 => ?_)
        subst p_124
        first | refine g_aload0 dX3_writesPart_127 ?_ | refine g_aloadQ0 dX3_writesPart_127 ?_ | refine g_aloadN0 dX3_writesPart_127 ?_
        refine g_bipush (nI 111) dX3_writesPart_128 (by decide) ?_
        refine g_V1v0 (ctX3_writes hA M _ _ (by have := hQa.1; omega) (by omega)) kX3_writes q2401 tw_0 rfl rfl ⟨by show 0 + 1 ≤ (N + 1) + 5; omega, by show 8 + (2 + 11) + (0) ≤ 60 * (N + 1) + 200; omega⟩ ⟨rfl, rfl⟩ ⟨Nat.zero_le _, Nat.zero_le _⟩ (Nat.le_of_ble_eq_true rfl) dX3_writesPart_130 (fun h_130 p_130 => ?_)
        subst p_130
        first | refine g_aload0 dX3_writesPart_133 ?_ | refine g_aloadQ0 dX3_writesPart_133 ?_ | refine g_aloadN0 dX3_writesPart_133 ?_
        refine g_bipush (nI 102) dX3_writesPart_134 (by decide) ?_
        refine g_V1v0 (ctX3_writes hA M _ _ (by have := hQb.1; omega) (by omega)) kX3_writes q2401 tw_0 rfl rfl ⟨by show 0 + 1 ≤ (N + 1) + 5; omega, by show 8 + (2 + 11) + (0) ≤ 60 * (N + 1) + 200; omega⟩ ⟨rfl, rfl⟩ ⟨Nat.zero_le _, Nat.zero_le _⟩ (Nat.le_of_ble_eq_true rfl) dX3_writesPart_136 (fun h_136 p_136 => ?_)
        subst p_136
        first | refine g_aload0 dX3_writesPart_139 ?_ | refine g_aloadQ0 dX3_writesPart_139 ?_ | refine g_aloadN0 dX3_writesPart_139 ?_
        refine g_bipush (nI 40) dX3_writesPart_140 (by decide) ?_
        refine g_V1v0 (ctX3_writes hA M _ _ (by have := hQc.1; omega) (by omega)) kX3_writes q2401 tw_0 rfl rfl ⟨by show 0 + 1 ≤ (N + 1) + 5; omega, by show 8 + (2 + 11) + (0) ≤ 60 * (N + 1) + 200; omega⟩ ⟨rfl, rfl⟩ ⟨Nat.zero_le _, Nat.zero_le _⟩ (Nat.le_of_ble_eq_true rfl) dX3_writesPart_142 (fun h_142 p_142 => ?_)
        subst p_142
        refine g_iload2 dX3_writesPart_145 ?_
        refine g_iconst (nI 4) dX3_writesPart_146 (by decide) ?_
        first | refine g_iaddN dX3_writesPart_147 ?_ | refine g_iadd dX3_writesPart_147 ?_
        refine g_istore6 dX3_writesPart_148 (show ¬ 6 = 255 + 1 by decide) ?_
        rw [← hT]
        exact tail_X3_writesPart hA M s hB hs N f u en _ _ hu (by omega) ih k _ l1 (n + 4) B _ _ (by omega) (by omega) rfl h8 hQd (by omega)
    · omega
theorem ctX3_writesAny {E : GE} {A : Nat → Nat} (hA : twA A) (M : TW) (s : Nat) (hB : twB M) (hs : s < 4) {h : AH} : ∀ N : Nat, (∀ (f u l en : Nat) (L : List Att) (k n : Nat) (Q : List Nat), u = f + l → 3 * l ≤ N → u ≤ 40 → en < 2 → Seg (pT (M 1) s) k 2 f l L → txB Q n → n + l ≤ 100 → Ct E cX3_writesPart (mX3_writesPart N) [.ref (A 0), .int (nI s), .int (nI f), .int (nI u), .int (nI en)] (twO E A (tPp M Q) h) (pV fun h' => h' = twO E A (tPp M (Q ++ txA en (L.headD (attOne 0)))) h) noX) ∧ (∀ (f u l en : Nat) (L : List Att) (k n : Nat) (Q : List Nat), u = f + l → 3 * l + 1 ≤ N → u ≤ 40 → en < 2 → Seg (pT (M 1) s) k 1 f l L → txB Q n → n + l ≤ 100 → Ct E cX3_writesAll (mX3_writesAll N) [.ref (A 0), .int (nI s), .int (nI f), .int (nI u), .int (nI en)] (twO E A (tPp M Q) h) (pV fun h' => h' = twO E A (tPp M (Q ++ txA en (mkAll L))) h) noX) ∧ (∀ (f u l : Nat) (L : List Att) (k n : Nat) (Q : List Nat), u = f + l → 3 * l + 2 ≤ N → u ≤ 40 → Seg (pT (M 1) s) k 0 f l L → txB Q n → n + l ≤ 100 → Ct E cX3_writesPolicy (mX3_writesPolicy N) [.ref (A 0), .int (nI s), .int (nI f), .int (nI u)] (twO E A (tPp M Q) h) (pV fun h' => h' = twO E A (tPp M (Q ++ txL 124 0 L)) h) noX) := by
  intro N
  induction N with
  | zero => exact ⟨fun f u l en L k n Q h1 h2 h3 h4 h5 => absurd h5.pos (by omega), fun f u l en L k n Q h1 h2 h3 h4 h5 => absurd h5.pos (by omega), fun f u l L k n Q h1 h2 h3 h5 => absurd h5.pos (by omega)⟩
  | succ N ih => exact ⟨step_X3_writesPart hA M s hB hs N ih.2.1 ih.2.2, step_X3_writesAll hA M s hB hs N ih.1, step_X3_writesPolicy hA M s hB hs N ih.2.1⟩
def plX (g : Nat → Nat) (s : Nat) : List Nat := aT (plA g s)
theorem ctX3_writesIt {E : GE} {A : Nat → Nat} (hA : twA A) (M : TW) (s : Nat) (hB : twB M) (hs : s < 4) {h : AH} (n : Nat) (hP : plW (M 1) s) (hn : n = gOf (M 1) s 11) (h0 : 0 < n) : Ct E cX3_writesPolicy (mX3_writesPolicy 122) [.ref (A 0), .int (nI s), .int (nI 0), .int (nI n)] (twO E A (tPp M []) h) (pV fun h' => h' = twO E A (tPp M (plX (M 1) s)) h) noX := by
  subst hn
  have hS := hP.seg h0
  have h40 := hP.1
  have z := (ctX3_writesAny (E := E) hA M s hB hs (h := h) 122).2.2 0 _ _ _ 200 0 [] (Nat.zero_add _).symm (by omega) (by omega) hS ⟨Nat.le_refl _, fun x hx => nomatch hx⟩ (by omega)
  rw [List.nil_append, ← any_t hS.ne] at z
  exact z
theorem plX_len {g : Nat → Nat} {s : Nat} (hP : plW g s) (h0 : 0 < gOf g s 11) : (plX g s).length ≤ 40 := by
  have hS := hP.seg h0
  have hx := hS.tx (Or.inl rfl)
  have h40 := hP.1
  have e : plX g s = txs 0 (plR g s).2.2 := any_t hS.ne
  rw [e]
  exact Nat.le_trans hx.1 h40
abbrev mX3_policyText : GM := (yX3_policyText, 3, (some .int), [], { frames := 128, cells := 0, slots := 0, locals := 7545 }, 255)
theorem kX3_policyText : gCv cX3_policyText mX3_policyText 2 := ⟨q2462, q2463, q90, q2464, ⟨by decide +kernel, by decide +kernel, by decide +kernel⟩, rfl⟩
def xc_policyText (M : TW) (s i : Nat) : Nat := if ¬ s ≤ 3 ∨ (2147483648 ≤ i ∧ ¬ i = 4294967295) then 1 else if gOf (M 1) s 0 = 0 ∨ gOf (M 1) s 11 = 0 then 2 else if i = 4294967295 ∨ i < (plX (M 1) s).length then 0 else 2
def xv_policyText (M : TW) (s i : Nat) : Nat := if i = 4294967295 then (plX (M 1) s).length else (plX (M 1) s).getD i 0
def xm_policyText (M : TW) (s i : Nat) : TW := M
set_option maxHeartbeats 400000 in
theorem ctX3_policyText {E : GE} {h : AH} {A : Nat → Nat} (hA : twA A) (M : TW) (s i : Nat) (hW : tWF M) (hWp : ∀ s, s < 4 → plW (M 1) s) (hs : s < 4294967296) (hi : i < 4294967296) : Ct E cX3_policyText mX3_policyText [.ref (A 0), .int (nI s), .int (nI i)] (twO E A M h) (pN fun r h' => tEnd E A h (xc_policyText M s i ) (xv_policyText M s i ) (xm_policyText M s i ) r h') noX := by
  refine g_enter (own := "SecretVaultModel") [some (.ref (A 0)), some (.int (nI s)), some (.int (nI i))] (by decide +kernel) rfl rfl (Nat.le_of_ble_eq_true rfl) rfl rfl (fun X => ?_)
  have hB := hW.1
  refine g_iload1 dX3_policyText_0 ?_
  refine g_S1n0 (ctX3_isSlot _ (by omega)) kX3_isSlot q2235 (by decide) ⟨rfl, rfl⟩ ⟨Nat.zero_le _, Nat.zero_le _⟩ (Nat.le_of_ble_eq_true rfl) dX3_policyText_1 (fun r_1 h_1 p_1 => ?_)
  obtain ⟨hr_1, hi_1, rfl⟩ := p_1
  first | refine g_ifN_eq (tgt := 12) dX3_policyText_4 (by decide) (by first | omega | exact hB _ _ | (split <;> omega)) (fun c_4 => ?_) (fun c_4 => ?_) | refine g_if_eq (tgt := 12) dX3_policyText_4 (by decide) (fun c_4 => ?_) (fun c_4 => ?_)
  · first | refine g_aload0 dX3_policyText_12 ?_ | refine g_aloadQ0 dX3_policyText_12 ?_ | refine g_aloadN0 dX3_policyText_12 ?_
    refine g_iconst (nI 1) dX3_policyText_13 (by decide) ?_
    refine g_V1n0 (ctX3_fails hA _ _) kX3_fails q2196 tw_0 rfl rfl (by decide) ⟨rfl, rfl⟩ ⟨Nat.zero_le _, Nat.zero_le _⟩ (Nat.le_of_ble_eq_true rfl) dX3_policyText_14 (fun r_14 h_14 p_14 => ?_)
    obtain ⟨rfl, rfl⟩ := p_14
    exact g_iret dX3_policyText_17 rfl ⟨_, rfl, (by first | exact t_fails (by unfold xc_policyText; (repeat' split) <;> omega) (by omega) (by unfold xm_policyText; exact tSame.rf) | exact ⟨_, rfl, by rw [tset_ss]; unfold xc_policyText; (repeat' split) <;> omega, fun z => by unfold xv_policyText; unfold xc_policyText at z; rcases hi_61 with q | q | q <;> (first | (rw [if_pos (by omega)]; exact q.2.2) | (rw [if_neg (by omega)]; exact q.2.2) | (exfalso; revert z; (repeat' split) <;> omega)), by unfold xm_policyText; exact (tPp_same _ _).f 0 _ (by decide)⟩)⟩
  · refine g_iload2 dX3_policyText_7 ?_
    refine g_iconst (nI 4294967295) dX3_policyText_8 (by decide) ?_
    refine g_icmp_ge (tgt := 18) dX3_policyText_9 (by decide) (fun c_9 => ?_) (fun c_9 => ?_)
    · have c9 : i < 2147483648 ∨ i = 4294967295 := by have z := (nI_leS (by decide) hi).mp c_9; unfold sg at z; split at z <;> omega
      first | refine g_aload0 dX3_policyText_18 ?_ | refine g_aloadQ0 dX3_policyText_18 ?_ | refine g_aloadN0 dX3_policyText_18 ?_
      refine g_iload1 dX3_policyText_19 ?_
      refine g_iconst (nI 0) dX3_policyText_20 (by decide) ?_
      have hp11 := (hW.2.2.2.2 s (by omega)).2.2.2.2.2.1
      refine g_V2n0 (ctX3_of hA _ _ _ (by omega) (by omega)) kX3_of q2220 tw_0 rfl rfl (by decide) ⟨rfl, rfl⟩ ⟨Nat.zero_le _, Nat.zero_le _⟩ (Nat.le_of_ble_eq_true rfl) dX3_policyText_21 (fun r_21 h_21 p_21 => ?_)
      obtain ⟨rfl, rfl⟩ := p_21
      first | refine g_ifN_eq (tgt := 35) dX3_policyText_24 (by decide) (by first | omega | exact hB _ _ | (split <;> omega)) (fun c_24 => ?_) (fun c_24 => ?_) | refine g_if_eq (tgt := 35) dX3_policyText_24 (by decide) (fun c_24 => ?_) (fun c_24 => ?_)
      · first | refine g_aload0 dX3_policyText_35 ?_ | refine g_aloadQ0 dX3_policyText_35 ?_ | refine g_aloadN0 dX3_policyText_35 ?_
        refine g_iconst (nI 2) dX3_policyText_36 (by decide) ?_
        refine g_V1n0 (ctX3_fails hA _ _) kX3_fails q2196 tw_0 rfl rfl (by decide) ⟨rfl, rfl⟩ ⟨Nat.zero_le _, Nat.zero_le _⟩ (Nat.le_of_ble_eq_true rfl) dX3_policyText_37 (fun r_37 h_37 p_37 => ?_)
        obtain ⟨rfl, rfl⟩ := p_37
        exact g_iret dX3_policyText_40 rfl ⟨_, rfl, (by first | exact t_fails (by unfold xc_policyText; (repeat' split) <;> omega) (by omega) (by unfold xm_policyText; exact tSame.rf) | exact ⟨_, rfl, by rw [tset_ss]; unfold xc_policyText; (repeat' split) <;> omega, fun z => by unfold xv_policyText; unfold xc_policyText at z; rcases hi_61 with q | q | q <;> (first | (rw [if_pos (by omega)]; exact q.2.2) | (rw [if_neg (by omega)]; exact q.2.2) | (exfalso; revert z; (repeat' split) <;> omega)), by unfold xm_policyText; exact (tPp_same _ _).f 0 _ (by decide)⟩)⟩
      · first | refine g_aload0 dX3_policyText_27 ?_ | refine g_aloadQ0 dX3_policyText_27 ?_ | refine g_aloadN0 dX3_policyText_27 ?_
        refine g_iload1 dX3_policyText_28 ?_
        refine g_V1n0 (ctX3_hasPolicy hA _ _ (by omega) hp11) kX3_hasPolicy q2312 tw_0 rfl rfl (by decide) ⟨rfl, rfl⟩ ⟨Nat.zero_le _, Nat.zero_le _⟩ (Nat.le_of_ble_eq_true rfl) dX3_policyText_29 (fun r_29 h_29 p_29 => ?_)
        obtain ⟨hr_29, hi_29, rfl⟩ := p_29
        first | refine g_ifN_ne (tgt := 41) dX3_policyText_32 (by decide) (by first | omega | exact hB _ _ | (split <;> omega)) (fun c_32 => ?_) (fun c_32 => ?_) | refine g_if_ne (tgt := 41) dX3_policyText_32 (by decide) (fun c_32 => ?_) (fun c_32 => ?_)
        · first | refine g_aload0 dX3_policyText_41 ?_ | refine g_aloadQ0 dX3_policyText_41 ?_ | refine g_aloadN0 dX3_policyText_41 ?_
          refine g_iconst (nI 0) dX3_policyText_42 (by decide) ?_
          refine t_put13 hA q2110 dX3_policyText_43 ?_
          rw [tPp_0]
          have hln := plX_len (hWp s (by omega)) (by omega)
          first | refine g_aload0 dX3_policyText_46 ?_ | refine g_aloadQ0 dX3_policyText_46 ?_ | refine g_aloadN0 dX3_policyText_46 ?_
          refine g_iload1 dX3_policyText_47 ?_
          refine g_iconst (nI 0) dX3_policyText_48 (by decide) ?_
          first | refine g_aload0 dX3_policyText_49 ?_ | refine g_aloadQ0 dX3_policyText_49 ?_ | refine g_aloadN0 dX3_policyText_49 ?_
          refine g_iload1 dX3_policyText_50 ?_
          refine g_bipush (nI 11) dX3_policyText_51 (by decide) ?_
          refine g_V2n0 (ctX3_of hA _ _ _ (by omega) (by omega)) kX3_of q2220 tw_0 rfl rfl (by decide) ⟨rfl, rfl⟩ ⟨Nat.zero_le _, Nat.zero_le _⟩ (Nat.le_of_ble_eq_true rfl) dX3_policyText_53 (fun r_53 h_53 p_53 => ?_)
          obtain ⟨rfl, rfl⟩ := p_53
          rw [show gOf (tPp M [] 1) s 11 = gOf (M 1) s 11 from rfl]
          refine g_S4v0 (ctX3_writesIt hA _ _ hB (by omega) _ (hWp s (by omega)) rfl (by omega)) (kX3_writesPolicy _) q2465 (by decide) ⟨rfl, rfl⟩ ⟨Nat.zero_le _, Nat.zero_le _⟩ (Nat.le_of_ble_eq_true rfl) dX3_policyText_56 (fun h_56 p_56 => ?_)
          subst p_56
          first | refine g_aload0 dX3_policyText_59 ?_ | refine g_aloadQ0 dX3_policyText_59 ?_ | refine g_aloadN0 dX3_policyText_59 ?_
          refine g_iload2 dX3_policyText_60 ?_
          refine g_V1n0 (ctX3_paperAt hA _ (plX (M 1) s) _ (by omega) (by omega)) kX3_paperAt q2408 tw_0 rfl rfl (by decide) ⟨rfl, rfl⟩ ⟨Nat.zero_le _, Nat.zero_le _⟩ (Nat.le_of_ble_eq_true rfl) dX3_policyText_61 (fun r_61 h_61 p_61 => ?_)
          obtain ⟨cc, rfl, hi_61⟩ := p_61
          exact g_iret dX3_policyText_64 rfl ⟨_, rfl, (by first | exact t_fails (by unfold xc_policyText; (repeat' split) <;> omega) (by omega) (by unfold xm_policyText; exact tSame.rf) | exact ⟨_, rfl, by rw [tset_ss]; unfold xc_policyText; (repeat' split) <;> omega, fun z => by unfold xv_policyText; unfold xc_policyText at z; rcases hi_61 with q | q | q <;> (first | (rw [if_pos (by omega)]; exact q.2.2) | (rw [if_neg (by omega)]; exact q.2.2) | (exfalso; revert z; (repeat' split) <;> omega)), by unfold xm_policyText; exact (tPp_same _ _).f 0 _ (by decide)⟩)⟩
        · first | refine g_aload0 dX3_policyText_35 ?_ | refine g_aloadQ0 dX3_policyText_35 ?_ | refine g_aloadN0 dX3_policyText_35 ?_
          refine g_iconst (nI 2) dX3_policyText_36 (by decide) ?_
          refine g_V1n0 (ctX3_fails hA _ _) kX3_fails q2196 tw_0 rfl rfl (by decide) ⟨rfl, rfl⟩ ⟨Nat.zero_le _, Nat.zero_le _⟩ (Nat.le_of_ble_eq_true rfl) dX3_policyText_37 (fun r_37 h_37 p_37 => ?_)
          obtain ⟨rfl, rfl⟩ := p_37
          exact g_iret dX3_policyText_40 rfl ⟨_, rfl, (by first | exact t_fails (by unfold xc_policyText; (repeat' split) <;> omega) (by omega) (by unfold xm_policyText; exact tSame.rf) | exact ⟨_, rfl, by rw [tset_ss]; unfold xc_policyText; (repeat' split) <;> omega, fun z => by unfold xv_policyText; unfold xc_policyText at z; rcases hi_61 with q | q | q <;> (first | (rw [if_pos (by omega)]; exact q.2.2) | (rw [if_neg (by omega)]; exact q.2.2) | (exfalso; revert z; (repeat' split) <;> omega)), by unfold xm_policyText; exact (tPp_same _ _).f 0 _ (by decide)⟩)⟩
    · have c9 : 2147483648 ≤ i ∧ ¬ i = 4294967295 := by have z := (not_congr (nI_leS (by decide) hi)).mp c_9; unfold sg at z; split at z <;> omega
      first | refine g_aload0 dX3_policyText_12 ?_ | refine g_aloadQ0 dX3_policyText_12 ?_ | refine g_aloadN0 dX3_policyText_12 ?_
      refine g_iconst (nI 1) dX3_policyText_13 (by decide) ?_
      refine g_V1n0 (ctX3_fails hA _ _) kX3_fails q2196 tw_0 rfl rfl (by decide) ⟨rfl, rfl⟩ ⟨Nat.zero_le _, Nat.zero_le _⟩ (Nat.le_of_ble_eq_true rfl) dX3_policyText_14 (fun r_14 h_14 p_14 => ?_)
      obtain ⟨rfl, rfl⟩ := p_14
      exact g_iret dX3_policyText_17 rfl ⟨_, rfl, (by first | exact t_fails (by unfold xc_policyText; (repeat' split) <;> omega) (by omega) (by unfold xm_policyText; exact tSame.rf) | exact ⟨_, rfl, by rw [tset_ss]; unfold xc_policyText; (repeat' split) <;> omega, fun z => by unfold xv_policyText; unfold xc_policyText at z; rcases hi_61 with q | q | q <;> (first | (rw [if_pos (by omega)]; exact q.2.2) | (rw [if_neg (by omega)]; exact q.2.2) | (exfalso; revert z; (repeat' split) <;> omega)), by unfold xm_policyText; exact (tPp_same _ _).f 0 _ (by decide)⟩)⟩
