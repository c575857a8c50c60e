/-! G LAYER, FURTHER: exceptions -/
set_option maxRecDepth 100000
/-- what the start says (its parts) -/
theorem gE.nr {E : GE} (hE : gE E) {w : Cond} (h : w ∈ flatC (Jvm.Cond.and given_1 narrow_1)) : w.before #[Value.ref E.b] E.S0 = true := flat_of_before _ hE.2.2.2 w h
theorem gE.out {E : GE} (a : Nat) (h : a < E.S0.heap.size) : ¬ gA E a := fun z => absurd (show E.S0.heap.size ≤ a from z) (by omega)
theorem gI.ext {E : GE} {h : AH} {H H' : Heap} (hI : gI E h H) (h1 : H.size ≤ H'.size) (h2 : ∀ q : Nat, q < H.size → H'[q]? = H[q]?) : gI E h H' := by
  obtain ⟨h0, ws, hP, hD, hm⟩ := hI
  exact ⟨⟨Nat.le_trans h0.1 h1, fun q z1 z2 => (h2 q (Nat.lt_of_lt_of_le z1 h0.1)).trans (h0.2.1 q z1 z2), fun _ z => nomatch z⟩, ws, hP.kept (fun k x hx => h2 x.1 ((hP k x hx).lt)), hD, hm⟩
theorem gE.zU {E : GE} (hE : gE E) : vx_Zq Bundle.tN "UNASSIGNED_STACK" Bundle.steD (gA E) E.S0 E.S0.heap := vx_Zqof (hE.2.2.1 _ q448) (hE.2.2.1 _ (List.mem_filter.mp q76).1) (hE.nr (by decide +kernel)) gE.out
theorem gE.zS {E : GE} (hE : gE E) : vx_Zq Bundle.tN "SUPPRESSED_SENTINEL" Bundle.listD (gA E) E.S0 E.S0.heap := vx_Zqof (hE.2.2.1 _ q450) (hE.2.2.1 _ (List.mem_filter.mp q76).1) (hE.nr (by decide +kernel)) gE.out
section GR3
variable {E : GE} {cc : ByteArray} {own : String} {M : GM} {Po : Option Value → AH → Prop} {Px : String → Nat → AH → Prop} {X : GX} {h : AH} {k n pc : Nat} {ls : List (Option Value)} {st : List Value}
theorem gOk.zU (O : gOk E cc own M X) : vx_Zq Bundle.tN "UNASSIGNED_STACK" Bundle.steD (gA E) X.s X.s.heap := vx_Zq.moved O.hW.alike (O.hE.zU.kept O.hS0.2.1)
theorem gOk.zS (O : gOk E cc own M X) : vx_Zq Bundle.tN "SUPPRESSED_SENTINEL" Bundle.listD (gA E) X.s X.s.heap := vx_Zq.moved O.hW.alike (O.hE.zS.kept O.hS0.2.1)
def gCd : Cond → Bool
  | .castable _ _ => true
  | .declares _ => true
  | _ => false
theorem lw_T (ws : List Cond) (ps : List Nat) (hp : ws = ps.filterMap (fun i => lw_tbl[i]?)) : ∀ w ∈ ws, w ∈ lw_tbl := by
  intro w hw
  rw [hp] at hw
  obtain ⟨i, -, hi⟩ := List.mem_filterMap.mp hw
  exact List.mem_of_getElem? hi
/-- the words of a class of exceptions whose objects are made without arguments -/
def gAt (own : String) (ic : Nat) (cls : String) (names : List String) : Prop := (∀ w ∈ vx_at0 own ic cls names, w ∈ lw_tbl) ∧ (vx_at0 own ic cls names).all (fun w => goodWord w || gCd w) = true
theorem gOk.cd (O : gOk E cc own M X) {w : Cond} (hw : w ∈ lw_tbl) (hg : (goodWord w || gCd w) = true) : w.before X.args X.s = true := by
  by_cases g : goodWord w = true
  · exact O.hts _ (lw_g hw g)
  · rw [Bool.or_eq_true] at hg
    rcases hg with hg | hg
    · exact absurd hg g
    · match w, hg, hw with
      | .castable C T, _, hw => exact va_Nw.use rfl (O.cast hw)
      | .declares x, _, hw => exact va_Nw.use rfl (va_Nw.warmD O.hW (O.nw rfl hw))
theorem gAt.hat {ic : Nat} {cls : String} {names : List String} (O : gOk E cc own M X) (ha : gAt own ic cls names) : ∀ w ∈ vx_at0 own ic cls names, w.before X.args X.s = true := fun w hw => O.cd (ha.1 w hw) (List.all_eq_true.mp ha.2 w hw)
theorem gx_F {H : Heap} {locs : List Loc} {t : State} (hS : va_S (gA E) X.s.heap H locs) (h1 : H.size ≤ t.heap.size) (h2 : ∀ q : Nat, q < H.size → t.heap[q]? = H[q]?) : va_F (gA E) X.s t := ⟨Nat.le_trans hS.1 h1, fun q z1 z2 => (h2 q (Nat.lt_of_lt_of_le z1 hS.1)).trans (hS.2.1 q z1 z2)⟩
/-- 'throw new C()', no handler about -/
theorem g_throw0 {ik ic : Nat} {cls : String} {names : List String} (hcls : Bundle.fit cls = true) (hnames : ∀ n ∈ names, Bundle.fit n = true) (hk : Cond.classLink own ik cls ∈ lw_all) (hini : Cond.initialized cls ∈ lw_all) (hat : gAt own ic cls names) (hgood : ∀ w ∈ Cond.classLink own ik cls :: Cond.initialized cls :: vx_at0 own ic cls names, vx_ot w = true)
    (d0 : decode cc pc = .ok (.new ik, 3)) (d3 : decode cc (pc + 3) = .ok (.dup, 1)) (d4 : decode cc (pc + 4) = .ok (.invokespecial ic, 3)) (d7 : decode cc (pc + 7) = .ok (.athrow, 1)) (hout : ∀ z ∈ tableOf M.hh, covers z (pc + 7) = false) (hf : names.length + 3 < M.rm.frames) (hlo : (st.map fun v => v.category).sum + (13 * (names.length + 1) + 42) ≤ M.rm.locals) (hc : k + 1 ≤ M.rm.cells) (hs : n + 6 ≤ M.rm.slots) (hp : ∀ q, Px cls q h) : V E cc own M Po Px X h k n pc ls st := by
  intro O H locs la hI hS hl hL
  exact vx_throw0 O.hx O.hb O.hE.1 O.hown hcls hnames (O.hts _ hk) (O.hts _ hini) (hat.hat O) hgood O.zU O.zS hS (hl.1.trans O.hml.symm) d0 d3 d4 d7 (by rw [O.htab]; exact hout) hf hlo hc hs O.hlocks (fun q0 t _ h1 h2 => ⟨⟨h, hp q0, hI.ext h1 h2⟩, gx_F hS h1 h2⟩) hS.2.2 hc hs
/-- 'new C()' of an exception that is not thrown at once -/
theorem g_make0 {ik ic ci : Nat} {cls : String} {names : List String} {T0 : u_T} (t : Nat) (hcls : Bundle.fit cls = true) (hnames : ∀ n ∈ names, Bundle.fit n = true) (hk : Cond.classLink own ik cls ∈ lw_all) (hini : Cond.initialized cls ∈ lw_all) (hat : gAt own ic cls names) (hgood : ∀ w ∈ Cond.classLink own ik cls :: Cond.initialized cls :: vx_at0 own ic cls names, vx_ot w = true)
    (d0 : decode cc pc = .ok (.new ik, 3)) (d3 : decode cc (pc + 3) = .ok (.dup, 1)) (d4 : decode cc (pc + 4) = .ok (.invokespecial ic, 3)) (hcl : gCl[ci]? = some (cls, T0, 0)) (hf : names.length + 3 < M.rm.frames) (hlo : (st.map fun v => v.category).sum + (13 * (names.length + 1) + 42) ≤ M.rm.locals) (hc : k + 1 ≤ M.rm.cells) (hs : n + 6 ≤ M.rm.slots) (kk : ∀ q : Nat, h q = none → V E cc own M Po Px X (g_up h q (t, gO ci [])) (k + 1) (n + 6) (pc + 7) ls (.ref q :: st)) : V E cc own M Po Px X h k n pc ls st := by
  intro O H locs la hI hS hl hL
  obtain ⟨h0, ws, hP, hD, hm⟩ := id hI
  exact vx_make0 O.hx O.hb O.hE.1 O.hown hcls hnames (O.hts _ hk) (O.hts _ hini) (hat.hat O) hgood O.zU O.zS hS (hl.1.trans O.hml.symm) d0 d3 d4 O.hK hP hD O.hA hcl hf hlo hc hs (fun q H1 hP1 hD1 hS1 => kk q (g_new_fresh hD1 hm) O H1 locs la ⟨g_old O.hS0 hS1, _, hP1, hD1, g_new_in hm⟩ hS1 hl hL)
/-- nothing catches it: it leaves the method -/
theorem gx_out {C : String} {q : Nat} (hp : Px C q h) (hc : k ≤ M.rm.cells) (hs : n ≤ M.rm.slots) (hpass : ∀ z ∈ tableOf M.hh, covers z pc = false ∨ (z.catchType ≠ 0 ∧ ∃ nm : String, Cond.classLink own z.catchType nm ∈ lw_all ∧ va_Nc C nm E.S0)) : VX E cc own M Po Px X h k n pc ls C q := by
  intro O H locs la rest ce hI hS hl hL h1 h2 h3
  refine vx_widen hc hs (vx_outP (own := own) O.hown O.hlocks (fun z hz => ?_) h1 h2 h3 (fun t ht _ => ⟨⟨h, hp, ht ▸ hI⟩, ht ▸ hS.1, ht ▸ hS.2.1⟩) hS.2.2 (Nat.le_refl _) (Nat.le_refl _))
  rw [O.htab] at hz
  rcases hpass z hz with z1 | ⟨z1, nm, z2, z3⟩
  · exact Or.inl z1
  · exact Or.inr ⟨z1, nm, O.hts _ z2, va_Nc.moved O.hW.alike z3⟩
theorem gx_out0 {C : String} {q : Nat} (hh : M.hh = []) (hp : Px C q h) (hc : k ≤ M.rm.cells) (hs : n ≤ M.rm.slots) : VX E cc own M Po Px X h k n pc ls C q := gx_out hp hc hs (by rw [hh]; intro z hz; cases hz)
/-- caught -/
theorem gx_catch {C name : String} {q : Nat} (pre : List ExceptionTableEntry) (x : ExceptionTableEntry) (suf : List ExceptionTableEntry) (hsplit : tableOf M.hh = pre ++ x :: suf) (hpass : ∀ z ∈ pre, covers z pc = false ∨ (z.catchType ≠ 0 ∧ ∃ nm : String, Cond.classLink own z.catchType nm ∈ lw_all ∧ va_Nc C nm E.S0)) (hx : covers x pc = true) (h0 : x.catchType ≠ 0) (hlink : Cond.classLink own x.catchType name ∈ lw_all) (hcast : Cond.castable C name ∈ lw_tbl) (kk : V E cc own M Po Px X h k n x.handlerPc ls [.ref q]) : VX E cc own M Po Px X h k n pc ls C q := by
  intro O H locs la rest ce hI hS hl hL h1 h2 h3
  refine vx_catch O.hown pre x suf (by rw [O.htab]; exact hsplit) (fun z hz => ?_) hx h0 (O.hts _ hlink) (va_Nw.use rfl (O.cast hcast)) h1 h2 h3 (kk O H locs la hI hS hl hL)
  rcases hpass z hz with z1 | ⟨z1, nm, z2, z3⟩
  · exact Or.inl z1
  · exact Or.inr ⟨z1, nm, O.hts _ z2, va_Nc.moved O.hW.alike z3⟩
theorem g_athrow {q t ci : Nat} {fs : List Value} {r : vw_C} (ha : h q = some (t, gO ci fs)) (hc : gCl[ci]? = some r) (d : decode cc pc = .ok (.athrow, 1)) (kx : VX E cc own M Po Px X h k n pc ls r.1 q) : V E cc own M Po Px X h k n pc ls (.ref q :: st) := by
  intro O H locs la hI hS hl hL
  obtain ⟨h0, ws, hP, hD, hm⟩ := id hI
  obtain ⟨q0, hq⟩ := g_in (E := E) (H := H) hm ha
  obtain ⟨r', hr', cell, g1, g2, g3, -⟩ := hP q0 _ hq
  refine vx_athrow O.hx O.hb d (kx O H locs la st cell hI hS hl hL g1 g3 ?_)
  rw [g2]
  exact (O.classAt hc).1
/-- of the start: a class that is not under another -/
theorem gE.nc {E : GE} (hE : gE E) {C T : String} (h : Cond.not (.castable C T) ∈ flatC (Jvm.Cond.and given_1 narrow_1)) : va_Nc C T E.S0 := va_Nc.of (hE.nr h)
/-! references in arrays, casts -/
theorem g_aald {j a t N i : Nat} {C : String} {f : Nat → Option Nat} (ha : h a = some (t, gAR E j N f)) (ht : (gTys E)[j]? = some (E.dA j, .object C)) (hi : i < N) (hN : N < 2147483648) (d : decode cc pc = .ok (.aaload, 1)) (kk : V E cc own M Po Px X h k n (pc + 1) ls (va_rf (f i) :: st)) : V E cc own M Po Px X h k n pc ls (.int (nI i) :: .ref a :: st) := by
  intro O H locs la hI hS hl hL
  obtain ⟨h0, ws, hP, hD, hm⟩ := id hI
  obtain ⟨q0, hq⟩ := g_in (E := E) (H := H) hm ha
  refine va_aldq O.hx O.hb O.hK hP q0 j hq ht (vp_in_nI hi hN) d ?_
  rw [nI_clamp (Nat.lt_trans hi hN)]
  exact kk O H locs la hI hS hl hL
theorem nup_q (f : Nat → Option Nat) (i : Nat) (v : Option Nat) : va_up f i v = nup f i v := rfl
/-- a reference is stored: an object that may lie there -/
theorem g_aast {j a t N i v : Nat} {C C0 : String} {f : Nat → Option Nat} (ha : h a = some (t, gAR E j N f)) (ht : (gTys E)[j]? = some (E.dA j, .object C)) (hi : i < N) (hN : N < 2147483648) (hr : gRv E h v C0) (hcast : Cond.castable C0 C ∈ lw_tbl) (d : decode cc pc = .ok (.aastore, 1)) (kk : V E cc own M Po Px X (g_up h a (t, gAR E j N (nup f i (some v)))) k n (pc + 1) ls st) : V E cc own M Po Px X h k n pc ls (.ref v :: .int (nI i) :: .ref a :: st) := by
  intro O H locs la hI hS hl hL
  obtain ⟨h0, ws, hP, hD, hm⟩ := id hI
  obtain ⟨q0, hq⟩ := g_in (E := E) (H := H) hm ha
  have hcs := O.cast hcast
  refine vb_astq (C := C0) (E := C) O.hx O.hb O.hK hP hD hS q0 j hq ht (O.rv hI hr) (fun comp c0 z1 z2 => ?_) (vp_in_nI hi hN) d (fun H1 locs1 hP1 hD1 hS1 => ?_)
  · obtain ⟨c1, t1, f1, f2, f3⟩ := Cond.castable_spec (args := #[]) hcs
    cases f1.symm.trans z2
    cases f2.symm.trans z1
    exact f3
  · rw [nI_clamp (Nat.lt_trans hi hN)] at hP1 hD1
    exact kk O H1 locs1 la ⟨g_old O.hS0 hS1, _, hP1, hD1, g_put_in hD hm hq⟩ hS1 hl hL
/-- of the array's very class -/
theorem g_aastS {j a t N i v tv ci : Nat} {vs : List Value} {r : vw_C} {f : Nat → Option Nat} (ha : h a = some (t, gAR E j N f)) (hv : h v = some (tv, gO ci vs)) (hc : gCl[ci]? = some r) (ht : (gTys E)[j]? = some (E.dA j, .object r.1)) (hi : i < N) (hN : N < 2147483648) (d : decode cc pc = .ok (.aastore, 1)) (kk : V E cc own M Po Px X (g_up h a (t, gAR E j N (nup f i (some v)))) k n (pc + 1) ls st) : V E cc own M Po Px X h k n pc ls (.ref v :: .int (nI i) :: .ref a :: st) := by
  intro O H locs la hI hS hl hL
  obtain ⟨h0, ws, hP, hD, hm⟩ := id hI
  obtain ⟨q0, hq⟩ := g_in (E := E) (H := H) hm ha
  obtain ⟨q1, hq1⟩ := g_in (E := E) (H := H) hm hv
  refine va_astq O.hx O.hb O.hK hP hD hS q0 j q1 ci hq ht hq1 hc (vp_in_nI hi hN) d (fun H1 locs1 hP1 hD1 hS1 => ?_)
  rw [nI_clamp (Nat.lt_trans hi hN)] at hP1 hD1
  exact kk O H1 locs1 la ⟨g_old O.hS0 hS1, _, hP1, hD1, g_put_in hD hm hq⟩ hS1 hl hL
theorem g_aastN {j a t N i : Nat} {C : String} {f : Nat → Option Nat} (ha : h a = some (t, gAR E j N f)) (ht : (gTys E)[j]? = some (E.dA j, .object C)) (hi : i < N) (hN : N < 2147483648) (d : decode cc pc = .ok (.aastore, 1)) (kk : V E cc own M Po Px X (g_up h a (t, gAR E j N (nup f i none))) k n (pc + 1) ls st) : V E cc own M Po Px X h k n pc ls (.null :: .int (nI i) :: .ref a :: st) := by
  intro O H locs la hI hS hl hL
  obtain ⟨h0, ws, hP, hD, hm⟩ := id hI
  obtain ⟨q0, hq⟩ := g_in (E := E) (H := H) hm ha
  refine va_astqN O.hx O.hb O.hK hP hD hS q0 j hq ht (vp_in_nI hi hN) d (fun H1 locs1 hP1 hD1 hS1 => ?_)
  rw [nI_clamp (Nat.lt_trans hi hN)] at hP1 hD1
  exact kk O H1 locs1 la ⟨g_old O.hS0 hS1, _, hP1, hD1, g_put_in hD hm hq⟩ hS1 hl hL
theorem gOk.ao (O : gOk E cc own M X) {C : String} (h : Cond.arrayOver (.object C) ∈ lw_tbl) : va_AO C X.s := va_AO.moved O.hW.alike (va_AO.of (O.hE.2.2.1 _ h))
/-- a new array of references, all null -/
theorem g_newR {j index N : Nat} {C : String} (t : Nat) (hlk : Cond.classLink own index C ∈ lw_all) (hao : Cond.arrayOver (.object C) ∈ lw_tbl) (ht : (gTys E)[j]? = some (E.dA j, .object C)) (hN : N < 134217728) (hk : k + 1 ≤ M.rm.cells) (hn : n + N ≤ M.rm.slots) (d : decode cc pc = .ok (.anewarray index, 3)) (kk : ∀ q : Nat, h q = none → V E cc own M Po Px X (g_up h q (t, gAR E j N (fun _ => none))) (k + 1) (n + N) (pc + 3) ls (.ref q :: st)) : V E cc own M Po Px X h k n pc ls (.int (nI N) :: st) := by
  intro O H locs la hI hS hl hL
  obtain ⟨h0, ws, hP, hD, hm⟩ := id hI
  refine va_newq O.hx O.hb O.hown (O.hts _ hlk) (O.ao hao) O.hK hP hD hS O.hA (nI_pos (by omega)) (nI_clamp (by omega)) (by omega) hk hn d (fun q cA H1 hK1 hP1 hD1 hS1 => ?_)
  have hl10 : (gTys E).length = 10 := rfl
  have e1 := (hK1.2 10 (cA, .object C) (by rw [List.getElem?_append_right (by omega), hl10]; rfl)).2
  have e2 := (O.hK.2 j _ ht).2
  obtain ⟨-, -, -, -, -, e3⟩ := e1
  obtain ⟨-, -, -, -, -, e4⟩ := e2
  have e5 : cA = E.dA j := Option.some.inj (e3.symm.trans e4)
  subst e5
  exact kk q (g_new_fresh hD1 hm) O H1 locs la ⟨g_old O.hS0 hS1, _, hP1, hD1, g_new_in hm⟩ hS1 hl hL
theorem g_ckN {index : Nat} (d : decode cc pc = .ok (.checkcast index, 3)) (kk : V E cc own M Po Px X h k n (pc + 3) ls (.null :: st)) : V E cc own M Po Px X h k n pc ls (.null :: st) := fun O H locs la hI hS hl hL => lv_castN O.hx O.hb d (kk O H locs la hI hS hl hL)
theorem g_ck {index a : Nat} {C nm : String} (hlk : Cond.classLink own index nm ∈ lw_all) (hr : gRv E h a C) (hcast : Cond.castable C nm ∈ lw_tbl) (d : decode cc pc = .ok (.checkcast index, 3)) (kk : V E cc own M Po Px X h k n (pc + 3) ls (.ref a :: st)) : V E cc own M Po Px X h k n pc ls (.ref a :: st) := fun O H locs la hI hS hl hL => va_castY O.hx O.hb O.hown (O.hts _ hlk) (O.cast hcast) (O.rv hI hr) d (kk O H locs la hI hS hl hL)
/-- to the object's own class -/
theorem g_ckS {index a t ci : Nat} {fs : List Value} {r : vw_C} (hlk : Cond.classLink own index r.1 ∈ lw_all) (ha : h a = some (t, gO ci fs)) (hc : gCl[ci]? = some r) (d : decode cc pc = .ok (.checkcast index, 3)) (kk : V E cc own M Po Px X h k n (pc + 3) ls (.ref a :: st)) : V E cc own M Po Px X h k n pc ls (.ref a :: st) := fun O H locs la hI hS hl hL => va_castS O.hx O.hb O.hown (O.hts _ hlk) (O.classAt hc) (g_recv O hI ha hc) d (kk O H locs la hI hS hl hL)
theorem g_instN {index : Nat} (d : decode cc pc = .ok (.instanceof index, 3)) (kk : V E cc own M Po Px X h k n (pc + 3) ls (.int (nI 0) :: st)) : V E cc own M Po Px X h k n pc ls (.null :: st) := fun O H locs la hI hS hl hL => lv_instN O.hx O.hb d (kk O H locs la hI hS hl hL)
theorem g_instY {index a : Nat} {C nm : String} (hlk : Cond.classLink own index nm ∈ lw_all) (hr : gRv E h a C) (hcast : Cond.castable C nm ∈ lw_tbl) (d : decode cc pc = .ok (.instanceof index, 3)) (kk : V E cc own M Po Px X h k n (pc + 3) ls (.int (nI 1) :: st)) : V E cc own M Po Px X h k n pc ls (.ref a :: st) := fun O H locs la hI hS hl hL => va_instY O.hx O.hb O.hown (O.hts _ hlk) (O.cast hcast) (O.rv hI hr) d (kk O H locs la hI hS hl hL)
theorem g_instS {index a t ci : Nat} {fs : List Value} {r : vw_C} (hlk : Cond.classLink own index r.1 ∈ lw_all) (ha : h a = some (t, gO ci fs)) (hc : gCl[ci]? = some r) (d : decode cc pc = .ok (.instanceof index, 3)) (kk : V E cc own M Po Px X h k n (pc + 3) ls (.int (nI 1) :: st)) : V E cc own M Po Px X h k n pc ls (.ref a :: st) := fun O H locs la hI hS hl hL => va_instS O.hx O.hb O.hown (O.hts _ hlk) (O.classAt hc) (g_recv O hI ha hc) d (kk O H locs la hI hS hl hL)
theorem g_instNo {index a : Nat} {C nm : String} (hlk : Cond.classLink own index nm ∈ lw_all) (hr : gRv E h a C) (hno : Cond.not (.castable C nm) ∈ flatC (Jvm.Cond.and given_1 narrow_1)) (d : decode cc pc = .ok (.instanceof index, 3)) (kk : V E cc own M Po Px X h k n (pc + 3) ls (.int (nI 0) :: st)) : V E cc own M Po Px X h k n pc ls (.ref a :: st) := fun O H locs la hI hS hl hL => va_instNo O.hx O.hb O.hown (O.hts _ hlk) (va_Nc.moved O.hW.alike (O.hE.nc hno)) (O.rv hI hr) d (kk O H locs la hI hS hl hL)
/-- a static field that is as it was at the start -/
theorem g_gets {index : Nat} {C nm ds ref : String} {v : Value} (hz : va_Z C nm ds v (gA E) E.S0 E.S0.heap) (hlk : Cond.fieldLink own index C nm ds ∈ lw_all) (d : decode cc pc = .ok (.getstatic index, 3)) (kk : V E cc own M Po Px X h k n (pc + 3) ls (v :: st)) : V E cc own M Po Px X h k n pc ls st := fun O H locs la hI hS hl hL => va_gets O.hx O.hb (va_Z.moved O.hW.alike (hz.kept O.hS0.2.1)) hS O.hown (O.hts _ hlk) (fun _ h9 => h9) d (kk O H locs la hI hS hl hL)
end GR3

