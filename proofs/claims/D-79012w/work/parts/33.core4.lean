/-! G LAYER, FURTHER: objects of the start -/
set_option maxRecDepth 100000
def stV (E : GE) (t : Term) : Option Value := t.eval #[Value.ref E.b] E.S0 none [] E.S0
def stA (E : GE) (t : Term) : Nat := match stV E t with
  | some (.ref a) => a
  | _ => 0
theorem stA_eq {E : GE} {t : Term} {a : Nat} (h : stV E t = some (.ref a)) : stA E t = a := by
  unfold stA
  rw [h]
/-- a leaf of what is given or narrow -/
def gLf (w : Cond) : Prop := w ∈ flatC (Jvm.Cond.and given_1 narrow_1)
theorem gE.ex {E : GE} (hE : gE E) {t : Term} {C : String} (h : gLf (Cond.exactly t C)) : stV E t = some (.ref (stA E t)) ∧ OldO E C (stA E t) := by
  obtain ⟨a, c, cell, k, q1, q2, q3, q4, q5, q6, -⟩ := Cond.exactly_spec (hE.nr h)
  have e : stV E t = some (.ref a) := q1
  rw [stA_eq e]
  exact ⟨e, cell, q3, q5, by rw [q6]; exact q2⟩
theorem gE.w {E : GE} (hE : gE E) {w : Cond} (h : w ∈ lw_tbl) : w.before #[Value.ref E.b] E.S0 = true := hE.2.2.1 _ h
theorem gE.zR {E : GE} (hE : gE E) {C n d : String} {a : Nat} (hv : stV E (.static C n d) = some (.ref a)) (hl : Cond.laysStatic C n d ∈ lw_tbl) (hi : Cond.initialized C ∈ lw_tbl) : va_Z C n d (.ref a) (gA E) E.S0 E.S0.heap := va_Zref (hE.w hl) (hE.w hi) hv gE.out
theorem gE.zI {E : GE} (hE : gE E) {C n d : String} {z : Int32} (hv : gLf (Cond.eq (.static C n d) (.int z))) (hl : Cond.laysStatic C n d ∈ lw_tbl) (hi : Cond.initialized C ∈ lw_tbl) : va_Z C n d (.int z) (gA E) E.S0 E.S0.heap := va_Zof (hE.w hl) (hE.w hi) (va_eqi (hE.nr hv)) gE.out
theorem gE.zQ {E : GE} (hE : gE E) {C n d : String} (hv : gLf (Cond.isRef (.static C n d))) (hl : Cond.laysStatic C n d ∈ lw_tbl) (hi : Cond.initialized C ∈ lw_tbl) : va_Zq C n d (gA E) E.S0 E.S0.heap := va_Zqof (hE.w hl) (hE.w hi) (hE.nr hv) gE.out
/-- a field of an object of the start -/
def gOF (E : GE) (o n d : String) (v : Value) (a : Nat) : Prop := va_OF o n d v a (gA E) E.S0 E.S0.heap
theorem gE.fl {E : GE} (hE : gE E) {t : Term} {o n d : String} {a : Nat} {z : Int32} (ht : stV E t = some (.ref a)) (h : gLf (Cond.eq (.field t o n d) (.int z))) : gOF E o n d (.int z) a := vk_OFof ht (va_eqt (hE.nr h)) gE.out
/-- an array of the start -/
def gTb (E : GE) (ty : FieldType) (t N : Nat) (f : Nat → Value) : Prop := va_T ty t N f (gA E) E.S0 E.S0.heap
theorem gE.tb {E : GE} (hE : gE E) {tm : Term} {ty : FieldType} {N : Nat} {f : Nat → Value} (hN : N < 2 ^ 31) (harr : gLf (Cond.arrayOf tm ty)) (hlen : gLf (Cond.eq (.length tm) (.int (Int32.ofNat N)))) (hel : ∀ j : Nat, j < N → stV E (.elem tm (.int (Int32.ofNat j))) = some (f j)) : stV E tm = some (.ref (stA E tm)) ∧ gTb E ty (stA E tm) N f := by
  obtain ⟨t, h1, h2⟩ := va_Tof (A := gA E) hN (hE.nr harr) (va_eqt (hE.nr hlen)) hel gE.out
  have e : stV E tm = some (.ref t) := h1
  rw [stA_eq e]
  exact ⟨e, h2⟩
section GR4
variable {E : GE} {cc : ByteArray} {own : String} {M : GM} {Po : Option Value → AH → Prop} {Px : String → Nat → AH → Prop} {X : GX} {h : AH} {k n pc : Nat} {ls : List (Option Value)} {st : List Value}
theorem gI.notold {H : Heap} (hI : gI E h H) {a : Nat} {x : Nat × va_E} (ha : h a = some x) : gA E a := by
  obtain ⟨h0, ws, hP, hD, hm⟩ := hI
  obtain ⟨t, e⟩ := x
  obtain ⟨q0, hq⟩ := g_in (E := E) (H := H) hm ha
  exact hD.2 q0 _ hq
theorem g_getO {o ref fn d : String} {v : Value} {index a : Nat} (hf : gOF E o fn d v a) (hlk : Cond.fieldLink own index ref fn d ∈ lw_all) (hsame : ∀ x, X.s.fieldFound? o fn d = some x → X.s.fieldFound? ref fn d = some x) (dd : decode cc pc = .ok (.getfield index, 3)) (hc : v.category = 1) (kk : V E cc own M Po Px X h k n (pc + 3) ls (v :: st)) : V E cc own M Po Px X h k n pc ls (.ref a :: st) := by
  intro O H locs la hI hS hl hL
  obtain ⟨cf, kc, fi, f, cell, h1, h2, h3, h4, h5, h6⟩ := (va_OF.moved O.hW.alike (va_OF.kept hf O.hS0.2.1)).kept hS.2.1
  exact W.getf O.hx O.hb O.hown (O.hts _ hlk) (hsame _ h1) h2 h3 h4 (v := v) h5 rfl rfl dd (kk O H locs la hI hS hl hL)
theorem gOk.tb (O : gOk E cc own M X) {ty : FieldType} {t N : Nat} {f : Nat → Value} (h : gTb E ty t N f) : va_T ty t N f (gA E) X.s X.s.heap := va_T.moved O.hW.alike (va_T.kept h O.hS0.2.1)
theorem g_tq {C : String} {t N i : Nat} {f : Nat → Value} (hT : gTb E (.object C) t N f) (hi : i < N) (hN : N < 2147483648) (d : decode cc pc = .ok (.aaload, 1)) (kk : V E cc own M Po Px X h k n (pc + 1) ls (f i :: st)) : V E cc own M Po Px X h k n pc ls (.int (nI i) :: .ref t :: st) := by
  intro O H locs la hI hS hl hL
  exact vb_tq O.hx O.hb (O.tb hT) hS (vp_in_nI hi hN) (by rw [nI_clamp (Nat.lt_trans hi hN)]) d (kk O H locs la hI hS hl hL)
theorem g_tb {t N i : Nat} {f : Nat → Value} (hT : gTb E .byte t N f) (hi : i < N) (hN : N < 2147483648) (d : decode cc pc = .ok (.baload, 1)) (kk : V E cc own M Po Px X h k n (pc + 1) ls (f i :: st)) : V E cc own M Po Px X h k n pc ls (.int (nI i) :: .ref t :: st) := by
  intro O H locs la hI hS hl hL
  exact va_tb O.hx O.hb (O.tb hT) hS (vp_in_nI hi hN) (by rw [nI_clamp (Nat.lt_trans hi hN)]) d (kk O H locs la hI hS hl hL)
theorem g_tlen {ty : FieldType} {t N : Nat} {f : Nat → Value} {v : Int32} (hT : gTb E ty t N f) (hv : Int32.ofNat N = v) (d : decode cc pc = .ok (.arraylength, 1)) (kk : V E cc own M Po Px X h k n (pc + 1) ls (.int v :: st)) : V E cc own M Po Px X h k n pc ls (.ref t :: st) := by
  intro O H locs la hI hS hl hL
  exact va_tlen O.hx O.hb (O.tb hT) hS hv d (kk O H locs la hI hS hl hL)
/-- a String constant -/
def gSt (E : GE) (own : String) (k : Nat) (tx : String) (a : Nat) : Prop := vk_R own k tx a E.S0
theorem gE.str {E : GE} (hE : gE E) {own tx : String} {k : Nat} (h1 : Cond.stringRef own k tx ∈ lw_tbl) (h2 : gLf (Cond.exactly (.string own k) "java/lang/String")) : gSt E own k tx (stA E (.string own k)) := ⟨hE.w h1, (hE.ex h2).1⟩
theorem g_ldcS {index q : Nat} {tx : String} (hZ : gSt E own index tx q) (d : decode cc pc = .ok (.ldc index, 2)) (kk : V E cc own M Po Px X h k n (pc + 2) ls (.ref q :: st)) : V E cc own M Po Px X h k n pc ls st := fun O H locs la hI hS hl hL => va_ldcS O.hx O.hb O.hown (vk_R.warm O.hW hZ) d (kk O H locs la hI hS hl hL)
theorem g_getsq {index : Nat} {C nm ds : String} (hz : va_Zq C nm ds (gA E) E.S0 E.S0.heap) (hlk : Cond.fieldLink own index C nm ds ∈ lw_all) (d : decode cc pc = .ok (.getstatic index, 3)) (kk : ∀ r : Option Nat, V E cc own M Po Px X h k n (pc + 3) ls (va_rf r :: st)) : V E cc own M Po Px X h k n pc ls st := by
  rcases hz with hz | ⟨t, hz⟩
  · exact g_gets (ref := C) hz hlk d (kk none)
  · exact g_gets (ref := C) hz hlk d (kk (some t))
/-- an array of ints is cloned -/
theorem g_cloneI {index a t N : Nat} {f : Nat → Int32} (t' : Nat) (ha : h a = some (t, gAI E N f)) (hlk : Cond.methodLink own index ⟨"[I", "clone", "()Ljava/lang/Object;"⟩ ∈ lw_all) (hsm : Cond.sameMethod "[I" "java/lang/Object" "clone" "()Ljava/lang/Object;" ∈ lw_all) (hnat : Cond.native ⟨"java/lang/Object", "clone", "()Ljava/lang/Object;"⟩ ∈ lw_all) (hin : Cond.instanceMethod ⟨"java/lang/Object", "clone", "()Ljava/lang/Object;"⟩ ∈ lw_all) (hse : Cond.selects "[I" ⟨"[I", "clone", "()Ljava/lang/Object;"⟩ ⟨"java/lang/Object", "clone", "()Ljava/lang/Object;"⟩ ∈ lw_all) (hcl : Cond.castable "[I" "java/lang/Cloneable" ∈ lw_tbl)
    (hfr : 1 ≤ M.rm.frames) (hlo : (st.map fun v => v.category).sum + 14 ≤ M.rm.locals) (hk : k + 1 ≤ M.rm.cells) (hn : n + N ≤ M.rm.slots) (d : decode cc pc = .ok (.invokevirtual index, 3)) (kk : ∀ q : Nat, h q = none → V E cc own M Po Px X (g_up h q (t', gAI E N f)) (k + 1) (n + N) (pc + 3) ls (.ref q :: st)) : V E cc own M Po Px X h k n pc ls (.ref a :: st) := by
  intro O H locs la hI hS hl hL
  obtain ⟨h0, ws, hP, hD, hm⟩ := id hI
  obtain ⟨q0, hq⟩ := g_in (E := E) (H := H) hm ha
  have hRA := (O.hK.2 0 (E.dA 0, .int) rfl).2
  refine va_clone O.hx O.hb (hl.1.trans O.hml.symm).symm O.hown (O.hts _ hlk) (O.hts _ hsm) (O.hts _ hnat) (O.hts _ hin) (O.hts _ hse) (O.cast hcl) O.hK hP hD hS O.hA q0 0 hq rfl (va_nm_int hRA) (va_fit (fun _ _ => rfl)) hfr hlo hk hn d (fun q H1 hK1 hP1 hD1 hS1 => ?_)
  exact kk q (g_new_fresh hD1 hm) O H1 locs la ⟨g_old O.hS0 hS1, _, hP1, hD1, g_new_in hm⟩ hS1 hl hL
/-- an array of references of the start is cloned; its class is told exactly -/
theorem g_cloneT {index a j N : Nat} {f : Nat → Nat} {C ad : String} (t' : Nat) (hT : gTb E (.object C) a N (fun i => .ref (f i))) (hO : OldO E ad a) (hsz : ∀ cell : Cell, E.S0.heap[a]? = some cell → cell.slots.size = N) (ht : (gTys E)[j]? = some (E.dA j, .object C)) (hnm : ∀ s : State, va_RA s (E.dA j) (.object C) → s.vm.findClass ad = some (E.dA j)) (hlk : Cond.methodLink own index ⟨ad, "clone", "()Ljava/lang/Object;"⟩ ∈ lw_all) (hsm : Cond.sameMethod ad "java/lang/Object" "clone" "()Ljava/lang/Object;" ∈ lw_all) (hnat : Cond.native ⟨"java/lang/Object", "clone", "()Ljava/lang/Object;"⟩ ∈ lw_all) (hin : Cond.instanceMethod ⟨"java/lang/Object", "clone", "()Ljava/lang/Object;"⟩ ∈ lw_all) (hse : Cond.selects ad ⟨ad, "clone", "()Ljava/lang/Object;"⟩ ⟨"java/lang/Object", "clone", "()Ljava/lang/Object;"⟩ ∈ lw_all) (hcl : Cond.castable ad "java/lang/Cloneable" ∈ lw_tbl)
    (hfr : 1 ≤ M.rm.frames) (hlo : (st.map fun v => v.category).sum + 14 ≤ M.rm.locals) (hk : k + 1 ≤ M.rm.cells) (hn : n + N ≤ M.rm.slots) (d : decode cc pc = .ok (.invokevirtual index, 3)) (kk : ∀ q : Nat, h q = none → V E cc own M Po Px X (g_up h q (t', gAR E j N (fun i => some (f i)))) (k + 1) (n + N) (pc + 3) ls (.ref q :: st)) : V E cc own M Po Px X h k n pc ls (.ref a :: st) := by
  intro O H locs la hI hS hl hL
  obtain ⟨h0, ws, hP, hD, hm⟩ := id hI
  have hK := O.hK
  have hnmX := hnm _ (hK.2 j _ ht).2
  obtain ⟨cell, g1, g2, g3⟩ := hO
  obtain ⟨cx, e1, e2, e3, e4, e5, e6, e7⟩ := hT
  cases g1.symm.trans e1
  have hcls : E.dA j = cell.cls := by
    have z := g3
    rw [← O.hW.alike.findClass, hnmX] at z
    exact Option.some.inj z
  have hsl : cell.slots = (arrV (E.dA j) N (fun i => Value.ref (f i))).slots := by
    have hs := hsz cell e1
    apply Array.ext_getElem?
    intro i
    by_cases hi : i < N
    · rw [e6 i hi, arrV_read _ _ hi]
    · rw [Array.getElem?_eq_none (by omega), Array.getElem?_eq_none (by rw [arrV_size]; omega)]
  have hcellH : H[a]? = some cell := hI.old e1
  obtain ⟨c0, t0', f1, f2, f3⟩ := Cond.castable_spec (va_Nw.use (A := X.args) rfl (O.cast hcl))
  cases hnmX.symm.trans f1
  have hvs : ∀ kx, cell.vm ≠ .statics kx := fun kx z => by
    rw [z] at g2
    cases g2
  intro T hT' X'
  have hcellT : T.heap[a]? = some cell := by rw [hT']; exact hcellH
  obtain ⟨-, kA, hkA, comp, hkind⟩ := State.isArrayOf_alike X'.warmed.alike ((hK.2 j _ ht).1 0 (fun _ => .null))
  obtain ⟨-, kS, hkS, compS, hkindS⟩ := (hK.2 j _ ht).1 0 (fun _ => .null)
  obtain ⟨vm', X2, st2⟩ := X'.cloneArray O.hx O.hown (O.hts _ hlk) (O.hts _ hsm) (O.hts _ hnat) (O.hts _ hin) (O.hts _ hse) (a := a) (cell := cell) hcellT hvs e3 (by rw [← hcls]; exact hnmX) f2 (by rw [← hcls]; exact f3)
    (fun i v hv => by
      rw [← hcls]
      have hk' : T.vm.classes[E.dA j]? = some kA := hkA
      have hv2 : fits (.object C) v = true := by
        rw [hsl] at hv
        exact va_fit (F := fun i => Value.ref (f i)) (fun _ _ => rfl) i v hv
      simpa [State.fitsSlot, State.slotType?, hk', hkind] using hv2)
    (g := F0 X.m pc la (.ref a :: st)) rfl (by rw [O.hml]; exact hl.1) rfl (by rw [O.hb]; exact d) hfr (by show 2 * 0 + _ + 14 ≤ _; omega) hk (by rw [hsz cell e1]; exact hn) (hloader := by rw [← hcls]; exact Vm.clonesLoader_of_array hkS hkindS)
  have hcellE : ({ cls := cell.cls, slots := cell.slots } : Cell) = vp_cell (E.dA j) (N, .inr (.inr (.inr (.inr (fun i => some (f i)))))) := by
    rw [vp_cell_q, hsl, ← hcls]
    rfl
  rw [hcellE, hsz cell e1] at X2
  generalize hH1 : H.push (vp_cell (E.dA j) (N, .inr (.inr (.inr (.inr (fun i => some (f i))))))) = H1
  have z1 : H1.size = H.size + 1 := by rw [← hH1, Array.size_push]
  have w1 : H1[H.size]? = some (vp_cell (E.dA j) (N, .inr (.inr (.inr (.inr (fun i => some (f i))))))) := by rw [← hH1, Array.getElem?_push_size]
  have o1 : ∀ q : Nat, q < H.size → H1[q]? = H[q]? := fun q hq => by rw [← hH1, Array.getElem?_push, if_neg (Nat.ne_of_lt hq)]
  have hkp : ∀ (kx : Nat) (y : Nat × va_E), ws[kx]? = some y → H1[y.1]? = H[y.1]? := fun kx y hy => o1 y.1 ((hP kx y hy).lt)
  have hP1 : va_P E.D gCl (ws ++ [(H.size, .inl (E.dA j, N, .inr (.inr (.inr (.inr (fun i => some (f i)))))))]) H1 := (hP.kept hkp).app (fun kx y hy => by
      have hz : kx < 1 := (List.getElem?_eq_some_iff.mp hy).1
      rw [show kx = 0 by omega] at hy
      cases hy
      exact w1)
  have hD1 : va_D (gA E) (ws ++ [(H.size, .inl (E.dA j, N, .inr (.inr (.inr (.inr (fun i => some (f i)))))))]) := hD.push hP rfl (O.hA _ hS.1)
  have hS1 : va_S (gA E) X.s.heap H1 locs := ⟨Nat.le_trans hS.1 (by omega), fun y h1 h2 => (o1 y (Nat.lt_of_lt_of_le h1 hS.1)).trans (hS.2.1 y h1 h2), hS.2.2⟩
  obtain ⟨t, b1, b2⟩ := kk H.size (g_new_fresh hD1 hm) O H1 locs la ⟨g_old O.hS0 hS1, _, hP1, hD1, g_new_in hm⟩ hS1 hl hL ((T.setVm vm').pushCell (vp_cell (E.dA j) (N, .inr (.inr (.inr (.inr (fun i => some (f i)))))))) (by rw [← hH1, ← hT']; rfl) X2
  refine ⟨t, st2 t ?_, b2⟩
  rw [hcellE, hT']
  exact b1
end GR4

