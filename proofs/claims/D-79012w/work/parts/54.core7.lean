/-! CONTRACTS TOLD OF HEAPS: their calls, their ends -/
set_option maxRecDepth 100000
theorem Ct.ofK {E : GE} {cc : ByteArray} {M : GM} {av : List Value} {h : AH} {Po : Option Value → AH → Prop} {Px : String → Nat → AH → Prop} (H : CtK E cc M av (gJ E h rT) (fun v H => ∃ h', Po v h' ∧ gI E h' H) (fun C q H => ∃ h', Px C q h' ∧ gI E h' H)) : Ct E cc M av h Po Px := by
  intro hE p e hl hc hk s m args below hf ha hp hK
  obtain ⟨e1, e2, e3⟩ := hp
  obtain ⟨n, o, h1, h2, h3, h4⟩ := H hE p e hl hc hk s m args below hf ha ⟨e1, e2, e3, trivial⟩ hK
  refine ⟨n, o, h1, h2, h3, ?_⟩
  rcases h4 with ⟨⟨⟨v, e1, h', e2, e3⟩, e4⟩, e5⟩ | ⟨q, ho, C, ce, L, ⟨⟨h', e1, e2⟩, e3⟩, e4⟩
  · exact Or.inl ⟨⟨⟨v, h', e1, e2, e3⟩, e4⟩, e5⟩
  · exact Or.inr ⟨q, ho, C, ce, L, ⟨⟨h', e1, e2⟩, e3⟩, e4⟩
def pKv (E : GE) (P : AH → Heap → Prop) : Option Value → Heap → Prop := fun v H => v = none ∧ ∃ h', P h' H ∧ gI E h' H
def pKn (E : GE) (P : Nat → AH → Heap → Prop) : Option Value → Heap → Prop := fun v H => ∃ (r : Nat) (h' : AH), v = some (.int (nI r)) ∧ P r h' H ∧ gI E h' H
def pKr (E : GE) (P : Nat → AH → Heap → Prop) : Option Value → Heap → Prop := fun v H => ∃ (r : Nat) (h' : AH), v = some (.ref r) ∧ P r h' H ∧ gI E h' H
def pKx (E : GE) (P : String → Nat → AH → Heap → Prop) : String → Nat → Heap → Prop := fun C q H => ∃ h', P C q h' H ∧ gI E h' H
def noK : String → Nat → Heap → Prop := fun _ _ _ => False
section QR2
variable {E : GE} {cc : ByteArray} {own : String} {M : GM} {Qv : Option Value → Heap → Prop} {Qx : String → Nat → Heap → Prop} {X : GX} {h : AH} {R : Heap → Prop} {k n pc : Nat} {ls : List (Option Value)} {st : List Value}
theorem qk_vK {P : AH → Heap → Prop} {pc' k' n' : Nat} (kk : ∀ h', VK E cc own M Qv Qx X (gJ E h' (fun H => P h' H ∧ R H)) k' n' pc' ls st) : ∀ v, VK E cc own M Qv Qx X (fun H => pKv E P v H ∧ R H) k' n' pc' ls (v.toList ++ st) := by
  rintro v O H locs la ⟨⟨rfl, h', hp, hI⟩, hR⟩ hS hl hL
  exact kk h' O H locs la ⟨hI, hp, hR⟩ hS hl hL
theorem qk_nK {P : Nat → AH → Heap → Prop} {pc' k' n' : Nat} (kk : ∀ r h', VK E cc own M Qv Qx X (gJ E h' (fun H => P r h' H ∧ R H)) k' n' pc' ls (.int (nI r) :: st)) : ∀ v, VK E cc own M Qv Qx X (fun H => pKn E P v H ∧ R H) k' n' pc' ls (v.toList ++ st) := by
  rintro v O H locs la ⟨⟨r, h', rfl, hp, hI⟩, hR⟩ hS hl hL
  exact kk r h' O H locs la ⟨hI, hp, hR⟩ hS hl hL
theorem qk_rK {P : Nat → AH → Heap → Prop} {pc' k' n' : Nat} (kk : ∀ r h', VK E cc own M Qv Qx X (gJ E h' (fun H => P r h' H ∧ R H)) k' n' pc' ls (.ref r :: st)) : ∀ v, VK E cc own M Qv Qx X (fun H => pKr E P v H ∧ R H) k' n' pc' ls (v.toList ++ st) := by
  rintro v O H locs la ⟨⟨r, h', rfl, hp, hI⟩, hR⟩ hS hl hL
  exact kk r h' O H locs la ⟨hI, hp, hR⟩ hS hl hL
theorem qk_xK {P : String → Nat → AH → Heap → Prop} {pc' k' n' : Nat} (kk : ∀ C q h', VXK E cc own M Qv Qx X (gJ E h' (fun H => P C q h' H ∧ R H)) k' n' pc' ls C q) : ∀ C q, VXK E cc own M Qv Qx X (fun H => pKx E P C q H ∧ R H) k' n' pc' ls C q := by
  rintro C q O H locs la rest ce ⟨⟨h', hp, hI⟩, hR⟩ z1 z2 z3 z4 z5 z6
  exact kk C q h' O H locs la rest ce ⟨hI, hp, hR⟩ z1 z2 z3 z4 z5 z6
theorem qk_noK {pc' k' n' : Nat} {ls' : List (Option Value)} : ∀ C q, VXK E cc own M Qv Qx X (fun H => noK C q H ∧ R H) k' n' pc' ls' C q := by
  rintro C q O H locs la rest ce ⟨z, -⟩
  exact z.elim
/-- what is known of monitors is let go; got back -/
theorem VK.drop (kk : VK E cc own M Qv Qx X (gJ E h rT) k n pc ls st) : VK E cc own M Qv Qx X (gJ E h R) k n pc ls st := VK.mono (fun _ hH => ⟨hH.1, trivial⟩) kk
theorem VK.to {R' : Heap → Prop} (hR : ∀ H, R H → R' H) (kk : VK E cc own M Qv Qx X (gJ E h R') k n pc ls st) : VK E cc own M Qv Qx X (gJ E h R) k n pc ls st := VK.mono (fun H hH => ⟨hH.1, hR H hH.2⟩) kk
theorem VXK.to {R' : Heap → Prop} {C : String} {q : Nat} (hR : ∀ H, R H → R' H) (kk : VXK E cc own M Qv Qx X (gJ E h R') k n pc ls C q) : VXK E cc own M Qv Qx X (gJ E h R) k n pc ls C q := VXK.mono (fun H hH => ⟨hH.1, hR H hH.2⟩) kk
theorem VK.old {R' : Heap → Prop} (hRS : RS R') (hX : R' X.s.heap) (kk : VK E cc own M Qv Qx X (gJ E h R') k n pc ls st) : VK E cc own M Qv Qx X (gJ E h R) k n pc ls st := VK.mon (VK.mono (fun H hH => ⟨hH.1.1, hRS _ _ hH.2 hX⟩) kk)
theorem VK.factR {P : Prop} (hR : ∀ H, R H → P) (kk : P → VK E cc own M Qv Qx X (gJ E h R) k n pc ls st) : VK E cc own M Qv Qx X (gJ E h R) k n pc ls st := VK.fact (fun H hH => hR H hH.2) kk
theorem VXK.factR {P : Prop} {C : String} {q : Nat} (hR : ∀ H, R H → P) (kk : P → VXK E cc own M Qv Qx X (gJ E h R) k n pc ls C q) : VXK E cc own M Qv Qx X (gJ E h R) k n pc ls C q := fun O H locs la rest ce hI hS hl hL h1 h2 h3 => kk (hR H hI.2) O H locs la rest ce hI hS hl hL h1 h2 h3
theorem RS.and {A B : Heap → Prop} (a : RS A) (b : RS B) : RS (fun H => A H ∧ B H) := fun H H' m z => ⟨a H H' m z.1, b H H' m z.2⟩
theorem RS.fa (a : Nat) : RS (fun H => frA H a) := fun _ _ m z => z.mon m
theorem q_preS {H : Heap} {av : List Value} {K : Heap → Prop} (O : gOk E cc own M X) (hI : K H) : PreS X.s H (va_Pc av (fun U => E.S0.WarmedH U.vm ∧ K U.heap)) av := ⟨fun _ _ _ _ q => q, fun U hU hW => ⟨rfl, State.WarmedH.trans O.hW hW, by rw [hU]; exact hI⟩⟩
theorem q_tailK {mc ms : Nat} {H : Heap} {locs : List Loc} {la : Array Slot} {st0 : List Value} {a : Array Value} {Pv : Option Value → Heap → Prop} {Px9 : String → Nat → Heap → Prop} (hRS : RS R) (hR : R H) (O : gOk E cc own M X) (hS : va_S (gA E) X.s.heap H locs) (hl : lv_has la M.nL (gL M.c2 0 ls)) (hL : ls.length = M.nL) (hr : vx_Run X.p E.l X.e M.rm X.s X.m X.args X.below X.meth X.c H locs k n mc ms (F0 X.m pc la st0) st ((fun a st o t => gQg E Pv a st o t ∧ monK st.heap t.heap) a) (fun C q st t => gXg E Px9 C q st t ∧ monK st.heap t.heap) (gA E)) (kx : ∀ (C : String) (q : Nat), VXK E cc own M Qv Qx X (fun H => Px9 C q H ∧ R H) (k + mc) (n + ms) pc ls C q) (kk : ∀ v : Option Value, VK E cc own M Qv Qx X (fun H => Pv v H ∧ R H) (k + mc) (n + ms) (pc + 3) ls (v.toList ++ st)) : W X.p E.l X.e M.rm X.s X.m X.args X.below X.meth X.c H locs k n (vx_MQ X.below (gQg E Qv) (gXg E Qx) X.args X.s M.rm.cells M.rm.slots (gA E)) (F0 X.m pc la st0) := by
  refine q_tailN (L0 := 3) (Pv := fun v H => Pv v H ∧ R H) (Px9 := fun C q H => Px9 C q H ∧ R H) O hS hl hL (fun T hT X0 => ?_) kx kk
  rcases hr T hT X0 with ⟨v, st₀, t, T', L, h0, X', hL', e1, e2, ⟨⟨⟨v', hv, hp⟩, hF⟩, hm⟩, hst⟩ | ⟨q, st₀, t, T', L, C, ce, h0, X', hL', e1, e2, ⟨⟨hp, hF⟩, hm⟩, hce, hcv, hcl, hst⟩
  · cases hv
    exact Or.inl ⟨v, st₀, t, T', L, h0, X', hL', e1, e2, ⟨⟨hp, hRS _ _ hm (by rw [h0]; exact hR)⟩, hF⟩, hst⟩
  · exact Or.inr ⟨q, st₀, t, T', L, C, ce, h0, X', hL', e1, e2, ⟨⟨hp, hRS _ _ hm (by rw [h0]; exact hR)⟩, hF⟩, hce, hcv, hcl, hst⟩
theorem q_callIK {a : Nat} {index : Nat} {cc' : ByteArray} {M' : GM} {av st0 : List Value} {Kc : Heap → Prop} {Pv : Option Value → Heap → Prop} {Px9 : String → Nat → Heap → Prop} (hc : CtK E cc' M' (.ref a :: av) Kc Pv Px9) (hKc : ∀ H, gJ E h R H → Kc H) (hk : gCi cc' M' av.length) (hlk : Cond.methodLink own index M'.y ∈ lw_all) (hR : M'.rm.frames + 1 ≤ M.rm.frames ∧ 8 + (M'.nL + 11) + M'.rm.locals ≤ M.rm.locals) (hf : k + M'.rm.cells ≤ M.rm.cells ∧ n + M'.rm.slots ≤ M.rm.slots) (hst : st0 = av.reverse ++ .ref a :: st) (hcat : (st.map fun v => v.category).sum ≤ 8) (d : decode cc pc = .ok (.invokespecial index, 3)) (kx : ∀ (C : String) (q : Nat), VXK E cc own M Qv Qx X (fun H => Px9 C q H ∧ R H) (k + M'.rm.cells) (n + M'.rm.slots) pc ls C q) (kk : ∀ v : Option Value, VK E cc own M Qv Qx X (fun H => Pv v H ∧ R H) (k + M'.rm.cells) (n + M'.rm.slots) (pc + 3) ls (v.toList ++ st)) (hRS : RS R := by first | exact RS.tt | exact RS.fr _ | assumption) : VK E cc own M Qv Qx X (gJ E h R) k n pc ls st0 := by
  intro O H locs la hI hS hl hL
  obtain ⟨k1, k2, k3, k4, k5, k6, k7⟩ := hk
  have hM := vx_Met.mon (hc O.hE)
  rw [gWs_0 k5, k7] at hM
  exact q_tailK hRS hI.2 O hS hl hL (vx_runI (index := index) ⟨O.hx, O.hb, O.hml, O.hown, O.hts⟩ hM (cwI av.length O.hts (lw_meth k3) rfl rfl rfl (O.hts _ k2) (O.hts _ hlk) (O.hts _ k1) k6 k4 hR) (q_preS O (hKc H hI)) rfl rfl hl.1 hst (lv_room hcat) d hf) kx kk
theorem q_callVRK {a : Nat} {index : Nat} {cc' : ByteArray} {M' : GM} {av st0 : List Value} {Kc : Heap → Prop} {Pv : Option Value → Heap → Prop} {Px9 : String → Nat → Heap → Prop} (hc : CtK E cc' M' (.ref a :: av) Kc Pv Px9) (hKc : ∀ H, gJ E h R H → Kc H) (hk : gCv cc' M' av.length) (hlk : Cond.methodLink own index M'.y ∈ lw_all) (hr : gRv E h a M'.y.cls) (hR : M'.rm.frames + 1 ≤ M.rm.frames ∧ 8 + (M'.nL + 11) + M'.rm.locals ≤ M.rm.locals) (hf : k + M'.rm.cells ≤ M.rm.cells ∧ n + M'.rm.slots ≤ M.rm.slots) (hst : st0 = av.reverse ++ .ref a :: st) (hcat : (st.map fun v => v.category).sum ≤ 8) (d : decode cc pc = .ok (.invokevirtual index, 3)) (kx : ∀ (C : String) (q : Nat), VXK E cc own M Qv Qx X (fun H => Px9 C q H ∧ R H) (k + M'.rm.cells) (n + M'.rm.slots) pc ls C q) (kk : ∀ v : Option Value, VK E cc own M Qv Qx X (fun H => Pv v H ∧ R H) (k + M'.rm.cells) (n + M'.rm.slots) (pc + 3) ls (v.toList ++ st)) (hRS : RS R := by first | exact RS.tt | exact RS.fr _ | assumption) : VK E cc own M Qv Qx X (gJ E h R) k n pc ls st0 := by
  intro O H locs la hI hS hl hL
  obtain ⟨k1, k2, k3, k4, k5, k6⟩ := hk
  have hM := vx_Met.mon (hc O.hE)
  rw [gWs_0 k6] at hM
  exact q_tailK hRS hI.2 O hS hl hL (vx_runV (index := index) (C := M'.y.cls) ⟨O.hx, O.hb, O.hml, O.hown, O.hts⟩ hM (cwV av.length O.hts (lw_V hlk k1 k2 k3 k4) rfl rfl rfl ⟨rfl, k5⟩ hR) ⟨(q_preS O (hKc H hI)).1, O.rv hI.1 hr, (q_preS (av := .ref a :: av) O (hKc H hI)).2⟩ rfl rfl hl.1 hst (lv_room hcat) d hf) kx kk
theorem q_callVWK {a : Nat} {index : Nat} {cc' : ByteArray} {M' : GM} {av st0 : List Value} {Kc : Heap → Prop} {Pv : Option Value → Heap → Prop} {Px9 : String → Nat → Heap → Prop} (hc : CtK E cc' M' (.ref a :: av) Kc Pv Px9) (hKc : ∀ H, gJ E h R H → Kc H) (hk : gCvW cc' M' av.length) (hlk : Cond.methodLink own index M'.y ∈ lw_all) (hr : gRv E h a M'.y.cls) (hR : M'.rm.frames + 1 ≤ M.rm.frames ∧ 8 + (M'.nL + 11) + M'.rm.locals ≤ M.rm.locals) (hf : k + M'.rm.cells ≤ M.rm.cells ∧ n + M'.rm.slots ≤ M.rm.slots) (hst : st0 = av.reverse ++ .ref a :: st) (hcat : (st.map fun v => v.category).sum ≤ 8) (d : decode cc pc = .ok (.invokevirtual index, 3)) (kx : ∀ (C : String) (q : Nat), VXK E cc own M Qv Qx X (fun H => Px9 C q H ∧ R H) (k + M'.rm.cells) (n + M'.rm.slots) pc ls C q) (kk : ∀ v : Option Value, VK E cc own M Qv Qx X (fun H => Pv v H ∧ R H) (k + M'.rm.cells) (n + M'.rm.slots) (pc + 3) ls (v.toList ++ st)) (hRS : RS R := by first | exact RS.tt | exact RS.fr _ | assumption) : VK E cc own M Qv Qx X (gJ E h R) k n pc ls st0 := by
  intro O H locs la hI hS hl hL
  obtain ⟨k1, k2, k3, k4, k5, k6⟩ := hk
  have hM := vx_Met.mon (hc O.hE)
  rw [gWs_W k6] at hM
  exact q_tailK hRS hI.2 O hS hl hL (vx_runVX (index := index) (hh := M'.hh) (C := M'.y.cls) ⟨O.hx, O.hb, O.hml, O.hown, O.hts⟩ hM (vx_cwVW av.length O.hts (lw_VW hlk k1 k2 k3 k4) rfl rfl rfl ⟨rfl, k5⟩ hR) ⟨(q_preS O (hKc H hI)).1, O.rv hI.1 hr, (q_preS (av := .ref a :: av) O (hKc H hI)).2⟩ rfl rfl hl.1 hst (lv_room hcat) d hf) kx kk
theorem q_callSK {index : Nat} {cc' : ByteArray} {M' : GM} {av st0 : List Value} {Kc : Heap → Prop} {Pv : Option Value → Heap → Prop} {Px9 : String → Nat → Heap → Prop} (hc : CtK E cc' M' av Kc Pv Px9) (hKc : ∀ H, gJ E h R H → Kc H) (hk : gCs cc' M' av.length) (hlk : Cond.methodLink own index M'.y ∈ lw_all) (hR : M'.rm.frames + 1 ≤ M.rm.frames ∧ 8 + (M'.nL + 11) + M'.rm.locals ≤ M.rm.locals) (hf : k + M'.rm.cells ≤ M.rm.cells ∧ n + M'.rm.slots ≤ M.rm.slots) (hst : st0 = av.reverse ++ st) (hcat : (st.map fun v => v.category).sum ≤ 8) (d : decode cc pc = .ok (.invokestatic index, 3)) (kx : ∀ (C : String) (q : Nat), VXK E cc own M Qv Qx X (fun H => Px9 C q H ∧ R H) (k + M'.rm.cells) (n + M'.rm.slots) pc ls C q) (kk : ∀ v : Option Value, VK E cc own M Qv Qx X (fun H => Pv v H ∧ R H) (k + M'.rm.cells) (n + M'.rm.slots) (pc + 3) ls (v.toList ++ st)) (hRS : RS R := by first | exact RS.tt | exact RS.fr _ | assumption) : VK E cc own M Qv Qx X (gJ E h R) k n pc ls st0 := by
  intro O H locs la hI hS hl hL
  obtain ⟨k1, k2, k3, k4, k5⟩ := hk
  have hM := vx_Met.mon (hc O.hE)
  rw [gWs_0 k5] at hM
  exact q_tailK hRS hI.2 O hS hl hL (vx_runS (index := index) ⟨O.hx, O.hb, O.hml, O.hown, O.hts⟩ hM (va_cwS av.length O.hts (lw_S hlk k1 k2 k3) rfl rfl rfl k4 hR) (q_preS O (hKc H hI)) rfl rfl hl.1 hst (lv_room hcat) d hf) kx kk
theorem q_callSWK {index : Nat} {cc' : ByteArray} {M' : GM} {av st0 : List Value} {Kc : Heap → Prop} {Pv : Option Value → Heap → Prop} {Px9 : String → Nat → Heap → Prop} (hc : CtK E cc' M' av Kc Pv Px9) (hKc : ∀ H, gJ E h R H → Kc H) (hk : gCsW cc' M' av.length) (hlk : Cond.methodLink own index M'.y ∈ lw_all) (hR : M'.rm.frames + 1 ≤ M.rm.frames ∧ 8 + (M'.nL + 11) + M'.rm.locals ≤ M.rm.locals) (hf : k + M'.rm.cells ≤ M.rm.cells ∧ n + M'.rm.slots ≤ M.rm.slots) (hst : st0 = av.reverse ++ st) (hcat : (st.map fun v => v.category).sum ≤ 8) (d : decode cc pc = .ok (.invokestatic index, 3)) (kx : ∀ (C : String) (q : Nat), VXK E cc own M Qv Qx X (fun H => Px9 C q H ∧ R H) (k + M'.rm.cells) (n + M'.rm.slots) pc ls C q) (kk : ∀ v : Option Value, VK E cc own M Qv Qx X (fun H => Pv v H ∧ R H) (k + M'.rm.cells) (n + M'.rm.slots) (pc + 3) ls (v.toList ++ st)) (hRS : RS R := by first | exact RS.tt | exact RS.fr _ | assumption) : VK E cc own M Qv Qx X (gJ E h R) k n pc ls st0 := by
  intro O H locs la hI hS hl hL
  obtain ⟨k1, k2, k3, k4, k5⟩ := hk
  have hM := vx_Met.mon (hc O.hE)
  rw [gWs_W k5] at hM
  exact q_tailK hRS hI.2 O hS hl hL (vx_runSX (index := index) (hh := M'.hh) ⟨O.hx, O.hb, O.hml, O.hown, O.hts⟩ hM (vx_cwSW av.length O.hts (lw_SW hlk k1 k2 k3) rfl rfl rfl k4 hR) (q_preS O (hKc H hI)) rfl rfl hl.1 hst (lv_room hcat) d hf) kx kk
end QR2
theorem q_enterW {own : String} {E : GE} {cc : ByteArray} {M : GM} {av : List Value} {K : Heap → Prop} {Qv : Option Value → Heap → Prop} {Qx : String → Nat → Heap → Prop} (ls : List (Option Value)) (hy : plainName M.y.cls = true) (how : M.y.cls = own) (hh : M.hh ≠ []) (hlen : (lg_sl av).length ≤ M.nL) (hl : gP 0 ls = lv_args 0 av) (hlL : ls.length = M.nL) (hKI : ∀ H, K H → va_S (gA E) E.S0.heap H [])
    (body : ∀ X : GX, K X.s.heap → VK E cc own M Qv Qx X K 0 0 0 ls []) : CtK E cc M av K Qv Qx := by
  intro hE
  subst how
  refine vx_ofWH (cc := cc) (maxL := M.nL) (ret := M.ret) (hh := M.hh) (ws' := lw_all) hy (gWs_W hh) ?_
  intro p e s m args below meth c s₁ B hml hv
  obtain ⟨rfl, hW, hI⟩ := hv
  have hl0 := lv_entry av (n := M.nL) hlen
  rw [lg_entry_eq]
  generalize (lg_sl av ++ List.replicate (M.nL - (lg_sl av).length) Slot.unset).toArray = la at hl0 ⊢
  have hts := atoms_spec (ws := gWs cc M) B.pre
  refine body (p, e, s, m, av.toArray, below, meth, c) hI ⟨B.exec, B.bytes, B.returns, B.notSynchronized, hml, findClass_of_methodNamed B.named, fun w h => hts w (List.mem_cons_of_mem _ h), hW, (name_of_methodNamed B.named B.method).1, ?_, hKI _ hI, hE⟩ s.heap [] la hI va_S.rf ⟨hl0.1, hl0.2.1, fun q hq => ?_⟩ hlL
  · refine vx_table (x := M.y) (bytes := cc) (maxL' := M.nL) (ret' := M.ret) B (hts _ ?_)
    rw [gWs_W hh]
    exact List.mem_cons_self
  · obtain ⟨j, v⟩ := q
    obtain ⟨-, h2, -⟩ := gL_mem.mp hq
    exact hl0.2.2 _ (hl ▸ gP_mem (Nat.zero_le _) h2)

