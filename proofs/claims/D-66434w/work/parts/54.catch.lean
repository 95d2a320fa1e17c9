/-! catches -/
section FH
variable {E : CtlPost} {e : Env} {d : Bool} {acts : List Action} {s : State} {f : JFrame} {a : Addr} {Q : Handler → Pre}
theorem fh_cold {x : ExceptionTableEntry} {t : List ExceptionTableEntry} {c : ClassId} {vm' : Vm} (hx : covers x f.pc = true) (h0 : x.catchType ≠ 0) (hg : (Jvm.resolveClass f.method.cls x.catchType).Gives e.toSetting s.vm (.ok c) vm') (hr : vm'.classReady f.method.cls x.catchType c) (hsz : vm'.classes.size ≤ s.vm.classes.size) :
    wp (findHandler.go f a (x :: t)) Q E e d acts s ↔ wp (findHandler.go f a (x :: t)) Q E e d acts (s.setVm vm') := by
  obtain ⟨ha, ht⟩ := hg.op (op := VmOp.resolveClass f.method.cls x.catchType) rfl
  obtain ⟨k, hkd, hres⟩ := hr
  simp only [covers] at hx
  simp [findHandler.go, hx, h0, ha, ht, hsz, resolveClass_memo e hkd hres, VmOp.dirties, VmOp.acts]
  exact Iff.rfl
end FH
def FindsV (e : Env) (s : State) (f : JFrame) (a : Addr) (h : Handler) (vm' : Vm) : Prop := ∀ (Q : Handler → Pre) (E : CtlPost) (d : Bool) (acts : List Action), wp (findHandler f a) Q E e d acts s ↔ Q h d acts (s.setVm vm')
theorem stepThrowing_catchV {e : Env} {s : State} {a : Addr} {f : JFrame} {r : List Frame} {pc : Nat} {vm' : Vm} (hfind : FindsV e s f a (.found pc) vm') :
    (stepThrowing e s a (.java f :: r)).Is ((s.setVm vm').setFrames (.java { f with pc := pc, stack := [.ref a] } :: r)) [] := by
  simp only [stepThrowing, searchFrame, vmDo]
  generalize hr : Sem.go _ e false [] s = res
  obtain ⟨as, rfl, ha⟩ := Sem.eq_ok_of hr (a := Handler.found pc) (s' := s.setVm vm') (acts' := []) (by simp [hfind _ _ _ _])
  exact ⟨rfl, ha⟩
section CV
variable {p : Program} {l : Launch} {e : Env} {R : Room} {s : State} {m : MethodId} {args : Array Value} {below : List Frame} {meth : Method} {c : Code} {H : Heap} {locs : List Loc} {cells slots : Nat} {Q : State → Prop}
variable {cc : ByteArray} {pc : Nat} {ls : Array Slot} {rest st : List Value} {D : va_G} {cA : Nat → ClassId} {y : MethodName} {bytes : ByteArray} {maxL nL kc n index : Nat} {ret : Option FieldType} {own X : String} {As : List Value} {Pre : Heap → Prop} {b : Nat}
theorem catchV {T : State} (S : Stand p l e R s m args below meth c T locs cells slots) (a : Addr) {g : JFrame} (hg : g.method = m) {pc : Nat} {vm' : Vm} (hfind : FindsV e ((T.setTop g).pushFrame (.throwing a)) g a (.found pc) vm') {target : State}
    (hrest : Steps p.tables e below ((T.setVm vm').setTop { g with pc := pc, stack := [.ref a] }) target) : Steps p.tables e below ((T.setTop g).pushFrame (.throwing a)) target := by
  have h : At T g.method c below := by rw [hg]; exact S.here
  obtain ⟨hgo, hw⟩ := h.throwing a
  refine Steps.head hgo hw ?_
  rw [stepThread_throwing (frames_entered h.top _), (stepThrowing_catchV (s := (T.setTop g).pushFrame (.throwing a)) hfind).1]
  obtain ⟨g₀, hg0⟩ := Option.isSome_iff_exists.mp h.top
  obtain ⟨r, hr⟩ := State.topJava?_eq_some.mp hg0
  have hr' : (T.setVm vm').frames = .java g₀ :: r := hr
  rw [State.setTop_of_frames _ hr'] at hrest
  rw [State.pushFrame, State.setTop_of_frames _ hr, State.setFrames_setFrames]
  rw [show ((T.setFrames (Frame.throwing a :: (T.setFrames (Frame.java g :: r)).frames)).setVm vm') = (T.setVm vm').setFrames (Frame.throwing a :: (T.setFrames (Frame.java g :: r)).frames) from rfl, State.setFrames_setFrames, hr]
  exact hrest
/-- IllegalStateException is no IllegalArgumentException -/
def NC (U : State) : Prop := ∀ ci ca, U.vm.findClass "java/lang/IllegalStateException" = some ci → U.vm.findClass "java/lang/IllegalArgumentException" = some ca → U.vm.assignable ci ca = false
theorem NC.warm {U V : State} (h : NC U) (hW : U.WarmedH V.vm) : NC V := fun ci ca h1 h2 => by
  rw [hW.alike.findClass] at h1 h2
  rw [hW.alike.assignable]
  exact h ci ca h1 h2
def hmap (x : ExceptionTableEntry) : Nat × Nat × Nat × Nat := (x.startPc, x.endPc, x.handlerPc, x.catchType)
theorem self_assign {args : Array Value} {U : State} {C : String} {cc : ClassId} (h : (Cond.castable C C).before args U = true) (hc : U.vm.findClass C = some cc) : U.vm.assignable cc cc = true := by
  obtain ⟨c1, c2, h1, h2, h3⟩ := Cond.castable_spec h
  cases h1.symm.trans hc
  cases h2.symm.trans hc
  exact h3
/-- the first row takes an object of its own class -/
theorem finds1 {T : State} (S : Stand p l e R s m args below meth c T locs cells slots) (hK : KE D cA s) {own C : String} (hown : s.vm.findClass own = some m.cls) {x1 : ExceptionTableEntry} {t : List ExceptionTableEntry} (htab : c.exceptionTable.toList = x1 :: t) {g : JFrame} (hg : g.method = m) (hcov : covers x1 g.pc = true) (h0 : x1.catchType ≠ 0) (tl : Cond.classLink own x1.catchType C ∈ TW) (tcc : Cond.castable C C ∈ TW) {x : Nat} {ce : Cell} (hce : T.heap[x]? = some ce) (hvm : ce.vm = .none) (hcl : s.vm.findClass C = some ce.cls) :
    ∃ vm', s.WarmedH vm' ∧ FindsV e ((T.setTop g).pushFrame (.throwing x)) g x (.found x1.handlerPc) vm' := by
  have hpl : e.platform.magicAccessors = ({} : Platform).magicAccessors := by rw [S.admits.platform]
  obtain ⟨cC, hfc, hcls⟩ := Cond.classLink_spec hown (hK.w tl (a := args)) e.platform hpl
  cases hfc.symm.trans hcl
  obtain ⟨hg1, hw1, hr1⟩ := State.classEntry (e := e) S.warmed hcls
  generalize hv1 : T.vm.noted m.cls x1.catchType (.cls ce.cls) = vm1 at hg1 hw1 hr1
  obtain ⟨k1, hk1⟩ := Vm.classAt_of_findClass (show vm1.findClass C = some ce.cls from by rw [hw1.alike.findClass]; exact hcl)
  have hvT := Stand.throwing_vm T g x
  have hhT := Stand.throwing_heap T g x
  have hm' : ((T.setTop g).pushFrame (.throwing x)).vm.method? g.method = some meth := by rw [hvT, hg]; exact S.method'
  refine ⟨vm1, hw1, fun Q E d acts => ?_⟩
  have hsz : vm1.classes.size ≤ ((T.setTop g).pushFrame (.throwing x)).vm.classes.size := by
    rw [hvT]
    exact Vm.Alike.size_le (S.warmed.alike.symm.trans hw1.alike)
  rw [Jvm.W.findHandler_eq hm' S.code, htab, fh_cold hcov h0 (by rw [hvT, hg]; exact hg1) (by rw [hg]; exact hr1) hsz]
  rw [Jvm.W.findHandler_go_class (s := ((T.setTop g).pushFrame (.throwing x)).setVm vm1) hcov h0 (by rw [hg]; exact hr1) (by show ((T.setTop g).pushFrame (.throwing x)).heap[x]? = _; rw [hhT]; exact hce) (fun k h => by rw [hvm] at h; cases h) ⟨k1, hk1⟩ ⟨k1, hk1⟩, if_pos]
  show vm1.assignable ce.cls ce.cls = true
  rw [hw1.alike.assignable]
  exact self_assign (hK.w tcc (a := args)) hcl
/-- the first row passes it by, the second takes it -/
theorem finds2 {T : State} (S : Stand p l e R s m args below meth c T locs cells slots) (hK : KE D cA s) (hNC : NC s) {own : String} (hown : s.vm.findClass own = some m.cls) {x1 x2 : ExceptionTableEntry} {t : List ExceptionTableEntry} (htab : c.exceptionTable.toList = x1 :: x2 :: t) {g : JFrame} (hg : g.method = m) (hcov : covers x1 g.pc = true) (hcov2 : covers x2 g.pc = true) (h0 : x1.catchType ≠ 0) (h02 : x2.catchType ≠ 0) (tl : Cond.classLink own x1.catchType "java/lang/IllegalArgumentException" ∈ TW) (tl2 : Cond.classLink own x2.catchType "java/lang/IllegalStateException" ∈ TW) {x : Nat} {ce : Cell} (hce : T.heap[x]? = some ce) (hvm : ce.vm = .none) (hcl : s.vm.findClass "java/lang/IllegalStateException" = some ce.cls) :
    ∃ vm', s.WarmedH vm' ∧ FindsV e ((T.setTop g).pushFrame (.throwing x)) g x (.found x2.handlerPc) vm' := by
  have hpl : e.platform.magicAccessors = ({} : Platform).magicAccessors := by rw [S.admits.platform]
  obtain ⟨cI, hfc, hcls⟩ := Cond.classLink_spec hown (hK.w tl (a := args)) e.platform hpl
  obtain ⟨cC, hfc2, hcls2⟩ := Cond.classLink_spec hown (hK.w tl2 (a := args)) e.platform hpl
  cases hfc2.symm.trans hcl
  obtain ⟨hg1, hw1, hr1⟩ := State.classEntry (e := e) S.warmed hcls
  obtain ⟨hg2, hw2, hr2⟩ := State.classEntry (e := e) hw1 hcls2
  generalize hv1 : T.vm.noted m.cls x1.catchType (.cls cI) = vm1 at hg1 hw1 hr1 hg2 hw2 hr2
  generalize hv2 : vm1.noted m.cls x2.catchType (.cls ce.cls) = vm2 at hg2 hw2 hr2
  obtain ⟨k1, hk1⟩ := Vm.classAt_of_findClass (show vm1.findClass _ = some ce.cls from by rw [hw1.alike.findClass]; exact hcl)
  obtain ⟨k1i, hk1i⟩ := Vm.classAt_of_findClass (show vm1.findClass _ = some cI from by rw [hw1.alike.findClass]; exact hfc)
  obtain ⟨k2, hk2⟩ := Vm.classAt_of_findClass (show vm2.findClass _ = some ce.cls from by rw [hw2.alike.findClass]; exact hcl)
  have hvT := Stand.throwing_vm T g x
  have hhT := Stand.throwing_heap T g x
  have hm' : ((T.setTop g).pushFrame (.throwing x)).vm.method? g.method = some meth := by rw [hvT, hg]; exact S.method'
  refine ⟨vm2, hw2, fun Q E d acts => ?_⟩
  have hsz : vm1.classes.size ≤ ((T.setTop g).pushFrame (.throwing x)).vm.classes.size := by
    rw [hvT]
    exact Vm.Alike.size_le (S.warmed.alike.symm.trans hw1.alike)
  have hsz2 : vm2.classes.size ≤ (((T.setTop g).pushFrame (.throwing x)).setVm vm1).vm.classes.size := Vm.Alike.size_le (hw1.alike.symm.trans hw2.alike)
  rw [Jvm.W.findHandler_eq hm' S.code, htab, fh_cold hcov h0 (by rw [hvT, hg]; exact hg1) (by rw [hg]; exact hr1) hsz]
  rw [Jvm.W.findHandler_go_class (s := ((T.setTop g).pushFrame (.throwing x)).setVm vm1) hcov h0 (by rw [hg]; exact hr1) (by show ((T.setTop g).pushFrame (.throwing x)).heap[x]? = _; rw [hhT]; exact hce) (fun k h => by rw [hvm] at h; cases h) ⟨k1, hk1⟩ ⟨k1i, hk1i⟩, if_neg]
  · rw [fh_cold (s := ((T.setTop g).pushFrame (.throwing x)).setVm vm1) hcov2 h02 (by rw [hg]; exact hg2) (by rw [hg]; exact hr2) hsz2]
    rw [Jvm.W.findHandler_go_class (s := (((T.setTop g).pushFrame (.throwing x)).setVm vm1).setVm vm2) hcov2 h02 (by rw [hg]; exact hr2) (by show ((T.setTop g).pushFrame (.throwing x)).heap[x]? = _; rw [hhT]; exact hce) (fun k h => by rw [hvm] at h; cases h) ⟨k2, hk2⟩ ⟨k2, hk2⟩, if_pos]
    · exact Iff.rfl
    · show vm2.assignable ce.cls ce.cls = true
      rw [hw2.alike.assignable]
      exact self_assign (hK.w t_467 (a := args)) hcl
  · show ¬ vm1.assignable ce.cls cI = true
    rw [hw1.alike.assignable, hNC ce.cls cI hcl hfc]
    decide
/-- a virtual call that throws; the exception is caught here -/
theorem t_VC (hexec : p.tables.exec = Jvm.exec) (hb : c.code = cc) (hml : c.maxLocals = nL) (hown : s.vm.findClass own = some m.cls) (hK : KE D cA s) {C : String} (hM : CtT l y bytes maxL ret kc D cA (.ref b :: As) Pre X) (tc : Cond.code y bytes maxL ret ∈ TW) (tn : Cond.initialized y.cls ∈ TW) (tl : Cond.methodLink own index y ∈ TW) (ti : Cond.instanceMethod y ∈ TW) (ts : Cond.selects C y y ∈ TW) (hd : yOk y n) (hR : kc + 1 ≤ R.frames ∧ 8 + (maxL + 11) + 60 * kc ≤ R.locals) (hC : cells + 1 ≤ R.cells ∧ slots + 6 ≤ R.slots)
    (hrec : ∃ cellB : Cell, H[b]? = some cellB ∧ cellB.vm.isStatics = false ∧ s.vm.findClass C = some cellB.cls) (hTh : ∀ T : State, s.WarmedH T.vm → T.heap = H → Th T) (hpre : Pre H) (hn : As.length = n) (hsize : ls.size = nL) (hst : st = As.reverse ++ .ref b :: rest) (hW : (rest.map fun v => v.category).sum ≤ 8) (hdg : decode cc pc = .ok (.invokevirtual index, 3)) {hpc : Nat}
    (hfind : ∀ (T : State) (cells slots : Nat), Stand p l e R s m args below meth c T locs cells slots → ∀ (g : JFrame), g.method = m → g.pc = pc → ∀ (x : Nat) (ce : Cell), T.heap[x]? = some ce → ce.vm = .none → s.vm.findClass X = some ce.cls → ∃ vm', s.WarmedH vm' ∧ FindsV e ((T.setTop g).pushFrame (.throwing x)) g x (.found hpc) vm')
    (kk : ∀ (x : Nat) (H1 : Heap), (∀ (q : Nat) (cell : Cell), H[q]? = some cell → H1[q]? = some cell) → H.size ≤ H1.size → W p l e R s m args below meth c H1 locs (cells + 1) (slots + 6) Q (F0 m hpc ls [.ref x])) : W p l e R s m args below meth c H locs cells slots Q (F0 m pc ls st) := by
  intro T hT S
  subst hT
  obtain ⟨cellB, hcell, hobj, hcls⟩ := hrec
  obtain ⟨mk, methM, hnamed, hmethM, hstM, habM⟩ := Cond.instanceMethod_spec (hK.w ti (a := args))
  obtain ⟨methM', cM, hmethM', -, -, -, -, -, -, hsigM⟩ := Cond.code_spec hnamed (hK.w tc (a := args))
  cases hmethM.symm.trans hmethM'
  obtain ⟨c2, r2, m2, q1, q2, q3, q4, kP, hkP, hkPi⟩ := Cond.selects_spec (hK.w ts (a := args))
  cases hcls.symm.trans q1
  cases (State.methodFound?_of_named hnamed ⟨hd.1, hd.2.1⟩).symm.trans q2
  cases hnamed.symm.trans q3
  have hselP : selectMethod e.platform s.vm cellB.cls mk = .method mk := by rw [Launch.admits_selectMethod S.admits]; exact q4
  obtain ⟨vm₁, S₁, hstep₁⟩ := S.invokevirtual hexec hown (hK.w tl) hnamed hmethM hstM hkP hkPi ⟨hd.1, hd.2.1⟩ (a := b) (cell := cellB) hcell
    (fun z h => by rw [h] at hobj; cases hobj) hselP hmethM habM hkP hkPi (g := F0 m pc ls st) rfl (argsL := As) (rest := rest) (by have h2 := hd.2.2; rw [hsigM] at h2; exact hn.trans (Option.some.inj h2).symm) hst (by rw [hb]; exact hdg)
  obtain ⟨x, ce, T', S', h1, h2, h3, h4, h5, h6, h7, h8⟩ := t_core S₁ hM (g := { F0 m pc ls st with stack := rest }) (ig := .invokevirtual index) (len := 3) (mk := mk) rfl (hsize.trans hml.symm) (by rw [hb]; exact hdg) (lv_room hW) (S₁.named hnamed) (fun a => (hK.warm S₁.warmed).w tc) (fun a => (hK.warm S₁.warmed).w tn) hR hC (hK.warm S₁.warmed) (hTh _ S₁.warmed rfl) hpre
  obtain ⟨vm', hw', hfv⟩ := hfind T' _ _ S' { F0 m pc ls st with stack := rest } rfl rfl x ce h2 h3 (by rw [← S₁.warmed.alike.findClass]; exact h4)
  obtain ⟨t, a1, b1⟩ := kk x T'.heap h5 h6 (T'.setVm vm') rfl (S'.noted hw')
  exact ⟨t, hstep₁ _ fun acts => by rw [doInvoke_state]; exact h8.trans (catchV S' x rfl hfv a1), b1⟩
end CV
