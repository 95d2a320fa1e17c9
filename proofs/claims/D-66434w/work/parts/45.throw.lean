/-! exceptions -/
theorem ls_moved {C n d : String} {s T : State} (h : ∀ a : Array Value, (Cond.laysStatic C n d).before a s = true) (hW : s.WarmedH T.vm) (hh : ∀ (q : Nat) (cell : Cell), s.heap[q]? = some cell → cell.vm.isStatics = true → T.heap[q]? = some cell) : ∀ a : Array Value, (Cond.laysStatic C n d).before a T = true := by
  intro a0
  obtain ⟨c, k, i, f, a, cell, hc, hi, hst, ha, hcell, hs, hcls, hlt, hty⟩ := Cond.laysStatic_spec (h #[])
  obtain ⟨k', hi', hek⟩ := State.fieldFound?_setVm (vm' := T.vm) hW.alike hi
  exact Cond.laysStatic_of (s := T) (by rw [hW.alike.findClass]; exact hc) hi' hst (by rw [hek]; exact ha) (hh a cell hcell hs) hs hcls hlt (by rw [hek]; exact hty)
theorem ir_moved {C n d : String} {s T : State} (h : ∀ a : Array Value, (Cond.isRef (.static C n d)).before a s = true) (hl : ∀ a : Array Value, (Cond.laysStatic C n d).before a s = true) (hW : s.WarmedH T.vm) (hh : ∀ (q : Nat) (cell : Cell), s.heap[q]? = some cell → cell.vm.isStatics = true → T.heap[q]? = some cell) : ∀ a : Array Value, (Cond.isRef (.static C n d)).before a T = true := by
  intro a0
  obtain ⟨c, k, i, f, a, cell, hc, hi, hst, ha, hcell, hs, hcls, hlt, hty⟩ := Cond.laysStatic_spec (hl #[])
  obtain ⟨⟨u, hok⟩, hu⟩ := Cond.staticRefV hi hst ha hcell hs (h #[])
  obtain ⟨k', hi', hek⟩ := State.fieldFound?_setVm (vm' := T.vm) hW.alike hi
  have he : (Term.static C n d).eval a0 T none [] T = some u := Term.static_eval (s := T) hi' hst (by rw [hek]; exact ha) (hh a cell hcell hs) hs hu
  cases u <;> simp [Value.isRef] at hok <;> simp [Cond.before, Cond.holds, Cond.value, he]
/-- what a throw asks of Throwable's own fields -/
def Th (U : State) : Prop := (∀ a : Array Value, (Cond.laysStatic "java/lang/Throwable" "UNASSIGNED_STACK" "[Ljava/lang/StackTraceElement;").before a U = true) ∧ (∀ a : Array Value, (Cond.laysStatic "java/lang/Throwable" "SUPPRESSED_SENTINEL" "Ljava/util/List;").before a U = true) ∧ (∀ a : Array Value, (Cond.isRef (.static "java/lang/Throwable" "UNASSIGNED_STACK" "[Ljava/lang/StackTraceElement;")).before a U = true) ∧ (∀ a : Array Value, (Cond.isRef (.static "java/lang/Throwable" "SUPPRESSED_SENTINEL" "Ljava/util/List;")).before a U = true)
theorem Th.moved {s T : State} (h : Th s) (hW : s.WarmedH T.vm) (hh : ∀ (q : Nat) (cell : Cell), s.heap[q]? = some cell → cell.vm.isStatics = true → T.heap[q]? = some cell) : Th T :=
  ⟨ls_moved h.1 hW hh, ls_moved h.2.1 hW hh, ir_moved h.2.2.1 h.1 hW hh, ir_moved h.2.2.2 h.2.1 hW hh⟩
/-- the room of a method that may throw -/
abbrev rlt (k : Nat) : Room := { frames := k, cells := 1, slots := 6, locals := 60 * k }
/-- the end in an exception of the class X: one new cell, all else as it was -/
def QT (X : String) (st : State) (o : Outcome) (t : State) : Prop := ∃ (x : Nat) (ce : Cell), o = .threw x ∧ st.WarmedH t.vm ∧ st.sameButNew ({ t with vm := st.vm } : State) [] 1 6 ∧ st.heap.size ≤ x ∧ t.heap[x]? = some ce ∧ ce.vm = .none ∧ st.vm.findClass X = some ce.cls
/-- a contract of a method that throws -/
def CtT (l : Launch) (y : MethodName) (bytes : ByteArray) (maxL : Nat) (ret : Option FieldType) (k : Nat) (D : va_G) (cA : Nat → ClassId) (av : List Value) (Pre : Heap → Prop) (X : String) : Prop :=
  MetFree l y (headSpec [.code y bytes maxL ret] (rlt k)) (va_Pc av (fun U => KE D cA U ∧ Th U ∧ Pre U.heap)) (fun _ _ _ _ _ => True) (fun _ st o t => QT X st o t)
def MT (below : List Frame) (X : String) (s : State) : State → Prop := fun t => ∃ o, t.status = .running ∧ Ended t below o ∧ QT X s o t
theorem CtT.mk {l : Launch} {y : MethodName} {bytes : ByteArray} {maxL : Nat} {ret : Option FieldType} {k : Nat} {D : va_G} {cA : Nat → ClassId} {av : List Value} {Pre : Heap → Prop} {X : String}
    (hy : plainName y.cls = true) (hn : (lg_sl av).length ≤ maxL)
    (body : ∀ (p : Program) (e : Env) (s : State) (m : MethodId) (args : Array Value) (below : List Frame) (meth : Method) (c : Code) (Q : State → Prop) (H : Heap) (locs : List Loc) (ls : Array Slot), p.tables.exec = Jvm.exec → c.code = bytes → meth.sig.returnType = ret → c.maxLocals = maxL → meth.locks = false → s.vm.findClass y.cls = some m.cls → meth.name = y.name → KE D cA s → Th s → c.exceptionTable.toList = [] → Q = MT below X s → va_S (fun _ => False) s.heap H locs → Pre H →
      lv_has ls maxL (lv_args 0 av) → W p l e (rlt k) s m args below meth c H locs 0 0 Q (F0 m 0 ls [])) : CtT l y bytes maxL ret k D cA av Pre X := by
  refine MetFree.of_bodyS (code := bytes) (maxLocals := maxL) (ret := ret) hy ?_ ?_
  · intro args s m h hn
    obtain ⟨meth, c, h1, h2, h3, h4, h5, h6, -, -⟩ := Cond.code_spec hn (atoms_spec (ws := [.code y bytes maxL ret]) h _ List.mem_cons_self)
    exact ⟨meth, c, h1, h2, h3, h4, h5, h6⟩
  · intro p e s m args below meth c s₁ B hml hv _
    obtain ⟨hav, hK, hTh, hP⟩ := hv
    have hl := lv_entry av (n := maxL) hn
    have hex : c.exceptionTable.isEmpty = true := BodyLoose.noHandlers B (atoms_spec (ws := [.code y bytes maxL ret]) B.pre _ List.mem_cons_self)
    have hex2 : c.exceptionTable.toList = [] := by
      have h0 : c.exceptionTable.size = 0 := by simpa [Array.isEmpty] using hex
      exact List.eq_nil_of_length_eq_zero (by simpa using h0)
    have hh0 : s₁.heap = s.heap := by rw [B.state]; rfl
    obtain ⟨t, a1, o, b1, b2, b3⟩ := body p e s m args below meth c _ s.heap [] _ B.exec B.bytes B.returns hml B.notSynchronized (findClass_of_methodNamed B.named) (name_of_methodNamed B.named B.method).1 hK hTh hex2 rfl va_S.rf hP hl s₁ hh0 (Stand.of_body B)
    refine ⟨t, o, ?_, b1, b2, b3⟩
    rw [show entryFrame m args maxL = F0 m 0 _ [] from by rw [hav]; exact lg_entry_eq ..]
    exact a1
/-- old cells stay -/
theorem sb_keep {s t : State} {k n : Nat} (h : s.sameButNew ({ t with vm := s.vm } : State) [] k n) {q : Nat} {cell : Cell} (hq : s.heap[q]? = some cell) : t.heap[q]? = some cell := by
  obtain ⟨c', h1, h2, h3, h4⟩ := h.2.2.2.2.2 q cell hq
  have h1' : t.heap[q]? = some c' := h1
  rw [h1', h2]
  have : c'.slots = cell.slots := Array.ext_getElem? (fun i => h4 i (by simp))
  rw [this]
section TH
variable {p : Program} {l : Launch} {e : Env} {R : Room} {s : State} {m : MethodId} {args : Array Value} {below : List Frame} {meth : Method} {c : Code} {H : Heap} {locs : List Loc} {cells slots : Nat} {Q : State → Prop}
variable {cc : ByteArray} {pc : Nat} {ls : Array Slot} {rest st : List Value} {D : va_G} {cA : Nat → ClassId} {y : MethodName} {bytes : ByteArray} {maxL nL kc n index : Nat} {ret : Option FieldType} {own X : String} {As : List Value} {Pre : Heap → Prop} {b : Nat}
/-- a callee that throws, from the point of its call -/
theorem t_core {T : State} (S : Stand p l e R s m args below meth c T locs cells slots) (hM : CtT l y bytes maxL ret kc D cA As Pre X) {g : JFrame} {ig : Instr} {len : Nat} {mk : MethodId} (hg : g.method = m) (hsize : g.locals.size = c.maxLocals) (hdg : decode c.code g.pc = .ok (ig, len)) (hW : 2 * g.monitorRoom + (g.stack.map fun v => v.category).sum ≤ 8) (hn : T.methodNamed? y = some mk)
    (hcode : ∀ a : Array Value, (Cond.code y bytes maxL ret).before a T = true) (hini : ∀ a : Array Value, (Cond.initialized y.cls).before a T = true) (hR : kc + 1 ≤ R.frames ∧ 8 + (maxL + 11) + 60 * kc ≤ R.locals) (hC : cells + 1 ≤ R.cells ∧ slots + 6 ≤ R.slots) (hK : KE D cA T) (hTh : Th T) (hpre : Pre T.heap) :
    ∃ (x : Nat) (ce : Cell) (T' : State), Stand p l e R s m args below meth c T' locs (cells + 1) (slots + 6) ∧ T.heap.size ≤ x ∧ T'.heap[x]? = some ce ∧ ce.vm = .none ∧ T.vm.findClass X = some ce.cls ∧ (∀ (q : Nat) (cell : Cell), T.heap[q]? = some cell → T'.heap[q]? = some cell) ∧ T.heap.size ≤ T'.heap.size ∧ T.WarmedH T'.vm ∧
      Steps p.tables e below (doInvoke e (T.setTop g) [] mk As.toArray).1 ((T'.setTop g).pushFrame (.throwing x)) := by
  obtain ⟨methY, cY, hmY, hcY, -, hlY, -, -, -, -⟩ := Cond.code_spec hn (hcode As.toArray)
  obtain ⟨kY, hkY, -⟩ := className_of_methodNamed hn
  have hinitY : kY.init = .initialized := Cond.initialized_spec (findClass_of_methodNamed hn) hkY (hini As.toArray)
  have h : At T g.method c below := by rw [hg]; exact S.here
  have happ : (headSpec [.code y bytes maxL ret] (rlt kc)).appliesLoose y e.platform (T.calling g mk As.toArray) = true :=
    Spec.appliesLoose_calling (g := g) h hdg hn hkY hinitY
      (S.room_calling (g := g) (R' := rlt kc) hsize hmY hcY hR.1 (by rw [hlY]; have := hR.2; show _ ≤ _; simp only [rlt]; omega) hC.1 hC.2)
      (atoms_intro fun w hw => by rw [List.mem_singleton.mp hw]; exact hcode _)
  obtain ⟨mid, hmid⟩ := h.above
  have hfr : (T.setTop g).frames = (.java g :: mid) ++ below := by rw [State.frames_setTop' g h.top, hmid]; rfl
  obtain ⟨o, s₂, hsteps, -, hend, hq⟩ := Steps.callFree hM p S.admits S.cas S.clock (acts := []) hfr happ ⟨rfl, hK.same rfl, hTh.moved (State.WarmedH.refl _) (fun _ _ a _ => a), hpre⟩ trivial
  rw [State.frames_setTop' g h.top] at hend
  have hq : QT X (T.calling g mk As.toArray) o s₂ := hq
  obtain ⟨x, ce, rfl, hW₂, hfe, hx1, hx2, hx3, hx4⟩ := hq
  obtain ⟨e2, q2, q3, q4, q5, q6⟩ := id hfe
  have e3 : s₂ = ({ (T.calling g mk As.toArray).setFrames s₂.frames with heap := s₂.heap, slotsUsed := s₂.slotsUsed } : State).setVm s₂.vm := by
    have : s₂ = ({ s₂ with vm := (T.calling g mk As.toArray).vm } : State).setVm s₂.vm := rfl
    rw [e2] at this
    exact this
  have hf₂ : s₂.frames = .throwing x :: .java g :: T.frames.tail := hend
  have hW' : T.WarmedH s₂.vm := hW₂
  obtain ⟨g₀, hg0⟩ := Option.isSome_iff_exists.mp h.top
  obtain ⟨r, hr⟩ := State.topJava?_eq_some.mp hg0
  have hs₂ : s₂ = ((({ T with heap := s₂.heap, slotsUsed := s₂.slotsUsed } : State).setVm s₂.vm).setTop g).pushFrame (.throwing x) := by
    have hr' : (({ T with heap := s₂.heap, slotsUsed := s₂.slotsUsed } : State).setVm s₂.vm).frames = .java g₀ :: r := hr
    refine e3.trans ?_
    rw [hf₂, State.calling_eq h.top, State.setFrames_setFrames, State.pushFrame, State.frames_setTop _ hr', State.setTop_of_frames _ hr', State.setFrames_setFrames, hr]
    rfl
  have hsame : T.sameButNew ({ T with heap := s₂.heap, slotsUsed := s₂.slotsUsed } : State) [] 1 6 := by
    refine ⟨?_, q2, q3, q4, q5, q6⟩
    obtain ⟨t, ht, -⟩ := State.frames_cons hr
    show ({ T with heap := s₂.heap, slotsUsed := s₂.slotsUsed } : State) = { T.setFrames T.frames with heap := s₂.heap, slotsUsed := s₂.slotsUsed }
    rw [State.setFrames_self ht]
  subst hg
  have hst := S.same.trans (hsame.setVm s.vm)
  rw [List.append_nil] at hst
  refine ⟨x, ce, (({ T with heap := s₂.heap, slotsUsed := s₂.slotsUsed } : State).setVm s₂.vm),
    ⟨S.admits, S.cas, S.clock, S.frames, S.room, S.hears, S.method, S.code, (S.here.setHeapUsed s₂.heap s₂.slotsUsed).setVm hW'.alike, S.tail, State.WarmedH.trans S.warmed hW', S.limits, S.bytes, hst⟩, hx1, hx2, hx3, hx4, fun q cell hq => sb_keep (t := s₂) hfe hq, q2, hW', ?_⟩
  show Steps p.tables e below _ (((({ T with heap := s₂.heap, slotsUsed := s₂.slotsUsed } : State).setVm s₂.vm).setTop g).pushFrame (.throwing x))
  rw [← hs₂]
  exact hsteps
/-- the exception leaves the method -/
theorem t_leave {T T' : State} {g : JFrame} {x : Nat} {ce : Cell} (S0 : Stand p l e R s m args below meth c T locs 0 0) (S : Stand p l e R s m args below meth c T' locs (0 + 1) (0 + 6)) (hS : va_S (fun _ => False) s.heap T.heap locs) (hg : g.method = m) (hlo : g.locked = none) (hen : g.entered = []) (hex : c.exceptionTable.toList = []) (hlk : meth.locks = false) (h1 : T.heap.size ≤ x) (h2 : T'.heap[x]? = some ce) (h3 : ce.vm = .none) (h4 : s.vm.findClass X = some ce.cls) {u : State} (hst : Steps p.tables e below u ((T'.setTop g).pushFrame (.throwing x))) : ∃ t, Steps p.tables e below u t ∧ MT below X s t := by
  obtain ⟨hw, h5, h6, h7, h8⟩ := S.leaveThrown x (g := g) hg hlo hen (by rw [hex]; intro q hq; cases hq) hlk
  have hl0 : locs = [] := by
    cases locs with
    | nil => rfl
    | cons a r => exact (hS.2.2 a List.mem_cons_self).elim
  subst hl0
  exact ⟨_, hst.trans hw, .threw x, h5, h6, x, ce, rfl, h7, h8, Nat.le_trans hS.1 h1, h2, h3, h4⟩
theorem t_heap (hS : va_S (fun _ => False) s.heap H locs) {q : Nat} {cell : Cell} (hq : s.heap[q]? = some cell) : H[q]? = some cell := by
  rw [hS.2.1 q (Array.getElem?_eq_some_iff.mp hq).1 (fun h => h)]; exact hq
/-- a static call that throws, and no handler -/
theorem t_S (hexec : p.tables.exec = Jvm.exec) (hb : c.code = cc) (hml : c.maxLocals = nL) (hown : s.vm.findClass own = some m.cls) (hK : KE D cA s) (hTh : Th s) (hM : CtT l y bytes maxL ret kc D cA As Pre X) (tc : Cond.code y bytes maxL ret ∈ TW) (tn : Cond.initialized y.cls ∈ TW) (tl : Cond.methodLink own index y ∈ TW) (ts : Cond.static y ∈ TW) (hd : yOk y n) (hR : kc + 1 ≤ R.frames ∧ 8 + (maxL + 11) + 60 * kc ≤ R.locals) (hC : 1 ≤ R.cells ∧ 6 ≤ R.slots)
    (hpre : Pre H) (hn : As.length = n) (hsize : ls.size = nL) (hst : st = As.reverse ++ rest) (hW : (rest.map fun v => v.category).sum ≤ 8) (hdg : decode cc pc = .ok (.invokestatic index, 3)) (hS : va_S (fun _ => False) s.heap H locs) (hex : c.exceptionTable.toList = []) (hlk : meth.locks = false) (hQ : Q = MT below X s) : W p l e R s m args below meth c H locs 0 0 Q (F0 m pc ls st) := by
  intro T hT S
  subst hT
  rw [hQ]
  obtain ⟨mk, hnamed⟩ := Cond.code_named (hK.w tc (a := args))
  obtain ⟨methM, cM, hmethM, -, -, -, -, -, -, hsigM⟩ := Cond.code_spec hnamed (hK.w tc (a := args))
  have hstatic : methM.isStatic = true := Cond.static_spec hnamed hmethM (hK.w ts (a := args))
  obtain ⟨kP, hkP, -⟩ := className_of_methodNamed hnamed
  have hinitP : kP.init = .initialized := Cond.initialized_spec (findClass_of_methodNamed hnamed) hkP (hK.w tn (a := args))
  obtain ⟨vm₁, S₁, hstep₁⟩ := S.invokestatic hexec hown (hK.w tl) hnamed hmethM hstatic hkP hinitP ⟨hd.1, hd.2.1⟩ (g := F0 m pc ls st) rfl (argsL := As) (rest := rest) (by have h2 := hd.2.2; rw [hsigM] at h2; exact hn.trans (Option.some.inj h2).symm) hst (by rw [hb]; exact hdg)
  obtain ⟨x, ce, T', S', h1, h2, h3, h4, h5, h6, h7, h8⟩ := t_core S₁ hM (g := { F0 m pc ls st with stack := rest }) (ig := .invokestatic index) (len := 3) (mk := mk) rfl (hsize.trans hml.symm) (by rw [hb]; exact hdg) (lv_room hW) (S₁.named hnamed) (fun a => (hK.warm S₁.warmed).w tc) (fun a => (hK.warm S₁.warmed).w tn) hR hC (hK.warm S₁.warmed) (hTh.moved S₁.warmed (fun q cell a _ => t_heap hS a)) hpre
  exact t_leave (g := { F0 m pc ls st with stack := rest }) S S' hS rfl rfl rfl hex hlk h1 h2 h3 (by rw [← S₁.warmed.alike.findClass]; exact h4) (hstep₁ _ fun acts => by rw [doInvoke_state]; exact h8)
/-- a virtual call that throws, and no handler -/
theorem t_V (hexec : p.tables.exec = Jvm.exec) (hb : c.code = cc) (hml : c.maxLocals = nL) (hown : s.vm.findClass own = some m.cls) (hK : KE D cA s) (hTh : Th s) {C : String} (hM : CtT l y bytes maxL ret kc D cA (.ref b :: As) Pre X) (tc : Cond.code y bytes maxL ret ∈ TW) (tn : Cond.initialized y.cls ∈ TW) (tl : Cond.methodLink own index y ∈ TW) (ti : Cond.instanceMethod y ∈ TW) (ts : Cond.selects C y y ∈ TW) (hd : yOk y n) (hR : kc + 1 ≤ R.frames ∧ 8 + (maxL + 11) + 60 * kc ≤ R.locals) (hC : 1 ≤ R.cells ∧ 6 ≤ R.slots)
    (hrec : ∃ cellB : Cell, H[b]? = some cellB ∧ cellB.vm.isStatics = false ∧ s.vm.findClass C = some cellB.cls) (hpre : Pre H) (hn : As.length = n) (hsize : ls.size = nL) (hst : st = As.reverse ++ .ref b :: rest) (hW : (rest.map fun v => v.category).sum ≤ 8) (hdg : decode cc pc = .ok (.invokevirtual index, 3)) (hS : va_S (fun _ => False) s.heap H locs) (hex : c.exceptionTable.toList = []) (hlk : meth.locks = false) (hQ : Q = MT below X s) : W p l e R s m args below meth c H locs 0 0 Q (F0 m pc ls st) := by
  intro T hT S
  subst hT
  rw [hQ]
  obtain ⟨cellB, hcell, hobj, hcls⟩ := hrec
  obtain ⟨mk, methM, hnamed, hmethM, hstM, habM⟩ := Cond.instanceMethod_spec (hK.w ti (a := args))
  obtain ⟨methM', cM, hmethM', -, -, -, -, -, -, hsigM⟩ := Cond.code_spec hnamed (hK.w tc (a := args))
  cases hmethM.symm.trans hmethM'
  obtain ⟨c2, r2, m2, q1, q2, q3, q4, kP, hkP, hkPi⟩ := Cond.selects_spec (hK.w ts (a := args))
  cases hcls.symm.trans q1
  cases (State.methodFound?_of_named hnamed ⟨hd.1, hd.2.1⟩).symm.trans q2
  cases hnamed.symm.trans q3
  have hselP : selectMethod e.platform s.vm cellB.cls mk = .method mk := by rw [Launch.admits_selectMethod S.admits]; exact q4
  obtain ⟨vm₁, S₁, hstep₁⟩ := S.invokevirtual hexec hown (hK.w tl) hnamed hmethM hstM hkP hkPi ⟨hd.1, hd.2.1⟩ (a := b) (cell := cellB) hcell
    (fun z h => by rw [h] at hobj; cases hobj) hselP hmethM habM hkP hkPi (g := F0 m pc ls st) rfl (argsL := As) (rest := rest) (by have h2 := hd.2.2; rw [hsigM] at h2; exact hn.trans (Option.some.inj h2).symm) hst (by rw [hb]; exact hdg)
  obtain ⟨x, ce, T', S', h1, h2, h3, h4, h5, h6, h7, h8⟩ := t_core S₁ hM (g := { F0 m pc ls st with stack := rest }) (ig := .invokevirtual index) (len := 3) (mk := mk) rfl (hsize.trans hml.symm) (by rw [hb]; exact hdg) (lv_room hW) (S₁.named hnamed) (fun a => (hK.warm S₁.warmed).w tc) (fun a => (hK.warm S₁.warmed).w tn) hR hC (hK.warm S₁.warmed) (hTh.moved S₁.warmed (fun q cell a _ => t_heap hS a)) hpre
  exact t_leave (g := { F0 m pc ls st with stack := rest }) S S' hS rfl rfl rfl hex hlk h1 h2 h3 (by rw [← S₁.warmed.alike.findClass]; exact h4) (hstep₁ _ fun acts => by rw [doInvoke_state]; exact h8)
/-- new, dup, the constructor, athrow -/
theorem t_new (hexec : p.tables.exec = Jvm.exec) (hb : c.code = cc) (htr : l.stackTraces = false) (hown : s.vm.findClass own = some m.cls) {ic : Nat} {names : List String} (hX : Bundle.fit X = true) (hnm : ∀ n ∈ names, Bundle.fit n = true) (hat : ∀ a ∈ Bundle.ownAtoms0 own ic X names, a.before args s = true) (hcl : (Cond.classLink own index X).before args s = true) (hini : (Cond.initialized X).before args s = true) (hml : c.maxLocals = nL) (hsize : ls.size = nL) (hlk : meth.locks = false) (hex : c.exceptionTable.toList = [])
    (hdg : decode cc pc = .ok (.new index, 3)) (hdg3 : decode cc (pc + 3) = .ok (.dup, 1)) (hdg4 : decode cc (pc + 4) = .ok (.invokespecial ic, 3)) (hdg7 : decode cc (pc + 7) = .ok (.athrow, 1)) (hC : 1 ≤ R.cells ∧ 6 ≤ R.slots) (hR : names.length + 3 < R.frames ∧ 13 * (names.length + 1) + 42 ≤ R.locals) (hS : va_S (fun _ => False) s.heap H locs) (hQ : Q = MT below X s) : W p l e R s m args below meth c H locs 0 0 Q (F0 m pc ls []) := by
  intro T hT S
  subst hT
  rw [hQ]
  have hl0 : locs = [] := by
    cases locs with
    | nil => rfl
    | cons a r => exact (hS.2.2 a List.mem_cons_self).elim
  subst hl0
  have hins : (Cond.instantiable X 6).before args s = true := hat _ (by simp [Bundle.ownAtoms0])
  have htr2 : e.platform.stackTraces = false := by rw [Jvm.Example.NoTraceControls.admits_follows S.admits]; exact htr
  obtain ⟨vm₁, cX, kX, hfX, hkX, -, -, S₁, st1⟩ := S.newCold hexec (own := own) (C := X) (index := index) (n := 6) hown hcl hins hini (g := F0 m pc ls []) rfl (by rw [hb]; exact hdg) (by simpa using hC.1) (by simpa using hC.2)
  generalize hT2 : (T.setVm vm₁).pushCell { cls := cX, slots := kX.instanceTypes.map defaultValue, vm := .none } = T2 at S₁ st1
  have hcellA : T2.heap[T.heap.size]? = some (freshCell cX kX) := by rw [← hT2]; exact State.heap_pushCell_size _ _
  obtain ⟨U, hsteps, hrun, hend, hW, hsame, ce, hce, K⟩ := S₁.ctorThrow0 hexec htr2 (own := own) (cls := X) (names := names) (ic := ic) hown hX hnm hat (fun y hy => by cases hy) hfX hkX hcellA hS.1
    (g := F0 m (pc + 4) ls [.ref T.heap.size, .ref T.heap.size]) rfl (hsize.trans hml.symm) rfl rfl (rest := []) rfl (by rw [hb]; exact hdg4) (by rw [hb]; exact hdg7) (by rw [hex]; intro q hq; cases hq) hR.1 (by have := hR.2; simp [JFrame.monitorRoom, Value.category]; omega) hlk
  refine ⟨U, st1 _ ?_, .threw T.heap.size, hrun, hend, T.heap.size, ce, rfl, hW, hsame, hS.1, hce, K.vm, K.cls⟩
  refine Steps.trans ?_ hsteps
  show Steps p.tables e below (T2.setTop (F0 m (pc + 3) ls [.ref T.heap.size])) _
  jvm_step S₁.here [S₁.here.top, hexec, hb, hdg3, Value.category]
  exact Steps.refl _
end TH
theorem t_411 : (Jvm.Cond.lays "java/lang/IllegalArgumentException" "java/lang/Throwable" "cause" "Ljava/lang/Throwable;") ∈ TW := List.mem_filter.mpr ⟨List.mem_append_right _ (List.mem_of_getElem? (i := 411) (by decide +kernel)), rfl⟩
theorem t_412 : (Jvm.Cond.lays "java/lang/Throwable" "java/lang/Throwable" "cause" "Ljava/lang/Throwable;") ∈ TW := List.mem_filter.mpr ⟨List.mem_append_right _ (List.mem_of_getElem? (i := 412) (by decide +kernel)), rfl⟩
theorem t_413 : (Jvm.Cond.lays "java/lang/IllegalArgumentException" "java/lang/Throwable" "stackTrace" "[Ljava/lang/StackTraceElement;") ∈ TW := List.mem_filter.mpr ⟨List.mem_append_right _ (List.mem_of_getElem? (i := 413) (by decide +kernel)), rfl⟩
theorem t_414 : (Jvm.Cond.lays "java/lang/Throwable" "java/lang/Throwable" "stackTrace" "[Ljava/lang/StackTraceElement;") ∈ TW := List.mem_filter.mpr ⟨List.mem_append_right _ (List.mem_of_getElem? (i := 414) (by decide +kernel)), rfl⟩
theorem t_415 : (Jvm.Cond.lays "java/lang/IllegalArgumentException" "java/lang/Throwable" "suppressedExceptions" "Ljava/util/List;") ∈ TW := List.mem_filter.mpr ⟨List.mem_append_right _ (List.mem_of_getElem? (i := 415) (by decide +kernel)), rfl⟩
theorem t_416 : (Jvm.Cond.lays "java/lang/Throwable" "java/lang/Throwable" "suppressedExceptions" "Ljava/util/List;") ∈ TW := List.mem_filter.mpr ⟨List.mem_append_right _ (List.mem_of_getElem? (i := 416) (by decide +kernel)), rfl⟩
theorem t_417 : (Jvm.Cond.lays "java/lang/IllegalArgumentException" "java/lang/Throwable" "detailMessage" "Ljava/lang/String;") ∈ TW := List.mem_filter.mpr ⟨List.mem_append_right _ (List.mem_of_getElem? (i := 417) (by decide +kernel)), rfl⟩
theorem t_418 : (Jvm.Cond.lays "java/lang/Throwable" "java/lang/Throwable" "detailMessage" "Ljava/lang/String;") ∈ TW := List.mem_filter.mpr ⟨List.mem_append_right _ (List.mem_of_getElem? (i := 418) (by decide +kernel)), rfl⟩
theorem t_419 : (Jvm.Cond.lays "java/lang/IllegalArgumentException" "java/lang/Throwable" "backtrace" "Ljava/lang/Object;") ∈ TW := List.mem_filter.mpr ⟨List.mem_append_right _ (List.mem_of_getElem? (i := 419) (by decide +kernel)), rfl⟩
theorem t_420 : (Jvm.Cond.lays "java/lang/Throwable" "java/lang/Throwable" "backtrace" "Ljava/lang/Object;") ∈ TW := List.mem_filter.mpr ⟨List.mem_append_right _ (List.mem_of_getElem? (i := 420) (by decide +kernel)), rfl⟩
theorem t_422 : (Jvm.Cond.superclass "java/lang/Throwable" "java/lang/Object") ∈ TW := List.mem_filter.mpr ⟨List.mem_append_right _ (List.mem_of_getElem? (i := 422) (by decide +kernel)), rfl⟩
theorem t_434 : (Jvm.Cond.codeSync ({ cls := "java/lang/Throwable", name := "fillInStackTrace", desc := "()Ljava/lang/Throwable;" } : Jvm.MethodName) prog_23_method_18_code (1 : Nat) (Option.some (Jvm.ClassFile.FieldType.object "java/lang/Throwable"))) ∈ TW := List.mem_filter.mpr ⟨List.mem_append_right _ (List.mem_of_getElem? (i := 434) (by decide +kernel)), rfl⟩
theorem t_469 : (Jvm.Cond.lays "java/lang/IllegalStateException" "java/lang/Throwable" "cause" "Ljava/lang/Throwable;") ∈ TW := List.mem_filter.mpr ⟨List.mem_append_right _ (List.mem_of_getElem? (i := 469) (by decide +kernel)), rfl⟩
theorem t_470 : (Jvm.Cond.lays "java/lang/IllegalStateException" "java/lang/Throwable" "stackTrace" "[Ljava/lang/StackTraceElement;") ∈ TW := List.mem_filter.mpr ⟨List.mem_append_right _ (List.mem_of_getElem? (i := 470) (by decide +kernel)), rfl⟩
theorem t_471 : (Jvm.Cond.lays "java/lang/IllegalStateException" "java/lang/Throwable" "suppressedExceptions" "Ljava/util/List;") ∈ TW := List.mem_filter.mpr ⟨List.mem_append_right _ (List.mem_of_getElem? (i := 471) (by decide +kernel)), rfl⟩
theorem t_472 : (Jvm.Cond.lays "java/lang/IllegalStateException" "java/lang/Throwable" "detailMessage" "Ljava/lang/String;") ∈ TW := List.mem_filter.mpr ⟨List.mem_append_right _ (List.mem_of_getElem? (i := 472) (by decide +kernel)), rfl⟩
theorem t_473 : (Jvm.Cond.lays "java/lang/IllegalStateException" "java/lang/Throwable" "backtrace" "Ljava/lang/Object;") ∈ TW := List.mem_filter.mpr ⟨List.mem_append_right _ (List.mem_of_getElem? (i := 473) (by decide +kernel)), rfl⟩
theorem al_cons {α : Type} {P : α → Prop} {a : α} {l : List α} (h : P a) (g : ∀ x ∈ l, P x) : ∀ x ∈ a :: l, P x := fun x hx => by rcases List.mem_cons.mp hx with rfl | q; exact h; exact g x q
theorem d_Sht_need_0 : decode b_Sht_need 0 = .ok (.iload_n 0, 1) := by decide +kernel
theorem d_Sht_need_1 : decode b_Sht_need 1 = .ok (.ifCond .ne 11, 3) := by decide +kernel
theorem d_Sht_need_4 : decode b_Sht_need 4 = .ok (.new 63, 3) := by decide +kernel
theorem d_Sht_need_7 : decode b_Sht_need 7 = .ok (.dup, 1) := by decide +kernel
theorem d_Sht_need_8 : decode b_Sht_need 8 = .ok (.invokespecial 65, 3) := by decide +kernel
theorem d_Sht_need_11 : decode b_Sht_need 11 = .ok (.athrow, 1) := by decide +kernel
theorem d_Sht_need_12 : decode b_Sht_need 12 = .ok (.return_, 1) := by decide +kernel
theorem a_Sht_need {D : va_G} {cA : Nat → ClassId} {s : State} {args : Array Value} (hK : KE D cA s) (hTh : Th s) : ∀ a ∈ Bundle.ownAtoms0 "RangeSheet" 65 "java/lang/IllegalArgumentException" ["java/lang/RuntimeException", "java/lang/Exception"], a.before args s = true :=
  (al_cons (hK.w t_5) (al_cons (hK.w t_422) (al_cons (hK.w t_431) (al_cons (hK.w t_434) (al_cons (hK.w t_437) (al_cons (hK.w t_439) (al_cons (hK.w t_423) (al_cons (hK.w t_424) (al_cons (hK.w t_29) (al_cons (hK.w t_30) (al_cons (hK.w t_425) (al_cons (hK.w t_430) (al_cons (hK.w t_435) (al_cons (hK.w t_451) (al_cons (hK.w t_412) (al_cons (hK.w t_452) (al_cons (hK.w t_414) (al_cons (hK.w t_453) (al_cons (hK.w t_416) (al_cons (hK.w t_426) (al_cons (hTh.1 _) (al_cons (hK.w t_428) (al_cons (hTh.2.1 _) (al_cons (hK.w t_418) (al_cons (hK.w t_441) (al_cons (hK.w t_442) (al_cons (hK.w t_443) (al_cons (hK.w t_444) (al_cons (hK.w t_403) (al_cons (hK.w t_444) (al_cons (hK.w t_445) (al_cons (hK.w t_446) (al_cons (hK.w t_447) (al_cons (hK.w t_405) (al_cons (hK.w t_447) (al_cons (hK.w t_448) (al_cons (hK.w t_449) (al_cons (hK.w t_423) (al_cons (hK.w t_407) (al_cons (hK.w t_440) (al_cons (hK.w t_401) (al_cons (hK.w t_402) (al_cons (hK.w t_409) (al_cons (hK.w t_410) (al_cons (hK.w t_411) (al_cons (hK.w t_413) (al_cons (hK.w t_415) (al_cons (hK.w t_417) (al_cons (hTh.2.2.1 _) (al_cons (hTh.2.2.2 _) (al_cons (hK.w t_421) (al_cons (hK.w t_420) (al_cons (hK.w t_419) (fun _ h => absurd h List.not_mem_nil))))))))))))))))))))))))))))))))))))))))))))))))))))))
theorem k_Sht_need_T (l : Launch) (htr : l.stackTraces = false) (D : va_G) (cA : Nat → ClassId) (b : Bool) (h0 : b = false) : CtT l y_Sht_need b_Sht_need 1 none 7 D cA [.int (bi b)] (fun _ => True) "java/lang/IllegalArgumentException" := by
  subst h0
  refine CtT.mk (by decide) (Nat.le_of_ble_eq_true rfl) ?_
  intro p e s m args below meth c Q H locs ls hx hb hr hml hlk hown hin hK hTh hex hQ hS hP hl
  have hl : lv_has ls 1 [(0, .int (bi false))] := hl
  have hown : s.vm.findClass "RangeSheet" = some m.cls := hown
  refine lv_iload_n hx hb d_Sht_need_0 rfl (lv_at hl 0 rfl) ?_
  refine b_bool_ne (tgt := 12) hx hb d_Sht_need_1 (by decide) (fun c_1 => by cases c_1) (fun _ => ?_)
  exact t_new hx hb htr hown (by decide +kernel) (by decide +kernel) (a_Sht_need hK hTh) (hK.w t_400) (hK.w t_8) hml hl.1 hlk hex d_Sht_need_4 d_Sht_need_7 d_Sht_need_8 d_Sht_need_11 ⟨Nat.le_of_ble_eq_true rfl, Nat.le_of_ble_eq_true rfl⟩ ⟨Nat.le_of_ble_eq_true rfl, Nat.le_of_ble_eq_true rfl⟩ hS hQ
theorem k_Sht_need (l : Launch) (D : va_G) (cA : Nat → ClassId) (H0 : Heap) (b : Bool) (h0 : b = true) : Ct l y_Sht_need b_Sht_need 1 none 1 D cA [.int (bi b)] (fun H => H = H0) (fun r H => r = none ∧ H = H0) (fun _ => False) := by
  subst h0
  refine Ct.mk (by decide) (Nat.le_of_ble_eq_true rfl) ?_
  intro p e s m args below meth c Q H locs ls hx hb hr hml hlk hown hin hK hQ hS hP hl
  have hl : lv_has ls 1 [(0, .int (bi true))] := hl
  refine lv_iload_n hx hb d_Sht_need_0 rfl (lv_at hl 0 rfl) ?_
  refine b_bool_ne (tgt := 12) hx hb d_Sht_need_1 (by decide) (fun _ => ?_) (fun c_1 => by cases c_1)
  exact e_v hx hb hr hlk hQ hS d_Sht_need_12 ⟨rfl, hP⟩
theorem r_Sht_need {p : Program} {l : Launch} {e : Env} {R : Room} {s : State} {m : MethodId} {args : Array Value} {below : List Frame} {meth : Method} {c : Code} {H : Heap} {locs : List Loc} {cells slots : Nat} {Q : State → Prop} {cc : ByteArray} {pc : Nat} {ls : Array Slot} {rest : List Value} {D : va_G} {cA : Nat → ClassId} {A0 : Nat → Prop} {H0 : Heap} {nL : Nat} (hexec : p.tables.exec = Jvm.exec) (hb : c.code = cc) (hml : c.maxLocals = nL) (hown : s.vm.findClass "RangeSheet" = some m.cls) (hK : KE D cA s) (hsize : ls.size = nL) (hS : va_S A0 H0 H locs) (hR : 2 ≤ R.frames ∧ 80 ≤ R.locals) (hc : cells ≤ R.cells ∧ slots ≤ R.slots) {b : Bool} (h0 : b = true) (hdg : decode cc pc = .ok (.invokestatic 73, 3)) (hW : (rest.map fun v => v.category).sum ≤ 8) (kk : ∀ locs1 : List Loc, va_S A0 H0 H locs1 → W p l e R s m args below meth c H locs1 cells slots Q (F0 m (pc + 3) ls rest)) : W p l e R s m args below meth c H locs cells slots Q (F0 m pc ls (.int (bi b) :: rest)) := by
  refine x_S (As := [.int (bi b)]) (rest := rest) hexec hb hml hown hK (k_Sht_need l D cA H b h0) t_399 t_1 t_397 t_398 yk_Sht_need hR rfl rfl hsize rfl hW hdg hc hS (fun q h => h.elim) (fun r H1 locs1 hq _ hS1 => ?_)
  obtain ⟨rfl, rfl⟩ := hq
  exact kk locs1 hS1
theorem d_Sht_needRoom_0 : decode b_Sht_needRoom 0 = .ok (.iload_n 0, 1) := by decide +kernel
theorem d_Sht_needRoom_1 : decode b_Sht_needRoom 1 = .ok (.ifCond .ne 11, 3) := by decide +kernel
theorem d_Sht_needRoom_4 : decode b_Sht_needRoom 4 = .ok (.new 66, 3) := by decide +kernel
theorem d_Sht_needRoom_7 : decode b_Sht_needRoom 7 = .ok (.dup, 1) := by decide +kernel
theorem d_Sht_needRoom_8 : decode b_Sht_needRoom 8 = .ok (.invokespecial 68, 3) := by decide +kernel
theorem d_Sht_needRoom_11 : decode b_Sht_needRoom 11 = .ok (.athrow, 1) := by decide +kernel
theorem d_Sht_needRoom_12 : decode b_Sht_needRoom 12 = .ok (.return_, 1) := by decide +kernel
theorem a_Sht_needRoom {D : va_G} {cA : Nat → ClassId} {s : State} {args : Array Value} (hK : KE D cA s) (hTh : Th s) : ∀ a ∈ Bundle.ownAtoms0 "RangeSheet" 68 "java/lang/IllegalStateException" ["java/lang/RuntimeException", "java/lang/Exception"], a.before args s = true :=
  (al_cons (hK.w t_5) (al_cons (hK.w t_422) (al_cons (hK.w t_431) (al_cons (hK.w t_434) (al_cons (hK.w t_437) (al_cons (hK.w t_439) (al_cons (hK.w t_423) (al_cons (hK.w t_424) (al_cons (hK.w t_29) (al_cons (hK.w t_30) (al_cons (hK.w t_425) (al_cons (hK.w t_430) (al_cons (hK.w t_435) (al_cons (hK.w t_451) (al_cons (hK.w t_412) (al_cons (hK.w t_452) (al_cons (hK.w t_414) (al_cons (hK.w t_453) (al_cons (hK.w t_416) (al_cons (hK.w t_426) (al_cons (hTh.1 _) (al_cons (hK.w t_428) (al_cons (hTh.2.1 _) (al_cons (hK.w t_418) (al_cons (hK.w t_475) (al_cons (hK.w t_476) (al_cons (hK.w t_477) (al_cons (hK.w t_444) (al_cons (hK.w t_403) (al_cons (hK.w t_444) (al_cons (hK.w t_445) (al_cons (hK.w t_446) (al_cons (hK.w t_447) (al_cons (hK.w t_405) (al_cons (hK.w t_447) (al_cons (hK.w t_448) (al_cons (hK.w t_449) (al_cons (hK.w t_423) (al_cons (hK.w t_407) (al_cons (hK.w t_474) (al_cons (hK.w t_466) (al_cons (hK.w t_467) (al_cons (hK.w t_468) (al_cons (hK.w t_433) (al_cons (hK.w t_469) (al_cons (hK.w t_470) (al_cons (hK.w t_471) (al_cons (hK.w t_472) (al_cons (hTh.2.2.1 _) (al_cons (hTh.2.2.2 _) (al_cons (hK.w t_421) (al_cons (hK.w t_420) (al_cons (hK.w t_473) (fun _ h => absurd h List.not_mem_nil))))))))))))))))))))))))))))))))))))))))))))))))))))))
theorem k_Sht_needRoom_T (l : Launch) (htr : l.stackTraces = false) (D : va_G) (cA : Nat → ClassId) (b : Bool) (h0 : b = false) : CtT l y_Sht_needRoom b_Sht_needRoom 1 none 7 D cA [.int (bi b)] (fun _ => True) "java/lang/IllegalStateException" := by
  subst h0
  refine CtT.mk (by decide) (Nat.le_of_ble_eq_true rfl) ?_
  intro p e s m args below meth c Q H locs ls hx hb hr hml hlk hown hin hK hTh hex hQ hS hP hl
  have hl : lv_has ls 1 [(0, .int (bi false))] := hl
  have hown : s.vm.findClass "RangeSheet" = some m.cls := hown
  refine lv_iload_n hx hb d_Sht_needRoom_0 rfl (lv_at hl 0 rfl) ?_
  refine b_bool_ne (tgt := 12) hx hb d_Sht_needRoom_1 (by decide) (fun c_1 => by cases c_1) (fun _ => ?_)
  exact t_new hx hb htr hown (by decide +kernel) (by decide +kernel) (a_Sht_needRoom hK hTh) (hK.w t_465) (hK.w t_9) hml hl.1 hlk hex d_Sht_needRoom_4 d_Sht_needRoom_7 d_Sht_needRoom_8 d_Sht_needRoom_11 ⟨Nat.le_of_ble_eq_true rfl, Nat.le_of_ble_eq_true rfl⟩ ⟨Nat.le_of_ble_eq_true rfl, Nat.le_of_ble_eq_true rfl⟩ hS hQ
theorem k_Sht_needRoom (l : Launch) (D : va_G) (cA : Nat → ClassId) (H0 : Heap) (b : Bool) (h0 : b = true) : Ct l y_Sht_needRoom b_Sht_needRoom 1 none 1 D cA [.int (bi b)] (fun H => H = H0) (fun r H => r = none ∧ H = H0) (fun _ => False) := by
  subst h0
  refine Ct.mk (by decide) (Nat.le_of_ble_eq_true rfl) ?_
  intro p e s m args below meth c Q H locs ls hx hb hr hml hlk hown hin hK hQ hS hP hl
  have hl : lv_has ls 1 [(0, .int (bi true))] := hl
  refine lv_iload_n hx hb d_Sht_needRoom_0 rfl (lv_at hl 0 rfl) ?_
  refine b_bool_ne (tgt := 12) hx hb d_Sht_needRoom_1 (by decide) (fun _ => ?_) (fun c_1 => by cases c_1)
  exact e_v hx hb hr hlk hQ hS d_Sht_needRoom_12 ⟨rfl, hP⟩
theorem r_Sht_needRoom {p : Program} {l : Launch} {e : Env} {R : Room} {s : State} {m : MethodId} {args : Array Value} {below : List Frame} {meth : Method} {c : Code} {H : Heap} {locs : List Loc} {cells slots : Nat} {Q : State → Prop} {cc : ByteArray} {pc : Nat} {ls : Array Slot} {rest : List Value} {D : va_G} {cA : Nat → ClassId} {A0 : Nat → Prop} {H0 : Heap} {nL : Nat} (hexec : p.tables.exec = Jvm.exec) (hb : c.code = cc) (hml : c.maxLocals = nL) (hown : s.vm.findClass "RangeSheet" = some m.cls) (hK : KE D cA s) (hsize : ls.size = nL) (hS : va_S A0 H0 H locs) (hR : 2 ≤ R.frames ∧ 80 ≤ R.locals) (hc : cells ≤ R.cells ∧ slots ≤ R.slots) {b : Bool} (h0 : b = true) (hdg : decode cc pc = .ok (.invokestatic 77, 3)) (hW : (rest.map fun v => v.category).sum ≤ 8) (kk : ∀ locs1 : List Loc, va_S A0 H0 H locs1 → W p l e R s m args below meth c H locs1 cells slots Q (F0 m (pc + 3) ls rest)) : W p l e R s m args below meth c H locs cells slots Q (F0 m pc ls (.int (bi b) :: rest)) := by
  refine x_S (As := [.int (bi b)]) (rest := rest) hexec hb hml hown hK (k_Sht_needRoom l D cA H b h0) t_464 t_1 t_462 t_463 yk_Sht_needRoom hR rfl rfl hsize rfl hW hdg hc hS (fun q h => h.elim) (fun r H1 locs1 hq _ hS1 => ?_)
  obtain ⟨rfl, rfl⟩ := hq
  exact kk locs1 hS1
