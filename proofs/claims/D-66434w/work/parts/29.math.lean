theorem i_xor {x y : Int32} : 0 ≤ (x ^^^ y).toInt ↔ (x.toInt < 0 ↔ y.toInt < 0) := by
  have h1 : (x ^^^ y).toBitVec.msb = decide ((x ^^^ y).toInt < 0) := BitVec.msb_eq_toInt
  have h2 : x.toBitVec.msb = decide (x.toInt < 0) := BitVec.msb_eq_toInt
  have h3 : y.toBitVec.msb = decide (y.toInt < 0) := BitVec.msb_eq_toInt
  rw [Int32.toBitVec_xor, BitVec.msb_xor, h2, h3] at h1
  by_cases a : x.toInt < 0 <;> by_cases b : y.toInt < 0 <;> by_cases d : (x ^^^ y).toInt < 0 <;> simp [a, b, d] at h1 <;> omega
theorem x_max {p : Program} {l : Launch} {e : Env} {R : Room} {s : State} {m : MethodId} {args : Array Value} {below : List Frame} {meth : Method} {c : Code} {H : Heap} {locs : List Loc} {cells slots : Nat} {Q : State → Prop} {cc : ByteArray} {pc : Nat} {ls : Array Slot} {rest : List Value} {D : va_G} {cA : Nat → ClassId} {nL : Nat} {own : String} {index : Nat} (hexec : p.tables.exec = Jvm.exec) (hb : c.code = cc) (hml : c.maxLocals = nL) (hown : s.vm.findClass own = some m.cls) (hK : KE D cA s) (hsize : ls.size = nL) (tl : Cond.methodLink own index y_Math_max ∈ TW) (hf : 1 ≤ R.frames) (hlo : 21 ≤ R.locals) (hc : cells ≤ R.cells ∧ slots ≤ R.slots) (hW : (rest.map fun v => v.category).sum ≤ 8) {x y : Int32} {a b : Int} (hx : x.toInt = a) (hy : y.toInt = b) (hdg : decode cc pc = .ok (.invokestatic index, 3))
    (kk : ∀ z : Int32, z.toInt = max a b → W p l e R s m args below meth c H locs cells slots Q (F0 m (pc + 3) ls (.int z :: rest))) : W p l e R s m args below meth c H locs cells slots Q (F0 m pc ls (.int y :: .int x :: rest)) :=
  va_mmax hexec hb (hml.trans hsize.symm) hown (hK.w tl) (hK.w t_178) (hK.w t_22) (hK.w t_179) hf (by omega) hc.1 hc.2 hdg (kk _ (by
    have hl : (x < y) ↔ a < b := q_lt hx hy
    by_cases h : x < y
    · rw [if_pos h, hy]; have := hl.mp h; omega
    · rw [if_neg h, hx]; have := mt hl.mpr h; omega))
theorem x_min {p : Program} {l : Launch} {e : Env} {R : Room} {s : State} {m : MethodId} {args : Array Value} {below : List Frame} {meth : Method} {c : Code} {H : Heap} {locs : List Loc} {cells slots : Nat} {Q : State → Prop} {cc : ByteArray} {pc : Nat} {ls : Array Slot} {rest : List Value} {D : va_G} {cA : Nat → ClassId} {nL : Nat} {own : String} {index : Nat} (hexec : p.tables.exec = Jvm.exec) (hb : c.code = cc) (hml : c.maxLocals = nL) (hown : s.vm.findClass own = some m.cls) (hK : KE D cA s) (hsize : ls.size = nL) (tl : Cond.methodLink own index y_Math_min ∈ TW) (hf : 1 ≤ R.frames) (hlo : 21 ≤ R.locals) (hc : cells ≤ R.cells ∧ slots ≤ R.slots) (hW : (rest.map fun v => v.category).sum ≤ 8) {x y : Int32} {a b : Int} (hx : x.toInt = a) (hy : y.toInt = b) (hdg : decode cc pc = .ok (.invokestatic index, 3))
    (kk : ∀ z : Int32, z.toInt = min a b → W p l e R s m args below meth c H locs cells slots Q (F0 m (pc + 3) ls (.int z :: rest))) : W p l e R s m args below meth c H locs cells slots Q (F0 m pc ls (.int y :: .int x :: rest)) :=
  va_mmin hexec hb (hml.trans hsize.symm) hown (hK.w tl) (hK.w t_181) (hK.w t_22) (hK.w t_182) hf (by omega) hc.1 hc.2 hdg (kk _ (by
    have hl : (y < x) ↔ b < a := q_lt hy hx
    by_cases h : y < x
    · rw [if_pos h, hy]; have := hl.mp h; omega
    · rw [if_neg h, hx]; have := mt hl.mpr h; omega))
/-! Math.floorDiv(II)I: its own byte code; no program's table has a row for it -/
theorem fd_no0 : (NativeRow.find? natives y_Math_floorDiv.cls y_Math_floorDiv.name y_Math_floorDiv.desc).isNone = true := by decide +kernel
theorem fd_no (p : Program) : NativeRow.find? p.tables.natives y_Math_floorDiv.cls y_Math_floorDiv.name y_Math_floorDiv.desc = none := by
  cases p <;> exact Option.isNone_iff_eq_none.mp fd_no0
def fdS (x y r : Int32) : Spec := { pre := .and (.code y_Math_floorDiv b_Math_floorDiv 3 (some .int)) (.and (.count 2) (.and (.eq (.arg 0) (.int x)) (.eq (.arg 1) (.int y)))), post := .and .returned (.eq .result (.int r)), changes := some [] }
theorem d_Math_floorDiv_0 : decode b_Math_floorDiv 0 = .ok (.iload_n 0, 1) := by decide +kernel
theorem d_Math_floorDiv_1 : decode b_Math_floorDiv 1 = .ok (.iload_n 1, 1) := by decide +kernel
theorem d_Math_floorDiv_2 : decode b_Math_floorDiv 2 = .ok (.idiv, 1) := by decide +kernel
theorem d_Math_floorDiv_3 : decode b_Math_floorDiv 3 = .ok (.istore_n 2, 1) := by decide +kernel
theorem d_Math_floorDiv_4 : decode b_Math_floorDiv 4 = .ok (.iload_n 0, 1) := by decide +kernel
theorem d_Math_floorDiv_5 : decode b_Math_floorDiv 5 = .ok (.iload_n 1, 1) := by decide +kernel
theorem d_Math_floorDiv_6 : decode b_Math_floorDiv 6 = .ok (.ixor, 1) := by decide +kernel
theorem d_Math_floorDiv_7 : decode b_Math_floorDiv 7 = .ok (.ifCond .ge 14, 3) := by decide +kernel
theorem d_Math_floorDiv_10 : decode b_Math_floorDiv 10 = .ok (.iload_n 2, 1) := by decide +kernel
theorem d_Math_floorDiv_11 : decode b_Math_floorDiv 11 = .ok (.iload_n 1, 1) := by decide +kernel
theorem d_Math_floorDiv_12 : decode b_Math_floorDiv 12 = .ok (.imul, 1) := by decide +kernel
theorem d_Math_floorDiv_13 : decode b_Math_floorDiv 13 = .ok (.iload_n 0, 1) := by decide +kernel
theorem d_Math_floorDiv_14 : decode b_Math_floorDiv 14 = .ok (.if_icmp .eq 7, 3) := by decide +kernel
theorem d_Math_floorDiv_17 : decode b_Math_floorDiv 17 = .ok (.iload_n 2, 1) := by decide +kernel
theorem d_Math_floorDiv_18 : decode b_Math_floorDiv 18 = .ok (.iconst 1, 1) := by decide +kernel
theorem d_Math_floorDiv_19 : decode b_Math_floorDiv 19 = .ok (.isub, 1) := by decide +kernel
theorem d_Math_floorDiv_20 : decode b_Math_floorDiv 20 = .ok (.ireturn, 1) := by decide +kernel
theorem d_Math_floorDiv_21 : decode b_Math_floorDiv 21 = .ok (.iload_n 2, 1) := by decide +kernel
theorem d_Math_floorDiv_22 : decode b_Math_floorDiv 22 = .ok (.ireturn, 1) := by decide +kernel
theorem fd_meets (l : Launch) (x y r : Int32) (h0 : y ≠ 0) (hr : r = if 0 ≤ (x ^^^ y) then x / y else if x / y * y = x then x / y else x / y - 1) : MeetsLoose l y_Math_floorDiv (fdS x y r) := by
  refine MeetsLoose.of_body_ov (code := b_Math_floorDiv) (maxLocals := 3) (ret := some .int) fd_no ?_ ?_
  · intro args s h
    simp only [fdS, Cond.before_and, Bool.and_eq_true] at h
    exact h.1
  · intro p e s m args below meth c s₁ B
    have hpre := B.pre
    simp only [fdS, Cond.before_and, Bool.and_eq_true] at hpre
    obtain rfl : args = #[.int x, .int y] := by
      obtain ⟨-, h1, h2, h3⟩ := hpre
      obtain ⟨la⟩ := args
      simp only [Cond.before, Cond.holds, Cond.value, Term.eval, List.size_toArray, beq_iff_eq, Option.some.injEq] at h1 h2 h3
      match la, h1 with
      | [u, v], _ =>
        cases u <;> simp at h2
        cases v <;> simp at h3
        rw [h2, h3]
    have hloc : argsToLocals #[.int x, .int y] 3 = #[.val (.int x), .val (.int y), .unset] := rfl
    obtain ⟨fs, hfs⟩ := handOver_isSome (s := s₁) (some (.int r)) B.hears₁
    refine ⟨s₁.setFrames fs, .returned (some (.int r)), ?_, B.here.running, B.ended hfs (by intro h; cases h), ?_, State.sameBut_nil.mpr ?_⟩
    · unfold entryFrame; rw [hloc]
      refine Steps.instrAtOv (c := _) (by simpa using B.here) ?_
      simp [jvm, wpRun, exec, B.here.top, B.exec, B.bytes, d_Math_floorDiv_0]
      refine Steps.instrAtOv (c := _) (by simpa using B.here) ?_
      simp [jvm, wpRun, exec, B.here.top, B.exec, B.bytes, d_Math_floorDiv_1]
      refine Steps.instrAtOv (c := _) (by simpa using B.here) ?_
      simp [jvm, wpRun, exec, B.here.top, B.exec, B.bytes, d_Math_floorDiv_2, h0]
      refine Steps.instrAtOv (c := _) (by simpa using B.here) ?_
      simp [jvm, wpRun, exec, B.here.top, B.exec, B.bytes, d_Math_floorDiv_3]
      refine ⟨#[.val (.int x), .val (.int y), .val (.int (x / y))], rfl, ?_⟩
      refine Steps.instrAtOv (c := _) (by simpa using B.here) ?_
      simp [jvm, wpRun, exec, B.here.top, B.exec, B.bytes, d_Math_floorDiv_4]
      refine Steps.instrAtOv (c := _) (by simpa using B.here) ?_
      simp [jvm, wpRun, exec, B.here.top, B.exec, B.bytes, d_Math_floorDiv_5]
      refine Steps.instrAtOv (c := _) (by simpa using B.here) ?_
      simp [jvm, wpRun, exec, B.here.top, B.exec, B.bytes, d_Math_floorDiv_6]
      by_cases h1 : 0 ≤ (x ^^^ y)
      · rw [if_pos h1] at hr
        subst hr
        refine Steps.instrAtOv (c := _) (by simpa using B.here) ?_
        simp [jvm, wpRun, exec, B.here.top, B.exec, B.bytes, d_Math_floorDiv_7, ifCond.holds, h1]
        refine Steps.instrAtOv (c := _) (by simpa using B.here) ?_
        simp [jvm, wpRun, exec, B.here.top, B.exec, B.bytes, d_Math_floorDiv_21]
        refine Steps.instrAtOv (c := _) (by simpa using B.here) ?_
        simp [jvm, wpRun, exec, B.here.top, B.exec, B.bytes, d_Math_floorDiv_22, B.method₁, B.returns, narrow]
        intro acts
        rw [ret_to B.frames₁ B.method₁ B.notSynchronized rfl rfl hfs]
        exact Steps.refl _
      · rw [if_neg h1] at hr
        refine Steps.instrAtOv (c := _) (by simpa using B.here) ?_
        simp [jvm, wpRun, exec, B.here.top, B.exec, B.bytes, d_Math_floorDiv_7, ifCond.holds, h1]
        refine Steps.instrAtOv (c := _) (by simpa using B.here) ?_
        simp [jvm, wpRun, exec, B.here.top, B.exec, B.bytes, d_Math_floorDiv_10]
        refine Steps.instrAtOv (c := _) (by simpa using B.here) ?_
        simp [jvm, wpRun, exec, B.here.top, B.exec, B.bytes, d_Math_floorDiv_11]
        refine Steps.instrAtOv (c := _) (by simpa using B.here) ?_
        simp [jvm, wpRun, exec, B.here.top, B.exec, B.bytes, d_Math_floorDiv_12]
        refine Steps.instrAtOv (c := _) (by simpa using B.here) ?_
        simp [jvm, wpRun, exec, B.here.top, B.exec, B.bytes, d_Math_floorDiv_13]
        by_cases h2 : x / y * y = x
        · rw [if_pos h2] at hr
          subst hr
          refine Steps.instrAtOv (c := _) (by simpa using B.here) ?_
          simp [jvm, wpRun, exec, B.here.top, B.exec, B.bytes, d_Math_floorDiv_14, if_icmp.holds, ifCond.holds, h2]
          refine Steps.instrAtOv (c := _) (by simpa using B.here) ?_
          simp [jvm, wpRun, exec, B.here.top, B.exec, B.bytes, d_Math_floorDiv_21]
          refine Steps.instrAtOv (c := _) (by simpa using B.here) ?_
          simp [jvm, wpRun, exec, B.here.top, B.exec, B.bytes, d_Math_floorDiv_22, B.method₁, B.returns, narrow]
          intro acts
          rw [ret_to B.frames₁ B.method₁ B.notSynchronized rfl rfl hfs]
          exact Steps.refl _
        · rw [if_neg h2] at hr
          subst hr
          refine Steps.instrAtOv (c := _) (by simpa using B.here) ?_
          simp [jvm, wpRun, exec, B.here.top, B.exec, B.bytes, d_Math_floorDiv_14, if_icmp.holds, ifCond.holds, h2]
          refine Steps.instrAtOv (c := _) (by simpa using B.here) ?_
          simp [jvm, wpRun, exec, B.here.top, B.exec, B.bytes, d_Math_floorDiv_17]
          refine Steps.instrAtOv (c := _) (by simpa using B.here) ?_
          simp [jvm, wpRun, exec, B.here.top, B.exec, B.bytes, d_Math_floorDiv_18]
          refine Steps.instrAtOv (c := _) (by simpa using B.here) ?_
          simp [jvm, wpRun, exec, B.here.top, B.exec, B.bytes, d_Math_floorDiv_19]
          refine Steps.instrAtOv (c := _) (by simpa using B.here) ?_
          simp [jvm, wpRun, exec, B.here.top, B.exec, B.bytes, d_Math_floorDiv_20, B.method₁, B.returns, narrow]
          intro acts
          rw [ret_to B.frames₁ B.method₁ B.notSynchronized rfl rfl hfs]
          exact Steps.refl _
    · simp [fdS, Cond.after, Cond.holds, Cond.value, Term.eval]
    · rw [State.frames_setFrames _ B.cur₁, B.back]
section FDR
variable {p : Program} {l : Launch} {e : Env} {R : Room} {s : State} {m : MethodId} {args : Array Value} {below : List Frame} {meth : Method} {c : Code} {cells slots : Nat} {T : State} {locs : List Loc}
theorem fd_V (X : Stand p l e R s m args below meth c T locs cells slots) (hexec : p.tables.exec = Jvm.exec) {own : String} {index : Nat} (hown : s.vm.findClass own = some m.cls)
    (hlink : (Cond.methodLink own index y_Math_floorDiv).before args s = true) (hstat : (Cond.static y_Math_floorDiv).before args s = true) (hinit : (Cond.initialized "java/lang/Math").before args s = true)
    (hcode : (Cond.code y_Math_floorDiv b_Math_floorDiv 3 (some .int)).before args s = true)
    {g : JFrame} (hg : g.method = m) (hsize : g.locals.size = c.maxLocals) {x y r : Int32} (h0 : y ≠ 0) (hr : r = if 0 ≤ (x ^^^ y) then x / y else if x / y * y = x then x / y else x / y - 1) {rest : List Value} (hstack : g.stack = .int y :: .int x :: rest) (hdg : decode c.code g.pc = .ok (.invokestatic index, 3))
    (hframes : 1 ≤ R.frames) (hlocals : 2 * g.monitorRoom + (rest.map fun v => v.category).sum + 14 ≤ R.locals) (hcells : cells ≤ R.cells) (hslots : slots ≤ R.slots) :
    ∃ vm', Stand p l e R s m args below meth c (T.setVm vm') locs cells slots ∧
      ∀ target, Steps p.tables e below ((T.setVm vm').setTop { g with pc := g.pc + 3, stack := .int r :: rest }) target → Steps p.tables e below (T.setTop g) target := by
  obtain ⟨v, T', X', ⟨first, t, hpost⟩, hstep⟩ := X.staticByContractV hexec hown hlink hstat hinit hcode (by decide)
    (fd_meets l x y r h0 hr)
    rfl rfl rfl rfl
    (fun args' first o s₂ h => by
      simp only [fdS, Cond.after_and, Bool.and_eq_true] at h
      cases o with
      | returned r => exact ⟨r, rfl⟩
      | threw y => simp [Cond.after, Cond.holds, Cond.value] at h)
    hg hsize (argsL := [.int x, .int y]) (rest := rest)
    (fun sig hs => by
      have h : parseMethodDescriptor "(II)I" = some { parameters := [.int, .int], returnType := some .int } := by decide +kernel
      rw [show y_Math_floorDiv.desc = "(II)I" from rfl, h] at hs
      rw [← Option.some.inj hs]; rfl)
    hstack hdg
    (fun vm' hW => by
      simp only [fdS, Cond.before_and, Bool.and_eq_true]
      refine ⟨?_, rfl, by simp [Cond.before, Cond.holds, Cond.value, Term.eval], by simp [Cond.before, Cond.holds, Cond.value, Term.eval]⟩
      have q := hcode
      rw [← Cond.code_setVm hW.alike] at q
      simp only [Cond.before, Cond.holds, Cond.value, State.methodNamed?, State.vm_setVm] at q ⊢
      exact q)
    (by show 0 + 1 ≤ R.frames; omega) (by show 2 * g.monitorRoom + (rest.map fun v => v.category).sum + (3 + 11) + 0 ≤ R.locals; omega) (by show cells + 0 ≤ R.cells; omega) (by show slots + 0 ≤ R.slots; omega)
  refine ⟨T', X', fun target h => hstep target ?_⟩
  obtain rfl : v = some (.int r) := by
    rcases v with _ | w
    · simp [fdS, Cond.after, Cond.holds, Cond.value, Term.eval] at hpost
    · cases w <;> simp [fdS, Cond.after, Cond.holds, Cond.value, Term.eval] at hpost
      rw [hpost]
  exact h
end FDR
theorem fd_val {x y r : Int32} {a b : Int} (hx : x.toInt = a) (hy : y.toInt = b) (h0 : b ≠ 0) (h1 : -100000 ≤ a ∧ a ≤ 100000) (hr : r = if 0 ≤ (x ^^^ y) then x / y else if x / y * y = x then x / y else x / y - 1) : r.toInt = fl a b := by
  have hd := i_div hx hy (by omega)
  have hq := tq_abs a b
  have hbd := tq_bd a b h0
  have hf := fl_t a b h0
  have hxr := @i_xor x y
  rw [hx, hy] at hxr
  have hz : (0 ≤ (x ^^^ y)) ↔ 0 ≤ (x ^^^ y).toInt := q_le q_0 rfl
  have hm := i_mul hd hy (by omega) (by omega)
  have he : (x / y * y = x) ↔ a.tdiv b * b = a := q_eq hm hx
  have hs := i_sub hd (show (1 : Int32).toInt = 1 from by decide) (by omega) (by omega)
  by_cases c1 : 0 ≤ (x ^^^ y)
  · rw [if_pos c1] at hr; rw [hr, hd]; have := hz.mp c1; omega
  · rw [if_neg c1] at hr
    have c3 := mt hz.mpr c1
    by_cases c2 : x / y * y = x
    · rw [if_pos c2] at hr; rw [hr, hd]; have := he.mp c2; omega
    · rw [if_neg c2] at hr; rw [hr, hs]; have := mt he.mpr c2; omega
theorem x_fdiv {p : Program} {l : Launch} {e : Env} {R : Room} {s : State} {m : MethodId} {args : Array Value} {below : List Frame} {meth : Method} {c : Code} {H : Heap} {locs : List Loc} {cells slots : Nat} {Q : State → Prop} {cc : ByteArray} {pc : Nat} {ls : Array Slot} {rest : List Value} {D : va_G} {cA : Nat → ClassId} {nL : Nat} {own : String} {index : Nat} (hexec : p.tables.exec = Jvm.exec) (hb : c.code = cc) (hml : c.maxLocals = nL) (hown : s.vm.findClass own = some m.cls) (hK : KE D cA s) (hsize : ls.size = nL) (tl : Cond.methodLink own index y_Math_floorDiv ∈ TW) (hf : 1 ≤ R.frames) (hlo : 22 ≤ R.locals) (hc : cells ≤ R.cells ∧ slots ≤ R.slots) (hW : (rest.map fun v => v.category).sum ≤ 8) {x y : Int32} {a b : Int} (hx : x.toInt = a) (hy : y.toInt = b) (h0 : b ≠ 0) (h1 : -100000 ≤ a ∧ a ≤ 100000) (hdg : decode cc pc = .ok (.invokestatic index, 3))
    (kk : ∀ z : Int32, z.toInt = fl a b → W p l e R s m args below meth c H locs cells slots Q (F0 m (pc + 3) ls (.int z :: rest))) : W p l e R s m args below meth c H locs cells slots Q (F0 m pc ls (.int y :: .int x :: rest)) := by
  intro T hT X
  obtain ⟨vm', X', st⟩ := fd_V X hexec hown (hK.w tl) (hK.w t_260) (hK.w t_22) (hK.w t_261) (g := F0 m pc ls (.int y :: .int x :: rest)) rfl (hsize.trans hml.symm) (x := x) (y := y) (fun h => h0 (by rw [← hy, h]; decide)) rfl (rest := rest) rfl (by rw [hb]; exact hdg) hf (by show 2 * 0 + _ + 14 ≤ _; omega) hc.1 hc.2
  obtain ⟨t, a1, b1⟩ := kk _ (fd_val hx hy h0 h1 rfl) (T.setVm vm') hT X'
  exact ⟨t, st t a1, b1⟩
theorem d_Sht_within_0 : decode b_Sht_within 0 = .ok (.iload_n 0, 1) := by decide +kernel
theorem d_Sht_within_1 : decode b_Sht_within 1 = .ok (.iload_n 1, 1) := by decide +kernel
theorem d_Sht_within_2 : decode b_Sht_within 2 = .ok (.if_icmp .lt 12, 3) := by decide +kernel
theorem d_Sht_within_5 : decode b_Sht_within 5 = .ok (.iload_n 0, 1) := by decide +kernel
theorem d_Sht_within_6 : decode b_Sht_within 6 = .ok (.iload_n 2, 1) := by decide +kernel
theorem d_Sht_within_7 : decode b_Sht_within 7 = .ok (.if_icmp .gt 7, 3) := by decide +kernel
theorem d_Sht_within_10 : decode b_Sht_within 10 = .ok (.iconst 1, 1) := by decide +kernel
theorem d_Sht_within_11 : decode b_Sht_within 11 = .ok (.goto 4, 3) := by decide +kernel
theorem d_Sht_within_14 : decode b_Sht_within 14 = .ok (.iconst 0, 1) := by decide +kernel
theorem d_Sht_within_15 : decode b_Sht_within 15 = .ok (.ireturn, 1) := by decide +kernel
set_option maxHeartbeats 4000000 in
theorem k_Sht_within (l : Launch) (D : va_G) (cA : Nat → ClassId) (H0 : Heap) (v : Int32) (f : Int32) (t : Int32)  : Ct l y_Sht_within b_Sht_within 3 (some .boolean) 1 D cA [.int v, .int f, .int t] (fun H => H = H0) (fun r H => H = H0 ∧ r = some (.int (bi (decide (f.toInt ≤ v.toInt ∧ v.toInt ≤ t.toInt))))) (fun _ => False) := by
  refine Ct.mk (by decide) (Nat.le_of_ble_eq_true rfl) ?_
  intro p e s m args below meth c Q H locs ls hx hb hr hml hlk hown hin hK hQ hS hP hl
  have hl : lv_has ls 3 [(0, .int v), (1, .int f), (2, .int t)] := hl
  refine lv_iload_n hx hb d_Sht_within_0 rfl (lv_at hl 0 rfl) ?_
  refine lv_iload_n hx hb d_Sht_within_1 rfl (lv_at hl 1 rfl) ?_
  have K_201 : ∀ (b_201_0 : Bool), (b_201_0 = true ↔ (f.toInt ≤ v.toInt ∧ v.toInt ≤ t.toInt)) → W p l e (rl 1) s m args below meth c H locs 0 0 Q (F0 m 15 ls [.int (bi b_201_0)]) := by
    intro b_201_0 hb_201_0
    refine e_z hx hb hr hlk hQ hS d_Sht_within_15 ?_
    exact ⟨hP, fin_b hb_201_0 (by omega)⟩
  refine b_icmp_lt (tgt := 14) hx hb d_Sht_within_2 (by decide) rfl rfl (fun c_202 => ?_) (fun c_202 => ?_)
  · refine lv_iconst (v := 0) hx hb d_Sht_within_14 (by decide) ?_
    exact K_201 false ⟨fun h => absurd h (by decide), fun h => absurd h (by omega)⟩
  · refine lv_iload_n hx hb d_Sht_within_5 rfl (lv_at hl 0 rfl) ?_
    refine lv_iload_n hx hb d_Sht_within_6 rfl (lv_at hl 2 rfl) ?_
    refine b_icmp_gt (tgt := 14) hx hb d_Sht_within_7 (by decide) rfl rfl (fun c_203 => ?_) (fun c_203 => ?_)
    · refine lv_iconst (v := 0) hx hb d_Sht_within_14 (by decide) ?_
      exact K_201 false ⟨fun h => absurd h (by decide), fun h => absurd h (by omega)⟩
    · refine lv_iconst (v := 1) hx hb d_Sht_within_10 (by decide) ?_
      refine lv_goto (tgt := 15) hx hb d_Sht_within_11 (by decide) ?_
      exact K_201 true ⟨fun _ => by omega, fun _ => rfl⟩
theorem r_wn_Sht {p : Program} {l : Launch} {e : Env} {R : Room} {s : State} {m : MethodId} {args : Array Value} {below : List Frame} {meth : Method} {c : Code} {H : Heap} {locs : List Loc} {cells slots : Nat} {Q : State → Prop} {cc : ByteArray} {pc : Nat} {ls : Array Slot} {rest : List Value} {D : va_G} {cA : Nat → ClassId} {A0 : Nat → Prop} {H0 : Heap} {nL : Nat} (hexec : p.tables.exec = Jvm.exec) (hb : c.code = cc) (hml : c.maxLocals = nL) (hown : s.vm.findClass "RangeSheet" = some m.cls) (hK : KE D cA s) (hsize : ls.size = nL) (hS : va_S A0 H0 H locs) (hR : 2 ≤ R.frames ∧ 82 ≤ R.locals) (hc : cells ≤ R.cells ∧ slots ≤ R.slots) {v : Int32} {f : Int32} {t : Int32} {v_i : Int} (h_v : v.toInt = v_i) {f_i : Int} (h_f : f.toInt = f_i) {t_i : Int} (h_t : t.toInt = t_i)  (hdg : decode cc pc = .ok (.invokestatic 59, 3)) (hW : (rest.map fun v => v.category).sum ≤ 8) (kk : ∀ locs1 : List Loc, va_S A0 H0 H locs1 → W p l e R s m args below meth c H locs1 cells slots Q (F0 m (pc + 3) ls (.int (bi (decide (f_i ≤ v_i ∧ v_i ≤ t_i))) :: rest))) : W p l e R s m args below meth c H locs cells slots Q (F0 m pc ls (.int t :: .int f :: .int v :: rest)) := by
  subst h_v
  subst h_f
  subst h_t
  refine x_S hexec hb hml hown hK (k_Sht_within l D cA H v f t ) t_149 t_1 t_147 t_148 yk_Sht_within hR rfl rfl hsize rfl hW hdg hc hS (fun q h => h.elim) (fun r H1 locs1 hq _ hS1 => ?_)
  obtain ⟨rfl, rfl⟩ := hq
  exact kk locs1 hS1
theorem d_Sht_isRange_0 : decode b_Sht_isRange 0 = .ok (.iload_n 0, 1) := by decide +kernel
theorem d_Sht_isRange_1 : decode b_Sht_isRange 1 = .ok (.bipush (-100), 2) := by decide +kernel
theorem d_Sht_isRange_3 : decode b_Sht_isRange 3 = .ok (.if_icmp .lt 18, 3) := by decide +kernel
theorem d_Sht_isRange_6 : decode b_Sht_isRange 6 = .ok (.iload_n 1, 1) := by decide +kernel
theorem d_Sht_isRange_7 : decode b_Sht_isRange 7 = .ok (.bipush 100, 2) := by decide +kernel
theorem d_Sht_isRange_9 : decode b_Sht_isRange 9 = .ok (.if_icmp .gt 12, 3) := by decide +kernel
theorem d_Sht_isRange_12 : decode b_Sht_isRange 12 = .ok (.iload_n 0, 1) := by decide +kernel
theorem d_Sht_isRange_13 : decode b_Sht_isRange 13 = .ok (.iload_n 1, 1) := by decide +kernel
theorem d_Sht_isRange_14 : decode b_Sht_isRange 14 = .ok (.if_icmp .gt 7, 3) := by decide +kernel
theorem d_Sht_isRange_17 : decode b_Sht_isRange 17 = .ok (.iconst 1, 1) := by decide +kernel
theorem d_Sht_isRange_18 : decode b_Sht_isRange 18 = .ok (.goto 4, 3) := by decide +kernel
theorem d_Sht_isRange_21 : decode b_Sht_isRange 21 = .ok (.iconst 0, 1) := by decide +kernel
theorem d_Sht_isRange_22 : decode b_Sht_isRange 22 = .ok (.ireturn, 1) := by decide +kernel
set_option maxHeartbeats 4000000 in
theorem k_Sht_isRange (l : Launch) (D : va_G) (cA : Nat → ClassId) (H0 : Heap) (f : Int32) (t : Int32)  : Ct l y_Sht_isRange b_Sht_isRange 2 (some .boolean) 1 D cA [.int f, .int t] (fun H => H = H0) (fun r H => H = H0 ∧ r = some (.int (bi (decide (-100 ≤ f.toInt ∧ t.toInt ≤ 100 ∧ f.toInt ≤ t.toInt))))) (fun _ => False) := by
  refine Ct.mk (by decide) (Nat.le_of_ble_eq_true rfl) ?_
  intro p e s m args below meth c Q H locs ls hx hb hr hml hlk hown hin hK hQ hS hP hl
  have hl : lv_has ls 2 [(0, .int f), (1, .int t)] := hl
  refine lv_iload_n hx hb d_Sht_isRange_0 rfl (lv_at hl 0 rfl) ?_
  refine lv_bipush (v := (-100)) hx hb d_Sht_isRange_1 (by decide) ?_
  have K_201 : ∀ (b_201_0 : Bool), (b_201_0 = true ↔ ((-100) ≤ f.toInt ∧ (t.toInt ≤ 100 ∧ f.toInt ≤ t.toInt))) → W p l e (rl 1) s m args below meth c H locs 0 0 Q (F0 m 22 ls [.int (bi b_201_0)]) := by
    intro b_201_0 hb_201_0
    refine e_z hx hb hr hlk hQ hS d_Sht_isRange_22 ?_
    exact ⟨hP, fin_b hb_201_0 (by omega)⟩
  refine b_icmp_lt (tgt := 21) hx hb d_Sht_isRange_3 (by decide) rfl kc_m100 (fun c_202 => ?_) (fun c_202 => ?_)
  · refine lv_iconst (v := 0) hx hb d_Sht_isRange_21 (by decide) ?_
    exact K_201 false ⟨fun h => absurd h (by decide), fun h => absurd h (by omega)⟩
  · refine lv_iload_n hx hb d_Sht_isRange_6 rfl (lv_at hl 1 rfl) ?_
    refine lv_bipush (v := 100) hx hb d_Sht_isRange_7 (by decide) ?_
    refine b_icmp_gt (tgt := 21) hx hb d_Sht_isRange_9 (by decide) rfl kc_100 (fun c_203 => ?_) (fun c_203 => ?_)
    · refine lv_iconst (v := 0) hx hb d_Sht_isRange_21 (by decide) ?_
      exact K_201 false ⟨fun h => absurd h (by decide), fun h => absurd h (by omega)⟩
    · refine lv_iload_n hx hb d_Sht_isRange_12 rfl (lv_at hl 0 rfl) ?_
      refine lv_iload_n hx hb d_Sht_isRange_13 rfl (lv_at hl 1 rfl) ?_
      refine b_icmp_gt (tgt := 21) hx hb d_Sht_isRange_14 (by decide) rfl rfl (fun c_204 => ?_) (fun c_204 => ?_)
      · refine lv_iconst (v := 0) hx hb d_Sht_isRange_21 (by decide) ?_
        exact K_201 false ⟨fun h => absurd h (by decide), fun h => absurd h (by omega)⟩
      · refine lv_iconst (v := 1) hx hb d_Sht_isRange_17 (by decide) ?_
        refine lv_goto (tgt := 22) hx hb d_Sht_isRange_18 (by decide) ?_
        exact K_201 true ⟨fun _ => by omega, fun _ => rfl⟩
theorem r_isR_Sht {p : Program} {l : Launch} {e : Env} {R : Room} {s : State} {m : MethodId} {args : Array Value} {below : List Frame} {meth : Method} {c : Code} {H : Heap} {locs : List Loc} {cells slots : Nat} {Q : State → Prop} {cc : ByteArray} {pc : Nat} {ls : Array Slot} {rest : List Value} {D : va_G} {cA : Nat → ClassId} {A0 : Nat → Prop} {H0 : Heap} {nL : Nat} (hexec : p.tables.exec = Jvm.exec) (hb : c.code = cc) (hml : c.maxLocals = nL) (hown : s.vm.findClass "RangeSheet" = some m.cls) (hK : KE D cA s) (hsize : ls.size = nL) (hS : va_S A0 H0 H locs) (hR : 2 ≤ R.frames ∧ 81 ≤ R.locals) (hc : cells ≤ R.cells ∧ slots ≤ R.slots) {f : Int32} {t : Int32} {f_i : Int} (h_f : f.toInt = f_i) {t_i : Int} (h_t : t.toInt = t_i)  (hdg : decode cc pc = .ok (.invokestatic 69, 3)) (hW : (rest.map fun v => v.category).sum ≤ 8) (kk : ∀ locs1 : List Loc, va_S A0 H0 H locs1 → W p l e R s m args below meth c H locs1 cells slots Q (F0 m (pc + 3) ls (.int (bi (decide (-100 ≤ f_i ∧ t_i ≤ 100 ∧ f_i ≤ t_i))) :: rest))) : W p l e R s m args below meth c H locs cells slots Q (F0 m pc ls (.int t :: .int f :: rest)) := by
  subst h_f
  subst h_t
  refine x_S hexec hb hml hown hK (k_Sht_isRange l D cA H f t ) t_396 t_1 t_394 t_395 yk_Sht_isRange hR rfl rfl hsize rfl hW hdg hc hS (fun q h => h.elim) (fun r H1 locs1 hq _ hS1 => ?_)
  obtain ⟨rfl, rfl⟩ := hq
  exact kk locs1 hS1
theorem fl_bd (x y : Int) (hy : y ≠ 0) : -(x.natAbs : Int) - 1 ≤ fl x y ∧ fl x y ≤ (x.natAbs : Int) + 1 := by
  have h := fl_t x y hy
  have h2 := tq_abs x y
  by_cases a : x - x.tdiv y * y = 0
  · have := h.1 a; omega
  · have h3 := h.2.1 a
    have h4 := h.2.2 a
    omega
section XN
variable {p : Program} {l : Launch} {e : Env} {R : Room} {s : State} {m : MethodId} {args : Array Value} {below : List Frame} {meth : Method} {c : Code} {H : Heap} {locs : List Loc} {cells slots : Nat} {Q : State → Prop}
variable {cc : ByteArray} {pc : Nat} {ls : Array Slot} {rest st : List Value} {D : va_G} {cA : Nat → ClassId} {y : MethodName} {bytes : ByteArray} {maxL nL kc n index : Nat} {ret : Option FieldType} {own host : String} {As : List Value} {Pre : Heap → Prop} {Post : Option Value → Heap → Prop} {A0 A1 : Nat → Prop} {H0 : Heap} {b : Nat}
theorem c_N (hK : KE D cA s) (tc : Cond.code y bytes maxL ret ∈ TW) (tn : Cond.initialized y.cls ∈ TW) (tl : (Cond.methodLinkNest own index y host).before args s = true) (hd : yOk y n) (hR : kc + 1 ≤ R.frames ∧ 8 + (maxL + 11) + 60 * kc ≤ R.locals) :
    va_CN R s args own index y host bytes maxL ret [.code y bytes maxL ret] (rl kc) 0 0 n := by
  refine ⟨⟨rfl, rfl, hR.1, hR.2, fun w hw a' U hW => ?_, List.mem_cons_self⟩, hK.w tc, hK.w tn, ⟨hd.1, hd.2.1⟩, fun sig h => ?_, tl⟩
  · rw [List.mem_singleton.mp hw]
    exact (hK.warm hW).w tc
  · have h2 := hd.2.2
    rw [h] at h2
    exact (Option.some.inj h2).symm
/-- a static call of a nest mate's method -/
theorem x_SN (hexec : p.tables.exec = Jvm.exec) (hb : c.code = cc) (hml : c.maxLocals = nL) (hown : s.vm.findClass own = some m.cls) (hK : KE D cA s) (hM : Ct l y bytes maxL ret kc D cA As Pre Post A1) (tc : Cond.code y bytes maxL ret ∈ TW) (tn : Cond.initialized y.cls ∈ TW) (tl : Cond.methodLinkNest own index y host ∈ TW) (ts : Cond.static y ∈ TW) (hd : yOk y n) (hR : kc + 1 ≤ R.frames ∧ 8 + (maxL + 11) + 60 * kc ≤ R.locals)
    (hpre : Pre H) (hn : As.length = n) (hsize : ls.size = nL) (hst : st = As.reverse ++ rest) (hW : (rest.map fun v => v.category).sum ≤ 8) (hdg : decode cc pc = .ok (.invokestatic index, 3)) (hc : cells ≤ R.cells ∧ slots ≤ R.slots) (hS : va_S A0 H0 H locs) (hA : ∀ q, A1 q → A0 q)
    (kk : ∀ (r : Option Value) (H1 : Heap) (locs1 : List Loc), Post r H1 → (∀ q : Nat, q < H.size → ¬ A1 q → H1[q]? = H[q]?) → va_S A0 H0 H1 locs1 → W p l e R s m args below meth c H1 locs1 cells slots Q (F0 m (pc + 3) ls (r.toList ++ rest))) : W p l e R s m args below meth c H locs cells slots Q (F0 m pc ls st) :=
  c_go (va_runSN (Ts := []) ⟨hexec, hb, hml, hown, fun w h => absurd h List.not_mem_nil⟩ hM ⟨c_N hK tc tn (hK.w tl) hd hR, hK.w ts, trivial⟩ ⟨c_blind, fun U hU hW => ⟨rfl, hK.warm hW, by rw [hU]; exact hpre⟩⟩ rfl hn hsize hst (lv_room hW) hdg hc) hS hA kk
/-- a virtual call through a name that is abstract or inherited -/
theorem x_A (hexec : p.tables.exec = Jvm.exec) (hb : c.code = cc) (hml : c.maxLocals = nL) (hown : s.vm.findClass own = some m.cls) (hK : KE D cA s) {C owner : String} {x : MethodName} (hM : Ct l y bytes maxL ret kc D cA (.ref b :: As) Pre Post A1) (tc : Cond.code y bytes maxL ret ∈ TW) (tn : Cond.initialized y.cls ∈ TW) (tl : Cond.methodLink own index x ∈ TW) (tm : Cond.sameMethod x.cls owner x.name x.desc ∈ TW) (td : Cond.declares ⟨owner, x.name, x.desc⟩ ∈ TW) (ts : Cond.selects C x y ∈ TW) (ti : Cond.instanceMethod y ∈ TW)
    (hd : owner ≠ "java/lang/invoke/MethodHandle" ∧ owner ≠ "java/lang/invoke/VarHandle" ∧ (parseMethodDescriptor x.desc).map (fun d => d.parameters.length) = some n) (hR : kc + 1 ≤ R.frames ∧ 8 + (maxL + 11) + 60 * kc ≤ R.locals)
    (hrec : ∃ cellB : Cell, H[b]? = some cellB ∧ cellB.vm.isStatics = false ∧ s.vm.findClass C = some cellB.cls) (hpre : Pre H) (hn : As.length = n) (hsize : ls.size = nL) (hst : st = As.reverse ++ .ref b :: rest) (hW : (rest.map fun v => v.category).sum ≤ 8) (hdg : decode cc pc = .ok (.invokevirtual index, 3)) (hc : cells ≤ R.cells ∧ slots ≤ R.slots) (hS : va_S A0 H0 H locs) (hA : ∀ q, A1 q → A0 q)
    (kk : ∀ (r : Option Value) (H1 : Heap) (locs1 : List Loc), Post r H1 → (∀ q : Nat, q < H.size → ¬ A1 q → H1[q]? = H[q]?) → va_S A0 H0 H1 locs1 → W p l e R s m args below meth c H1 locs1 cells slots Q (F0 m (pc + 3) ls (r.toList ++ rest))) : W p l e R s m args below meth c H locs cells slots Q (F0 m pc ls st) := by
  have hB : va_CU R s args own C owner index x y bytes maxL ret [.code y bytes maxL ret] (rl kc) 0 0 n := by
    refine ⟨⟨rfl, rfl, hR.1, hR.2, fun w hw a' U hW => ?_, List.mem_cons_self⟩, hK.w tc, hK.w tn, ⟨hd.1, hd.2.1⟩, fun sig h => ?_, hK.w tl, hK.w tm, va_Decl.abs (va_Nw.of rfl (hK.w (a := args) td)), hK.w ts, hK.w ti⟩
    · rw [List.mem_singleton.mp hw]
      exact (hK.warm hW).w tc
    · have h2 := hd.2.2
      rw [h] at h2
      exact (Option.some.inj h2).symm
  exact c_go (va_runU (Ts := []) ⟨hexec, hb, hml, hown, fun w h => absurd h List.not_mem_nil⟩ hM hB ⟨c_blind, hrec, fun U hU hW => ⟨rfl, hK.warm hW, by rw [hU]; exact hpre⟩⟩ rfl hn hsize hst (lv_room hW) hdg hc) hS hA kk
end XN
theorem d_Sht_ceiling_0 : decode b_Sht_ceiling 0 = .ok (.iload_n 0, 1) := by decide +kernel
theorem d_Sht_ceiling_1 : decode b_Sht_ceiling 1 = .ok (.ineg, 1) := by decide +kernel
theorem d_Sht_ceiling_2 : decode b_Sht_ceiling 2 = .ok (.iload_n 1, 1) := by decide +kernel
theorem d_Sht_ceiling_3 : decode b_Sht_ceiling 3 = .ok (.invokestatic 1, 3) := by decide +kernel
theorem d_Sht_ceiling_6 : decode b_Sht_ceiling 6 = .ok (.ineg, 1) := by decide +kernel
theorem d_Sht_ceiling_7 : decode b_Sht_ceiling 7 = .ok (.ireturn, 1) := by decide +kernel
set_option maxHeartbeats 4000000 in
theorem k_Sht_ceiling (l : Launch) (D : va_G) (cA : Nat → ClassId) (H0 : Heap) (x : Int32) (y : Int32) (h0 : y.toInt ≠ 0) (h1 : -100000 ≤ x.toInt ∧ x.toInt ≤ 100000) : Ct l y_Sht_ceiling b_Sht_ceiling 2 (some .int) 3 D cA [.int x, .int y] (fun H => H = H0) (fun r H => H = H0 ∧ ∃ z : Int32, r = some (.int z) ∧ z.toInt = -(fl (-x.toInt) y.toInt)) (fun _ => False) := by
  refine Ct.mk (by decide) (Nat.le_of_ble_eq_true rfl) ?_
  intro p e s m args below meth c Q H locs ls hx hb hr hml hlk hown hin hK hQ hS hP hl
  have hl : lv_has ls 2 [(0, .int x), (1, .int y)] := hl
  have hfb := fl_bd (-x.toInt) y.toInt h0
  refine lv_iload_n hx hb d_Sht_ceiling_0 rfl (lv_at hl 0 rfl) ?_
  refine x_neg hx hb d_Sht_ceiling_1 rfl (by omega) (fun z_1 tz_1 => ?_)
  refine lv_iload_n hx hb d_Sht_ceiling_2 rfl (lv_at hl 1 rfl) ?_
  refine x_fdiv hx hb hml hown hK hl.1 t_259 (Nat.le_of_ble_eq_true rfl) (Nat.le_of_ble_eq_true rfl) ⟨Nat.le_of_ble_eq_true rfl, Nat.le_of_ble_eq_true rfl⟩ (Nat.le_of_ble_eq_true rfl) tz_1 rfl (by omega) (by omega) d_Sht_ceiling_3 (fun z_2 tz_2 => ?_)
  refine x_neg hx hb d_Sht_ceiling_6 tz_2 (by omega) (fun z_3 tz_3 => ?_)
  refine e_i hx hb hr hlk hQ hS d_Sht_ceiling_7 ?_
  exact ⟨hP, _, rfl, by rw [tz_3]⟩
theorem r_ceil_Product {p : Program} {l : Launch} {e : Env} {R : Room} {s : State} {m : MethodId} {args : Array Value} {below : List Frame} {meth : Method} {c : Code} {H : Heap} {locs : List Loc} {cells slots : Nat} {Q : State → Prop} {cc : ByteArray} {pc : Nat} {ls : Array Slot} {rest : List Value} {D : va_G} {cA : Nat → ClassId} {A0 : Nat → Prop} {H0 : Heap} {nL : Nat} (hexec : p.tables.exec = Jvm.exec) (hb : c.code = cc) (hml : c.maxLocals = nL) (hown : s.vm.findClass "RangeSheet$Product" = some m.cls) (hK : KE D cA s) (hsize : ls.size = nL) (hS : va_S A0 H0 H locs) (hR : 4 ≤ R.frames ∧ 201 ≤ R.locals) (hc : cells ≤ R.cells ∧ slots ≤ R.slots) {x : Int32} {y : Int32} {x_i : Int} (h_x : x.toInt = x_i) {y_i : Int} (h_y : y.toInt = y_i) (h0 : y_i ≠ 0) (h1 : -100000 ≤ x_i ∧ x_i ≤ 100000) (hdg : decode cc pc = .ok (.invokestatic 13, 3)) (hW : (rest.map fun v => v.category).sum ≤ 8) (kk : ∀ (z : Int32) (locs1 : List Loc), z.toInt = -(fl (-x_i) y_i) → va_S A0 H0 H locs1 → W p l e R s m args below meth c H locs1 cells slots Q (F0 m (pc + 3) ls (.int z :: rest))) : W p l e R s m args below meth c H locs cells slots Q (F0 m pc ls (.int y :: .int x :: rest)) := by
  subst h_x
  subst h_y
  refine x_SN hexec hb hml hown hK (k_Sht_ceiling l D cA H x y h0 h1) t_258 t_1 t_256 t_257 yk_Sht_ceiling hR rfl rfl hsize rfl hW hdg hc hS (fun q h => h.elim) (fun r H1 locs1 hq _ hS1 => ?_)
  obtain ⟨rfl, z, rfl, hz⟩ := hq
  exact kk z locs1 hz hS1
