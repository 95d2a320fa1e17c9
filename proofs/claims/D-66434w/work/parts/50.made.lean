/-! methods that make cells; worlds as lists -/
abbrev rla (k mc ms : Nat) : Room := { frames := k, cells := mc, slots := ms, locals := 60 * k }
def CtA (l : Launch) (y : MethodName) (bytes : ByteArray) (maxL : Nat) (ret : Option FieldType) (k mc ms : Nat) (D : va_G) (cA : Nat → ClassId) (av : List Value) (sz : Nat) (ws : va_W) (Post : Option Value → Heap → Prop) : Prop :=
  Met l y [.code y bytes maxL ret] (rla k mc ms) (va_Pc av (fun U => U.heap.size = sz ∧ KE D cA U ∧ va_P D classes ws U.heap ∧ va_D (fun _ => True) ws)) (Qc0 Post (va_A ws sz)) mc ms (va_A ws sz)
theorem CtA.mk {l : Launch} {y : MethodName} {bytes : ByteArray} {maxL : Nat} {ret : Option FieldType} {k mc ms : Nat} {D : va_G} {cA : Nat → ClassId} {av : List Value} {sz : Nat} {ws : va_W} {Post : Option Value → Heap → Prop}
    (hy : plainName y.cls = true) (hn : (lg_sl av).length ≤ maxL)
    (body : ∀ (p : Program) (e : Env) (s : State) (m : MethodId) (args : Array Value) (below : List Frame) (meth : Method) (c : Code) (Q : State → Prop) (A : Nat → Prop) (H : Heap) (locs : List Loc) (ls : Array Slot), p.tables.exec = Jvm.exec → c.code = bytes → meth.sig.returnType = ret → c.maxLocals = maxL → meth.locks = false → s.vm.findClass y.cls = some m.cls → meth.name = y.name → KE D cA s → Q = MQ below (Qc0 Post A) args s mc ms A → A = va_A ws sz → (∀ q, s.heap.size ≤ q → A q) → H.size = sz → va_P D classes ws H → va_D A ws → va_S A s.heap H locs →
      lv_has ls maxL (lv_args 0 av) → W p l e (rla k mc ms) s m args below meth c H locs 0 0 Q (F0 m 0 ls [])) : CtA l y bytes maxL ret k mc ms D cA av sz ws Post := by
  refine Met.ofW (cc := bytes) (maxL := maxL) (ret := ret) hy rfl ?_
  intro p e s m args below meth c s₁ B hml hv
  obtain ⟨hav, hsz, hK, hP, hD⟩ := hv
  have hl := lv_entry av (n := maxL) hn
  rw [show entryFrame m args maxL = F0 m 0 _ [] from by rw [hav]; exact lg_entry_eq ..]
  exact body p e s m args below meth c _ _ s.heap [] _ B.exec B.bytes B.returns hml B.notSynchronized (findClass_of_methodNamed B.named) (name_of_methodNamed B.named B.method).1 hK rfl rfl (fun q h => Or.inr (by rw [← hsz]; exact h)) hsz hP hD.self va_S.rf hl
theorem ra_uniq {U : State} {c1 c2 : ClassId} {ty : FieldType} (h1 : va_RA U c1 ty) (h2 : va_RA U c2 ty) : c1 = c2 := by
  cases ty <;> first | exact Option.some.inj (h1.symm.trans h2) | (obtain ⟨_, _, _, _, _, a⟩ := h1; obtain ⟨_, _, _, _, _, b⟩ := h2; exact Option.some.inj (a.symm.trans b))
theorem fm_of {α β : Type} {f : α → Option β} : ∀ {l : List α} {w : List β}, l.map f = w.map some → l.filterMap f = w
  | [], [], _ => rfl
  | [], _ :: _, h => by simp at h
  | _ :: _, [], h => by simp at h
  | a :: l, b :: w, h => by
    simp only [List.map_cons, List.cons.injEq] at h
    rw [List.filterMap_cons, h.1, fm_of h.2]
section LW
variable {p : Program} {l : Launch} {e : Env} {R : Room} {s : State} {m : MethodId} {args : Array Value} {below : List Frame} {meth : Method} {c : Code} {H : Heap} {locs : List Loc} {cells slots : Nat} {Q : State → Prop}
variable {cc : ByteArray} {pc : Nat} {ls : Array Slot} {rest st : List Value} {D : va_G} {cA : Nat → ClassId} {A : Nat → Prop} {H0 : Heap} {ws : va_W} {a : Nat} {own : String} {nL : Nat}
theorem l_obj (hexec : p.tables.exec = Jvm.exec) (hb : c.code = cc) (hml : c.maxLocals = nL) (hown : s.vm.findClass own = some m.cls) (hK : KE D cA s) (hsize : ls.size = nL) {idx : Nat} (tl : Cond.methodLink own idx ⟨"java/lang/Object", "<init>", "()V"⟩ ∈ TW) (hdg : decode cc pc = .ok (.invokespecial idx, 3)) (hR : 1 ≤ R.frames ∧ 60 ≤ R.locals) (hW : (rest.map fun v => v.category).sum ≤ 8)
    (kk : W p l e R s m args below meth c H locs cells slots Q (F0 m (pc + 3) ls rest)) : W p l e R s m args below meth c H locs cells slots Q (F0 m pc ls (.ref a :: rest)) :=
  W.objInit hexec hb hown (hK.w tl) (hK.w t_29) (hK.w t_30) rfl (by rw [hml]; exact hsize) rfl hdg hR.1 (Nat.le_trans (Nat.add_le_add_right (lv_room hW) 12) (Nat.le_trans (show 8 + 12 ≤ 60 by decide) hR.2)) kk
theorem l_pf (hexec : p.tables.exec = Jvm.exec) (hb : c.code = cc) {ref C : String} {T : u_T} {Nf ci index : Nat} (hK : KE D cA s) (hin : ∀ w ∈ u_ws C T Nf, w ∈ TW) (ty0 : Nat → FieldType) (hty : ∀ k, k < Nf → parseFieldDescriptor (T k).2.2.1 = some (ty0 k)) (hnm : ∀ a, a < Nf → ∀ b, b < Nf → a ≠ b → (T a).2.1 ≠ (T b).2.1) (hown : s.vm.findClass own = some m.cls) (hP : va_P D classes ws H) (hD : va_D A ws) (hS : va_S A H0 H locs) (q0 : Nat) {fs : List Value} (he : ws[q0]? = some (a, .inr (ci, fs))) (hc : classes[ci]? = some (C, T, Nf)) (k : Nat) (hk : k < Nf) (hlink : Cond.fieldLink own index ref (T k).2.1 (T k).2.2.1 ∈ TW) (hsame : (T k).1 = ref) (hin2 : meth.name = "<init>") (hdecl : (T k).2.2.2 = false ∨ (T k).1 = own) {v : Value} (hna : narrow (ty0 k) v = v) (hfit : fits (ty0 k) v = true) (hl : fs.length = Nf)
    (hdg : decode cc pc = .ok (.putfield index, 3)) (kk : ∀ (H1 : Heap) (locs1 : List Loc), va_P D classes (ws.set q0 (a, .inr (ci, fs.set k v))) H1 → va_D A (ws.set q0 (a, .inr (ci, fs.set k v))) → va_S A H0 H1 locs1 → W p l e R s m args below meth c H1 locs1 cells slots Q (F0 m (pc + 3) ls rest)) : W p l e R s m args below meth c H locs cells slots Q (F0 m pc ls (v :: .ref a :: rest)) := by
  by_cases hf : (T k).2.2.2 = false
  · exact va_put (C := C) (T := T) (N := Nf) hexec hb hK.ts hin ty0 hty hnm hown hK.2 hP hD hS q0 he hc k hk (hK.w hlink) (fun x h => by rw [← hsame]; exact h) hf (hty k hk) hna hfit (by rw [hl]; exact hk) hdg kk
  · exact va_putF (C := C) (T := T) (N := Nf) hexec hb hK.ts hin ty0 hty hnm hown hK.2 hP hD hS q0 he hc k hk (hK.w hlink) (fun x h => by rw [← hsame]; exact h) (by simpa using hf) hin2 (hdecl.elim (fun h => absurd h hf) id) (hty k hk) hna hfit (by rw [hl]; exact hk) hdg kk
theorem l_gf (hexec : p.tables.exec = Jvm.exec) (hb : c.code = cc) {ref C : String} {T : u_T} {Nf ci index : Nat} (hK : KE D cA s) (hin : ∀ w ∈ u_ws C T Nf, w ∈ TW) (hown : s.vm.findClass own = some m.cls) (hP : va_P D classes ws H) (q0 : Nat) {fs : List Value} (he : ws[q0]? = some (a, .inr (ci, fs))) (hc : classes[ci]? = some (C, T, Nf)) (k : Nat) (hk : k < Nf) (hlink : Cond.fieldLink own index ref (T k).2.1 (T k).2.2.1 ∈ TW) (hsame : (T k).1 = ref) {v : Value} (hv : fs[k]? = some v) (hdg : decode cc pc = .ok (.getfield index, 3))
    (kk : W p l e R s m args below meth c H locs cells slots Q (F0 m (pc + 3) ls (v :: rest))) : W p l e R s m args below meth c H locs cells slots Q (F0 m pc ls (.ref a :: rest)) :=
  va_get (C := C) (T := T) (N := Nf) hexec hb hK.ts hin hown hK.2 hP q0 he hc k hk (hK.w hlink) (fun x h => by rw [← hsame]; exact h) hv hdg kk
theorem l_newa (hexec : p.tables.exec = Jvm.exec) (hb : c.code = cc) (hK : KE D cA s) {atype : ArrayType} {ty : FieldType} (harr : Cond.arrayClass ty ∈ TW) (hty : newarray.typeOf atype = ty) (t0 : Nat) (ht : (tysA cA)[t0]? = some (cA t0, ty)) (hP : va_P D classes ws H) (hD : va_D A ws) (hS : va_S A H0 H locs) (hA : ∀ q, H0.size ≤ q → A q)
    {n : Int32} {a0 : Int} (N' : Nat) (hd : defaultValue ty = .int 0) (hn : n.toInt = a0) (hN : a0 = (N' : Int)) (hbytes : N' * componentBytes ty ≤ 536870912) (hcells : cells + 1 ≤ R.cells) (hslots : slots + N' ≤ R.slots) (hdg : decode cc pc = .ok (.newarray atype, 2))
    (kk : ∀ (q : Nat) (H1 : Heap), va_P D classes (ws ++ [(q, .inl (cA t0, N', .inl (fun _ => 0)))]) H1 → va_D A (ws ++ [(q, .inl (cA t0, N', .inl (fun _ => 0)))]) → va_S A H0 H1 locs →
      W p l e R s m args below meth c H1 locs (cells + 1) (slots + N') Q (F0 m (pc + 2) ls (.ref q :: rest))) : W p l e R s m args below meth c H locs cells slots Q (F0 m pc ls (.int n :: rest)) := by
  refine va_newa hexec hb (atype := atype) (by rw [hty]; exact hK.w harr) hty hK.2 hP hD hS hA (N' := N') (a0 := (N', .inl (fun _ => 0))) (fun cA => by rw [vp_cell_i, hd]) (fun h => by have := (q_lt hn q_0).mp h; omega) (i_nat (hn.trans hN)) hbytes hcells hslots hdg (fun q cB H1 hK1 hP1 hD1 hS1 => ?_)
  have h1 := (hK1.2 (tysA cA).length (cB, ty) (by rw [List.getElem?_append_right (Nat.le_refl _)]; simp)).2
  have e1 := ra_uniq h1 (hK.2.2 t0 _ ht).2
  subst e1
  exact kk q H1 hP1 hD1 hS1
theorem l_newq (hexec : p.tables.exec = Jvm.exec) (hb : c.code = cc) (hown : s.vm.findClass own = some m.cls) (hK : KE D cA s) {C : String} {index : Nat} (tc : Cond.classLink own index C ∈ TW) (to : Cond.arrayOver (.object C) ∈ TW) (t0 : Nat) (ht : (tysA cA)[t0]? = some (cA t0, .object C)) (hP : va_P D classes ws H) (hD : va_D A ws) (hS : va_S A H0 H locs) (hA : ∀ q, H0.size ≤ q → A q)
    {n : Int32} {a0 : Int} (N' : Nat) (hn : n.toInt = a0) (hN : a0 = (N' : Int)) (hbytes : N' * 4 ≤ 536870912) (hcells : cells + 1 ≤ R.cells) (hslots : slots + N' ≤ R.slots) (hdg : decode cc pc = .ok (.anewarray index, 3))
    (kk : ∀ (q : Nat) (H1 : Heap), va_P D classes (ws ++ [(q, .inl (cA t0, N', .inr (.inr (.inr (.inr (fun _ => none))))))]) H1 → va_D A (ws ++ [(q, .inl (cA t0, N', .inr (.inr (.inr (.inr (fun _ => none))))))]) → va_S A H0 H1 locs →
      W p l e R s m args below meth c H1 locs (cells + 1) (slots + N') Q (F0 m (pc + 3) ls (.ref q :: rest))) : W p l e R s m args below meth c H locs cells slots Q (F0 m pc ls (.int n :: rest)) := by
  refine va_newq hexec hb hown (hK.w tc) (va_AO.of (hK.w to (a := #[]))) hK.2 hP hD hS hA (fun h => by have := (q_lt hn q_0).mp h; omega) (i_nat (hn.trans hN)) hbytes hcells hslots hdg (fun q cB H1 hK1 hP1 hD1 hS1 => ?_)
  have h1 := (hK1.2 (tysA cA).length (cB, .object C) (by rw [List.getElem?_append_right (Nat.le_refl _)]; simp)).2
  have e1 := ra_uniq h1 (hK.2.2 t0 _ ht).2
  subst e1
  exact kk q H1 hP1 hD1 hS1
theorem l_new (hexec : p.tables.exec = Jvm.exec) (hb : c.code = cc) {C : String} {T : u_T} {Nf ci index : Nat} (hK : KE D cA s) (hin : ∀ w ∈ u_ws C T Nf, w ∈ TW) (ty0 : Nat → FieldType) (hty : ∀ k, k < Nf → parseFieldDescriptor (T k).2.2.1 = some (ty0 k)) (hown : s.vm.findClass own = some m.cls) (tc : Cond.classLink own index C ∈ TW) (ti : Cond.instantiable C Nf ∈ TW) (tn : Cond.initialized C ∈ TW) (hP : va_P D classes ws H) (hD : va_D A ws) (hS : va_S A H0 H locs) (hA : ∀ q, H0.size ≤ q → A q) (hc : classes[ci]? = some (C, T, Nf)) {fs : List Value} (hfs : ∀ j, j < Nf → defaultValue (ty0 j) = vp_V fs j) (hcells : cells + 1 ≤ R.cells) (hslots : slots + Nf ≤ R.slots) (hdg : decode cc pc = .ok (.new index, 3))
    (kk : ∀ (q : Nat) (H1 : Heap), va_P D classes (ws ++ [(q, .inr (ci, fs))]) H1 → va_D A (ws ++ [(q, .inr (ci, fs))]) → va_S A H0 H1 locs →
      W p l e R s m args below meth c H1 locs (cells + 1) (slots + Nf) Q (F0 m (pc + 3) ls (.ref q :: rest))) : W p l e R s m args below meth c H locs cells slots Q (F0 m pc ls rest) :=
  va_new (C := C) (T := T) (N := Nf) hexec hb hK.ts hin ty0 hty hown (hK.w tc) (hK.w ti) (hK.w tn) hK.2 hP hD hS hA hc hfs hcells hslots hdg kk
/-- an object of class r.1 is stored; the array's component is E -/
theorem l_ast (hexec : p.tables.exec = Jvm.exec) (hb : c.code = cc) (hK : KE D cA s) (hP : va_P D classes ws H) (hD : va_D A ws) (hS : va_S A H0 H locs) (q0 t0 qk ci : Nat) {E C : String} {T : u_T} {Nf n v : Nat} {vs : List Value} {f : Nat → Option Nat} (ha : ws[q0]? = some (a, .inl (cA t0, n, .inr (.inr (.inr (.inr f)))))) (ht : (tysA cA)[t0]? = some (cA t0, .object E)) (tca : Cond.castable C E ∈ TW ∨ C = E) (hv : ws[qk]? = some (v, .inr (ci, vs))) (hc : classes[ci]? = some (C, T, Nf)) {i : Int32} {a0 : Int} (j : Nat) (hi : i.toInt = a0) (hj : a0 = (j : Int)) (hlt : j < n) (hdg : decode cc pc = .ok (.aastore, 1))
    (kk : ∀ (H1 : Heap) (locs1 : List Loc), va_P D classes (ws.set q0 (a, .inl (cA t0, n, .inr (.inr (.inr (.inr (va_up f j (some v)))))))) H1 → va_D A (ws.set q0 (a, .inl (cA t0, n, .inr (.inr (.inr (.inr (va_up f j (some v)))))))) → va_S A H0 H1 locs1 → W p l e R s m args below meth c H1 locs1 cells slots Q (F0 m (pc + 1) ls rest)) : W p l e R s m args below meth c H locs cells slots Q (F0 m pc ls (.ref v :: .int i :: .ref a :: rest)) := by
  have en : i.toNatClampNeg = j := i_nat (hi.trans hj)
  rcases tca with h | h
  · exact va_astqO hexec hb hK.2 hP hD hS q0 t0 qk ci (r := (C, T, Nf)) ha ht (va_Nw.of rfl (hK.w h (a := #[]))) hv hc (i_vpin hi (by omega) (by omega)) hdg (by rw [en]; exact kk)
  · subst h
    exact va_astq hexec hb hK.2 hP hD hS q0 t0 qk ci (r := (C, T, Nf)) ha ht hv hc (i_vpin hi (by omega) (by omega)) hdg (by rw [en]; exact kk)
theorem c_goA {st0 : List Value} {a : Array Value} {A0 A1 : Nat → Prop} {H0 : Heap} {mc ms : Nat} {Post : Option Value → Heap → Prop} (hr : va_Run p l e R s m args below meth c H locs cells slots mc ms (F0 m pc ls st0) rest (Qc0 Post A1 a) A1) (hS : va_S A0 H0 H locs) (hA : ∀ q, A1 q → A0 q)
    (kk : ∀ (r : Option Value) (H1 : Heap) (locs1 : List Loc), Post r H1 → (∀ q : Nat, q < H.size → ¬ A1 q → H1[q]? = H[q]?) → va_S A0 H0 H1 locs1 → W p l e R s m args below meth c H1 locs1 (cells + mc) (slots + ms) Q (F0 m (pc + 3) ls (r.toList ++ rest))) : W p l e R s m args below meth c H locs cells slots Q (F0 m pc ls st0) := by
  intro T hT X
  obtain ⟨v, st₀, t, T', L, h0, X', hL, e1, e2, ⟨⟨r, hv, hp⟩, hz, hk⟩, st⟩ := hr T hT X
  cases hv
  rw [h0] at hz hk
  obtain ⟨t2, a1, b1⟩ := kk v T'.heap (locs ++ L) (by rw [e1]; exact hp) (fun q h1 h2 => by rw [e1]; exact hk q h1 h2)
    ⟨Nat.le_trans hS.1 (by rw [e1]; exact hz), fun q h1 h2 => by rw [e1, hk q (Nat.lt_of_lt_of_le h1 hS.1) (fun z => h2 (hA q z))]; exact hS.2.1 q h1 h2, fun q hq => by
      rcases List.mem_append.mp hq with h | h
      · exact hS.2.2 q h
      · exact hA _ (hL q h)⟩ T' rfl X'
  exact ⟨t2, st t2 a1, b1⟩
theorem c_blindA {av : List Value} {D : va_G} {cA : Nat → ClassId} {sz : Nat} {ws : va_W} : FrameBlind (va_Pc av (fun U => U.heap.size = sz ∧ KE D cA U ∧ va_P D classes ws U.heap ∧ va_D (fun _ => True) ws)) := fun a U g mk q => ⟨q.1, q.2.1, q.2.2.1.same rfl, q.2.2.2⟩
theorem c_BA {y : MethodName} {bytes : ByteArray} {maxL kc n index mc ms : Nat} {ret : Option FieldType} (hK : KE D cA s) (tc : Cond.code y bytes maxL ret ∈ TW) (tn : Cond.initialized y.cls ∈ TW) (tl : (Cond.methodLink own index y).before args s = true) (hd : yOk y n) (hR : kc + 1 ≤ R.frames ∧ 8 + (maxL + 11) + 60 * kc ≤ R.locals) :
    CallB R s args own index y bytes maxL ret [.code y bytes maxL ret] (rla kc mc ms) mc ms n := by
  refine ⟨rfl, rfl, hR.1, hR.2, fun w hw a' U hW => ?_, List.mem_cons_self, hK.w tc, hK.w tn, ⟨hd.1, hd.2.1⟩, fun sig h => ?_, tl⟩
  · rw [List.mem_singleton.mp hw]
    exact (hK.warm hW).w tc
  · have h2 := hd.2.2
    rw [h] at h2
    exact (Option.some.inj h2).symm
/-- a constructor's call -/
theorem l_I {y : MethodName} {bytes : ByteArray} {maxL kc n index mc ms b : Nat} {As : List Value} {wc : va_W} {Post : Option Value → Heap → Prop} (hexec : p.tables.exec = Jvm.exec) (hb : c.code = cc) (hml : c.maxLocals = nL) (hown : s.vm.findClass own = some m.cls) (hK : KE D cA s) (hM : CtA l y bytes maxL none kc mc ms D cA (.ref b :: As) H.size wc Post) (tc : Cond.code y bytes maxL none ∈ TW) (tn : Cond.initialized y.cls ∈ TW) (tl : Cond.methodLink own index y ∈ TW) (ti : Cond.instanceMethod y ∈ TW) (hd : yOk y n) (hin : y.name = "<init>") (hR : kc + 1 ≤ R.frames ∧ 8 + (maxL + 11) + 60 * kc ≤ R.locals)
    (hP : va_P D classes ws H) (hD : va_D A ws) (hS : va_S A H0 H locs) (hA : ∀ q, H0.size ≤ q → A q) (isC : List Nat) (hnC : va_nd isC = true) (hC : isC.map (fun i => ws[i]?) = wc.map some) (hn : As.length = n) (hsize : ls.size = nL) (hst : st = As.reverse ++ .ref b :: rest) (hW : (rest.map fun v => v.category).sum ≤ 8) (hdg : decode cc pc = .ok (.invokespecial index, 3)) (hc : cells + mc ≤ R.cells ∧ slots + ms ≤ R.slots)
    (kk : ∀ (r : Option Value) (H1 : Heap) (locs1 : List Loc), Post r H1 → (∀ q : Nat, q < H.size → ¬ va_A wc H.size q → H1[q]? = H[q]?) → (∀ q, va_A wc H.size q → A q) → va_S A H0 H1 locs1 → W p l e R s m args below meth c H1 locs1 (cells + mc) (slots + ms) Q (F0 m (pc + 3) ls (r.toList ++ rest))) : W p l e R s m args below meth c H locs cells slots Q (F0 m pc ls st) := by
  have hFc := va_free hD hS hA isC hC
  exact c_goA (va_runI (Ts := []) ⟨hexec, hb, hml, hown, fun w h => absurd h List.not_mem_nil⟩ hM ⟨c_BA hK tc tn (hK.w tl) hd hR, hin, hK.w ti⟩ ⟨c_blindA, fun U hU hW => ⟨rfl, by rw [hU], hK.warm hW, by rw [hU]; exact hP.sub isC (fm_of hC), (hD.sub isC hnC hC).weaken (fun _ _ _ _ => trivial)⟩⟩ rfl hn hsize hst (lv_room hW) hdg hc) hS hFc (fun r H1 l1 h1 h2 h3 => kk r H1 l1 h1 h2 hFc h3)
theorem c_NA {y : MethodName} {host : String} {bytes : ByteArray} {maxL kc n index mc ms : Nat} {ret : Option FieldType} (hK : KE D cA s) (tc : Cond.code y bytes maxL ret ∈ TW) (tn : Cond.initialized y.cls ∈ TW) (tl : (Cond.methodLinkNest own index y host).before args s = true) (hd : yOk y n) (hR : kc + 1 ≤ R.frames ∧ 8 + (maxL + 11) + 60 * kc ≤ R.locals) :
    va_CN R s args own index y host bytes maxL ret [.code y bytes maxL ret] (rla kc mc ms) mc ms n := by
  refine ⟨⟨rfl, rfl, hR.1, hR.2, fun w hw a' U hW => ?_, List.mem_cons_self⟩, hK.w tc, hK.w tn, ⟨hd.1, hd.2.1⟩, fun sig h => ?_, tl⟩
  · rw [List.mem_singleton.mp hw]
    exact (hK.warm hW).w tc
  · have h2 := hd.2.2
    rw [h] at h2
    exact (Option.some.inj h2).symm
/-- a constructor's call, of a nest mate's -/
theorem l_IN {host : String} {y : MethodName} {bytes : ByteArray} {maxL kc n index mc ms b : Nat} {As : List Value} {wc : va_W} {Post : Option Value → Heap → Prop} (hexec : p.tables.exec = Jvm.exec) (hb : c.code = cc) (hml : c.maxLocals = nL) (hown : s.vm.findClass own = some m.cls) (hK : KE D cA s) (hM : CtA l y bytes maxL none kc mc ms D cA (.ref b :: As) H.size wc Post) (tc : Cond.code y bytes maxL none ∈ TW) (tn : Cond.initialized y.cls ∈ TW) (tl : Cond.methodLinkNest own index y host ∈ TW) (ti : Cond.instanceMethod y ∈ TW) (hd : yOk y n) (hin : y.name = "<init>") (hR : kc + 1 ≤ R.frames ∧ 8 + (maxL + 11) + 60 * kc ≤ R.locals)
    (hP : va_P D classes ws H) (hD : va_D A ws) (hS : va_S A H0 H locs) (hA : ∀ q, H0.size ≤ q → A q) (isC : List Nat) (hnC : va_nd isC = true) (hC : isC.map (fun i => ws[i]?) = wc.map some) (hn : As.length = n) (hsize : ls.size = nL) (hst : st = As.reverse ++ .ref b :: rest) (hW : (rest.map fun v => v.category).sum ≤ 8) (hdg : decode cc pc = .ok (.invokespecial index, 3)) (hc : cells + mc ≤ R.cells ∧ slots + ms ≤ R.slots)
    (kk : ∀ (r : Option Value) (H1 : Heap) (locs1 : List Loc), Post r H1 → (∀ q : Nat, q < H.size → ¬ va_A wc H.size q → H1[q]? = H[q]?) → (∀ q, va_A wc H.size q → A q) → va_S A H0 H1 locs1 → W p l e R s m args below meth c H1 locs1 (cells + mc) (slots + ms) Q (F0 m (pc + 3) ls (r.toList ++ rest))) : W p l e R s m args below meth c H locs cells slots Q (F0 m pc ls st) := by
  have hFc := va_free hD hS hA isC hC
  exact c_goA (va_runIN (Ts := []) ⟨hexec, hb, hml, hown, fun w h => absurd h List.not_mem_nil⟩ hM ⟨c_NA hK tc tn (hK.w tl) hd hR, hin, hK.w ti⟩ ⟨c_blindA, fun U hU hW => ⟨rfl, by rw [hU], hK.warm hW, by rw [hU]; exact hP.sub isC (fm_of hC), (hD.sub isC hnC hC).weaken (fun _ _ _ _ => trivial)⟩⟩ rfl hn hsize hst (lv_room hW) hdg hc) hS hFc (fun r H1 l1 h1 h2 h3 => kk r H1 l1 h1 h2 hFc h3)
end LW
theorem d_Box_init_0 : decode b_Box_init 0 = .ok (.aload_n 0, 1) := by decide +kernel
theorem d_Box_init_1 : decode b_Box_init 1 = .ok (.invokespecial 3, 3) := by decide +kernel
theorem d_Box_init_4 : decode b_Box_init 4 = .ok (.aload_n 0, 1) := by decide +kernel
theorem d_Box_init_5 : decode b_Box_init 5 = .ok (.bipush 10, 2) := by decide +kernel
theorem d_Box_init_7 : decode b_Box_init 7 = .ok (.newarray .int, 2) := by decide +kernel
theorem d_Box_init_9 : decode b_Box_init 9 = .ok (.putfield 9, 3) := by decide +kernel
theorem d_Box_init_12 : decode b_Box_init 12 = .ok (.aload_n 0, 1) := by decide +kernel
theorem d_Box_init_13 : decode b_Box_init 13 = .ok (.bipush 10, 2) := by decide +kernel
theorem d_Box_init_15 : decode b_Box_init 15 = .ok (.newarray .int, 2) := by decide +kernel
theorem d_Box_init_17 : decode b_Box_init 17 = .ok (.putfield 15, 3) := by decide +kernel
theorem d_Box_init_20 : decode b_Box_init 20 = .ok (.return_, 1) := by decide +kernel
set_option maxHeartbeats 4000000 in
set_option maxRecDepth 20000 in
theorem k_Box_init (l : Launch) (D : va_G) (cA : Nat → ClassId) (sz h0 : Nat) : CtA l y_Box_init b_Box_init 1 none 2 2 20 D cA [.ref h0] sz [(h0, .inr (2, [.null, .null, .int (bi false)]))] (fun r H => r = none ∧ ∃ q1 q2 : Nat, va_P D classes [(h0, .inr (2, [.ref q1, .ref q2, .int (bi false)])), (q1, .inl (cA 0, 10, .inl (fun _ => 0))), (q2, .inl (cA 0, 10, .inl (fun _ => 0)))] H ∧ va_D (va_A [(h0, .inr (2, [.null, .null, .int (bi false)]))] sz) [(h0, .inr (2, [.ref q1, .ref q2, .int (bi false)])), (q1, .inl (cA 0, 10, .inl (fun _ => 0))), (q2, .inl (cA 0, 10, .inl (fun _ => 0)))]) := by
  refine CtA.mk (by decide) (Nat.le_of_ble_eq_true rfl) ?_
  intro p e s m args below meth c Q A H locs ls hx hb hr hml hlk hown hin hK hQ hAe hA hsz hP hD hS hl
  have hl : lv_has ls 1 [(0, .ref h0)] := hl
  have hown : s.vm.findClass "RangeSheet$Box" = some m.cls := hown
  have hin : meth.name = "<init>" := hin
  refine lv_aload_n hx hb d_Box_init_0 rfl (lv_at hl 0 rfl) ?_
  refine l_obj hx hb hml hown hK hl.1 t_36 d_Box_init_1 ⟨Nat.le_of_ble_eq_true rfl, Nat.le_of_ble_eq_true rfl⟩ (Nat.le_of_ble_eq_true rfl) ?_
  refine lv_aload_n hx hb d_Box_init_4 rfl (lv_at hl 0 rfl) ?_
  refine lv_bipush (v := 10) hx hb d_Box_init_5 (by decide) ?_
  refine l_newa hx hb hK t_59 rfl 0 rfl hP hD hS hA 10 rfl kc_10 (by decide) (by decide) (Nat.le_of_ble_eq_true rfl) (Nat.le_of_ble_eq_true rfl) d_Box_init_7 (fun q_1 H hP hD hS => ?_)
  have hP : va_P D classes [(h0, .inr (2, [.null, .null, .int (bi false)])), (q_1, .inl (cA 0, 10, .inl (fun _ => 0)))] H := hP
  have hD : va_D A [(h0, .inr (2, [.null, .null, .int (bi false)])), (q_1, .inl (cA 0, 10, .inl (fun _ => 0)))] := hD
  refine l_pf hx hb hK i_Box t_Box t_Box_ok n_Box hown hP hD hS 0 rfl rfl 0 (by decide) t_37 rfl hin (Or.inr rfl) rfl rfl rfl d_Box_init_9 (fun H locs hP hD hS => ?_)
  have hP : va_P D classes [(h0, .inr (2, [.ref q_1, .null, .int (bi false)])), (q_1, .inl (cA 0, 10, .inl (fun _ => 0)))] H := hP
  have hD : va_D A [(h0, .inr (2, [.ref q_1, .null, .int (bi false)])), (q_1, .inl (cA 0, 10, .inl (fun _ => 0)))] := hD
  refine lv_aload_n hx hb d_Box_init_12 rfl (lv_at hl 0 rfl) ?_
  refine lv_bipush (v := 10) hx hb d_Box_init_13 (by decide) ?_
  refine l_newa hx hb hK t_59 rfl 0 rfl hP hD hS hA 10 rfl kc_10 (by decide) (by decide) (Nat.le_of_ble_eq_true rfl) (Nat.le_of_ble_eq_true rfl) d_Box_init_15 (fun q_2 H hP hD hS => ?_)
  have hP : va_P D classes [(h0, .inr (2, [.ref q_1, .null, .int (bi false)])), (q_1, .inl (cA 0, 10, .inl (fun _ => 0))), (q_2, .inl (cA 0, 10, .inl (fun _ => 0)))] H := hP
  have hD : va_D A [(h0, .inr (2, [.ref q_1, .null, .int (bi false)])), (q_1, .inl (cA 0, 10, .inl (fun _ => 0))), (q_2, .inl (cA 0, 10, .inl (fun _ => 0)))] := hD
  refine l_pf hx hb hK i_Box t_Box t_Box_ok n_Box hown hP hD hS 0 rfl rfl 1 (by decide) t_43 rfl hin (Or.inr rfl) rfl rfl rfl d_Box_init_17 (fun H locs hP hD hS => ?_)
  have hP : va_P D classes [(h0, .inr (2, [.ref q_1, .ref q_2, .int (bi false)])), (q_1, .inl (cA 0, 10, .inl (fun _ => 0))), (q_2, .inl (cA 0, 10, .inl (fun _ => 0)))] H := hP
  have hD : va_D A [(h0, .inr (2, [.ref q_1, .ref q_2, .int (bi false)])), (q_1, .inl (cA 0, 10, .inl (fun _ => 0))), (q_2, .inl (cA 0, 10, .inl (fun _ => 0)))] := hD
  refine e_v hx hb hr hlk hQ hS d_Box_init_20 ?_
  exact ⟨rfl, q_1, q_2, hP, hAe ▸ hD⟩
theorem d_Rows_init_0 : decode b_Rows_init 0 = .ok (.aload_n 0, 1) := by decide +kernel
theorem d_Rows_init_1 : decode b_Rows_init 1 = .ok (.invokespecial 1, 3) := by decide +kernel
theorem d_Rows_init_4 : decode b_Rows_init 4 = .ok (.aload_n 0, 1) := by decide +kernel
theorem d_Rows_init_5 : decode b_Rows_init 5 = .ok (.bipush 10, 2) := by decide +kernel
theorem d_Rows_init_7 : decode b_Rows_init 7 = .ok (.newarray .int, 2) := by decide +kernel
theorem d_Rows_init_9 : decode b_Rows_init 9 = .ok (.putfield 7, 3) := by decide +kernel
theorem d_Rows_init_12 : decode b_Rows_init 12 = .ok (.aload_n 0, 1) := by decide +kernel
theorem d_Rows_init_13 : decode b_Rows_init 13 = .ok (.bipush 10, 2) := by decide +kernel
theorem d_Rows_init_15 : decode b_Rows_init 15 = .ok (.newarray .int, 2) := by decide +kernel
theorem d_Rows_init_17 : decode b_Rows_init 17 = .ok (.putfield 13, 3) := by decide +kernel
theorem d_Rows_init_20 : decode b_Rows_init 20 = .ok (.return_, 1) := by decide +kernel
set_option maxHeartbeats 4000000 in
set_option maxRecDepth 20000 in
theorem k_Rows_init (l : Launch) (D : va_G) (cA : Nat → ClassId) (sz h0 : Nat) : CtA l y_Rows_init b_Rows_init 1 none 2 2 20 D cA [.ref h0] sz [(h0, .inr (3, [.null, .null, .int 0]))] (fun r H => r = none ∧ ∃ q1 q2 : Nat, va_P D classes [(h0, .inr (3, [.ref q1, .ref q2, .int 0])), (q1, .inl (cA 0, 10, .inl (fun _ => 0))), (q2, .inl (cA 0, 10, .inl (fun _ => 0)))] H ∧ va_D (va_A [(h0, .inr (3, [.null, .null, .int 0]))] sz) [(h0, .inr (3, [.ref q1, .ref q2, .int 0])), (q1, .inl (cA 0, 10, .inl (fun _ => 0))), (q2, .inl (cA 0, 10, .inl (fun _ => 0)))]) := by
  refine CtA.mk (by decide) (Nat.le_of_ble_eq_true rfl) ?_
  intro p e s m args below meth c Q A H locs ls hx hb hr hml hlk hown hin hK hQ hAe hA hsz hP hD hS hl
  have hl : lv_has ls 1 [(0, .ref h0)] := hl
  have hown : s.vm.findClass "RangeSheet$Rows" = some m.cls := hown
  have hin : meth.name = "<init>" := hin
  refine lv_aload_n hx hb d_Rows_init_0 rfl (lv_at hl 0 rfl) ?_
  refine l_obj hx hb hml hown hK hl.1 t_68 d_Rows_init_1 ⟨Nat.le_of_ble_eq_true rfl, Nat.le_of_ble_eq_true rfl⟩ (Nat.le_of_ble_eq_true rfl) ?_
  refine lv_aload_n hx hb d_Rows_init_4 rfl (lv_at hl 0 rfl) ?_
  refine lv_bipush (v := 10) hx hb d_Rows_init_5 (by decide) ?_
  refine l_newa hx hb hK t_59 rfl 0 rfl hP hD hS hA 10 rfl kc_10 (by decide) (by decide) (Nat.le_of_ble_eq_true rfl) (Nat.le_of_ble_eq_true rfl) d_Rows_init_7 (fun q_1 H hP hD hS => ?_)
  have hP : va_P D classes [(h0, .inr (3, [.null, .null, .int 0])), (q_1, .inl (cA 0, 10, .inl (fun _ => 0)))] H := hP
  have hD : va_D A [(h0, .inr (3, [.null, .null, .int 0])), (q_1, .inl (cA 0, 10, .inl (fun _ => 0)))] := hD
  refine l_pf hx hb hK i_Rows t_Rows t_Rows_ok n_Rows hown hP hD hS 0 rfl rfl 0 (by decide) t_69 rfl hin (Or.inr rfl) rfl rfl rfl d_Rows_init_9 (fun H locs hP hD hS => ?_)
  have hP : va_P D classes [(h0, .inr (3, [.ref q_1, .null, .int 0])), (q_1, .inl (cA 0, 10, .inl (fun _ => 0)))] H := hP
  have hD : va_D A [(h0, .inr (3, [.ref q_1, .null, .int 0])), (q_1, .inl (cA 0, 10, .inl (fun _ => 0)))] := hD
  refine lv_aload_n hx hb d_Rows_init_12 rfl (lv_at hl 0 rfl) ?_
  refine lv_bipush (v := 10) hx hb d_Rows_init_13 (by decide) ?_
  refine l_newa hx hb hK t_59 rfl 0 rfl hP hD hS hA 10 rfl kc_10 (by decide) (by decide) (Nat.le_of_ble_eq_true rfl) (Nat.le_of_ble_eq_true rfl) d_Rows_init_15 (fun q_2 H hP hD hS => ?_)
  have hP : va_P D classes [(h0, .inr (3, [.ref q_1, .null, .int 0])), (q_1, .inl (cA 0, 10, .inl (fun _ => 0))), (q_2, .inl (cA 0, 10, .inl (fun _ => 0)))] H := hP
  have hD : va_D A [(h0, .inr (3, [.ref q_1, .null, .int 0])), (q_1, .inl (cA 0, 10, .inl (fun _ => 0))), (q_2, .inl (cA 0, 10, .inl (fun _ => 0)))] := hD
  refine l_pf hx hb hK i_Rows t_Rows t_Rows_ok n_Rows hown hP hD hS 0 rfl rfl 1 (by decide) t_72 rfl hin (Or.inr rfl) rfl rfl rfl d_Rows_init_17 (fun H locs hP hD hS => ?_)
  have hP : va_P D classes [(h0, .inr (3, [.ref q_1, .ref q_2, .int 0])), (q_1, .inl (cA 0, 10, .inl (fun _ => 0))), (q_2, .inl (cA 0, 10, .inl (fun _ => 0)))] H := hP
  have hD : va_D A [(h0, .inr (3, [.ref q_1, .ref q_2, .int 0])), (q_1, .inl (cA 0, 10, .inl (fun _ => 0))), (q_2, .inl (cA 0, 10, .inl (fun _ => 0)))] := hD
  refine e_v hx hb hr hlk hQ hS d_Rows_init_20 ?_
  exact ⟨rfl, q_1, q_2, hP, hAe ▸ hD⟩
theorem d_Relation_init_0 : decode b_Relation_init 0 = .ok (.aload_n 0, 1) := by decide +kernel
theorem d_Relation_init_1 : decode b_Relation_init 1 = .ok (.invokespecial 1, 3) := by decide +kernel
theorem d_Relation_init_4 : decode b_Relation_init 4 = .ok (.aload_n 0, 1) := by decide +kernel
theorem d_Relation_init_5 : decode b_Relation_init 5 = .ok (.iconst 1, 1) := by decide +kernel
theorem d_Relation_init_6 : decode b_Relation_init 6 = .ok (.putfield 7, 3) := by decide +kernel
theorem d_Relation_init_9 : decode b_Relation_init 9 = .ok (.return_, 1) := by decide +kernel
set_option maxHeartbeats 4000000 in
set_option maxRecDepth 20000 in
theorem k_Rel_init_Sum (l : Launch) (D : va_G) (cA : Nat → ClassId) (sz h0 : Nat) : CtA l y_Relation_init b_Relation_init 1 none 2 0 0 D cA [.ref h0] sz [(h0, .inr (7, [.int 0, .int 0, .int 0, .int 0, .int 0, .int 0, .int 0, .int 0, .int 0, .int (bi false)]))] (fun r H => r = none ∧ va_P D classes [(h0, .inr (7, [.int 0, .int 0, .int 0, .int 0, .int 0, .int 0, .int 0, .int 0, .int 0, .int (bi true)]))] H ∧ va_D (va_A [(h0, .inr (7, [.int 0, .int 0, .int 0, .int 0, .int 0, .int 0, .int 0, .int 0, .int 0, .int (bi false)]))] sz) [(h0, .inr (7, [.int 0, .int 0, .int 0, .int 0, .int 0, .int 0, .int 0, .int 0, .int 0, .int (bi true)]))]) := by
  refine CtA.mk (by decide) (Nat.le_of_ble_eq_true rfl) ?_
  intro p e s m args below meth c Q A H locs ls hx hb hr hml hlk hown hin hK hQ hAe hA hsz hP hD hS hl
  have hl : lv_has ls 1 [(0, .ref h0)] := hl
  have hown : s.vm.findClass "RangeSheet$Relation" = some m.cls := hown
  have hin : meth.name = "<init>" := hin
  refine lv_aload_n hx hb d_Relation_init_0 rfl (lv_at hl 0 rfl) ?_
  refine l_obj hx hb hml hown hK hl.1 t_510 d_Relation_init_1 ⟨Nat.le_of_ble_eq_true rfl, Nat.le_of_ble_eq_true rfl⟩ (Nat.le_of_ble_eq_true rfl) ?_
  refine lv_aload_n hx hb d_Relation_init_4 rfl (lv_at hl 0 rfl) ?_
  refine lv_iconst (v := 1) hx hb d_Relation_init_5 (by decide) ?_
  refine W.eq (g2 := F0 m 6 ls (.int (bi true) :: [.ref h0])) rfl ?_
  refine l_pf hx hb hK i_Sum t_Sum t_Sum_ok n_Sum hown hP hD hS 0 rfl rfl 9 (by decide) t_520 rfl hin (Or.inr rfl) (bi_nar _) (bi_fit _) rfl d_Relation_init_6 (fun H locs hP hD hS => ?_)
  have hP : va_P D classes [(h0, .inr (7, [.int 0, .int 0, .int 0, .int 0, .int 0, .int 0, .int 0, .int 0, .int 0, .int (bi true)]))] H := hP
  have hD : va_D A [(h0, .inr (7, [.int 0, .int 0, .int 0, .int 0, .int 0, .int 0, .int 0, .int 0, .int 0, .int (bi true)]))] := hD
  refine e_v hx hb hr hlk hQ hS d_Relation_init_9 ?_
  exact ⟨rfl, hP, hAe ▸ hD⟩
set_option maxHeartbeats 4000000 in
set_option maxRecDepth 20000 in
theorem k_Rel_init_Product (l : Launch) (D : va_G) (cA : Nat → ClassId) (sz h0 : Nat) : CtA l y_Relation_init b_Relation_init 1 none 2 0 0 D cA [.ref h0] sz [(h0, .inr (8, [.int 0, .int 0, .int 0, .int 0, .int 0, .int 0, .int 0, .int 0, .int 0, .int (bi false)]))] (fun r H => r = none ∧ va_P D classes [(h0, .inr (8, [.int 0, .int 0, .int 0, .int 0, .int 0, .int 0, .int 0, .int 0, .int 0, .int (bi true)]))] H ∧ va_D (va_A [(h0, .inr (8, [.int 0, .int 0, .int 0, .int 0, .int 0, .int 0, .int 0, .int 0, .int 0, .int (bi false)]))] sz) [(h0, .inr (8, [.int 0, .int 0, .int 0, .int 0, .int 0, .int 0, .int 0, .int 0, .int 0, .int (bi true)]))]) := by
  refine CtA.mk (by decide) (Nat.le_of_ble_eq_true rfl) ?_
  intro p e s m args below meth c Q A H locs ls hx hb hr hml hlk hown hin hK hQ hAe hA hsz hP hD hS hl
  have hl : lv_has ls 1 [(0, .ref h0)] := hl
  have hown : s.vm.findClass "RangeSheet$Relation" = some m.cls := hown
  have hin : meth.name = "<init>" := hin
  refine lv_aload_n hx hb d_Relation_init_0 rfl (lv_at hl 0 rfl) ?_
  refine l_obj hx hb hml hown hK hl.1 t_510 d_Relation_init_1 ⟨Nat.le_of_ble_eq_true rfl, Nat.le_of_ble_eq_true rfl⟩ (Nat.le_of_ble_eq_true rfl) ?_
  refine lv_aload_n hx hb d_Relation_init_4 rfl (lv_at hl 0 rfl) ?_
  refine lv_iconst (v := 1) hx hb d_Relation_init_5 (by decide) ?_
  refine W.eq (g2 := F0 m 6 ls (.int (bi true) :: [.ref h0])) rfl ?_
  refine l_pf hx hb hK i_Product t_Product t_Product_ok n_Product hown hP hD hS 0 rfl rfl 9 (by decide) t_520 rfl hin (Or.inr rfl) (bi_nar _) (bi_fit _) rfl d_Relation_init_6 (fun H locs hP hD hS => ?_)
  have hP : va_P D classes [(h0, .inr (8, [.int 0, .int 0, .int 0, .int 0, .int 0, .int 0, .int 0, .int 0, .int 0, .int (bi true)]))] H := hP
  have hD : va_D A [(h0, .inr (8, [.int 0, .int 0, .int 0, .int 0, .int 0, .int 0, .int 0, .int 0, .int 0, .int (bi true)]))] := hD
  refine e_v hx hb hr hlk hQ hS d_Relation_init_9 ?_
  exact ⟨rfl, hP, hAe ▸ hD⟩
set_option maxHeartbeats 4000000 in
set_option maxRecDepth 20000 in
theorem k_Rel_init_Quotient (l : Launch) (D : va_G) (cA : Nat → ClassId) (sz h0 : Nat) : CtA l y_Relation_init b_Relation_init 1 none 2 0 0 D cA [.ref h0] sz [(h0, .inr (9, [.int 0, .int 0, .int 0, .int 0, .int 0, .int 0, .int 0, .int 0, .int 0, .int (bi false)]))] (fun r H => r = none ∧ va_P D classes [(h0, .inr (9, [.int 0, .int 0, .int 0, .int 0, .int 0, .int 0, .int 0, .int 0, .int 0, .int (bi true)]))] H ∧ va_D (va_A [(h0, .inr (9, [.int 0, .int 0, .int 0, .int 0, .int 0, .int 0, .int 0, .int 0, .int 0, .int (bi false)]))] sz) [(h0, .inr (9, [.int 0, .int 0, .int 0, .int 0, .int 0, .int 0, .int 0, .int 0, .int 0, .int (bi true)]))]) := by
  refine CtA.mk (by decide) (Nat.le_of_ble_eq_true rfl) ?_
  intro p e s m args below meth c Q A H locs ls hx hb hr hml hlk hown hin hK hQ hAe hA hsz hP hD hS hl
  have hl : lv_has ls 1 [(0, .ref h0)] := hl
  have hown : s.vm.findClass "RangeSheet$Relation" = some m.cls := hown
  have hin : meth.name = "<init>" := hin
  refine lv_aload_n hx hb d_Relation_init_0 rfl (lv_at hl 0 rfl) ?_
  refine l_obj hx hb hml hown hK hl.1 t_510 d_Relation_init_1 ⟨Nat.le_of_ble_eq_true rfl, Nat.le_of_ble_eq_true rfl⟩ (Nat.le_of_ble_eq_true rfl) ?_
  refine lv_aload_n hx hb d_Relation_init_4 rfl (lv_at hl 0 rfl) ?_
  refine lv_iconst (v := 1) hx hb d_Relation_init_5 (by decide) ?_
  refine W.eq (g2 := F0 m 6 ls (.int (bi true) :: [.ref h0])) rfl ?_
  refine l_pf hx hb hK i_Quotient t_Quotient t_Quotient_ok n_Quotient hown hP hD hS 0 rfl rfl 9 (by decide) t_520 rfl hin (Or.inr rfl) (bi_nar _) (bi_fit _) rfl d_Relation_init_6 (fun H locs hP hD hS => ?_)
  have hP : va_P D classes [(h0, .inr (9, [.int 0, .int 0, .int 0, .int 0, .int 0, .int 0, .int 0, .int 0, .int 0, .int (bi true)]))] H := hP
  have hD : va_D A [(h0, .inr (9, [.int 0, .int 0, .int 0, .int 0, .int 0, .int 0, .int 0, .int 0, .int 0, .int (bi true)]))] := hD
  refine e_v hx hb hr hlk hQ hS d_Relation_init_9 ?_
  exact ⟨rfl, hP, hAe ▸ hD⟩
set_option maxHeartbeats 4000000 in
set_option maxRecDepth 20000 in
theorem k_Rel_init_Lesser (l : Launch) (D : va_G) (cA : Nat → ClassId) (sz h0 : Nat) : CtA l y_Relation_init b_Relation_init 1 none 2 0 0 D cA [.ref h0] sz [(h0, .inr (10, [.int 0, .int 0, .int 0, .int 0, .int 0, .int 0, .int 0, .int 0, .int 0, .int (bi false)]))] (fun r H => r = none ∧ va_P D classes [(h0, .inr (10, [.int 0, .int 0, .int 0, .int 0, .int 0, .int 0, .int 0, .int 0, .int 0, .int (bi true)]))] H ∧ va_D (va_A [(h0, .inr (10, [.int 0, .int 0, .int 0, .int 0, .int 0, .int 0, .int 0, .int 0, .int 0, .int (bi false)]))] sz) [(h0, .inr (10, [.int 0, .int 0, .int 0, .int 0, .int 0, .int 0, .int 0, .int 0, .int 0, .int (bi true)]))]) := by
  refine CtA.mk (by decide) (Nat.le_of_ble_eq_true rfl) ?_
  intro p e s m args below meth c Q A H locs ls hx hb hr hml hlk hown hin hK hQ hAe hA hsz hP hD hS hl
  have hl : lv_has ls 1 [(0, .ref h0)] := hl
  have hown : s.vm.findClass "RangeSheet$Relation" = some m.cls := hown
  have hin : meth.name = "<init>" := hin
  refine lv_aload_n hx hb d_Relation_init_0 rfl (lv_at hl 0 rfl) ?_
  refine l_obj hx hb hml hown hK hl.1 t_510 d_Relation_init_1 ⟨Nat.le_of_ble_eq_true rfl, Nat.le_of_ble_eq_true rfl⟩ (Nat.le_of_ble_eq_true rfl) ?_
  refine lv_aload_n hx hb d_Relation_init_4 rfl (lv_at hl 0 rfl) ?_
  refine lv_iconst (v := 1) hx hb d_Relation_init_5 (by decide) ?_
  refine W.eq (g2 := F0 m 6 ls (.int (bi true) :: [.ref h0])) rfl ?_
  refine l_pf hx hb hK i_Lesser t_Lesser t_Lesser_ok n_Lesser hown hP hD hS 0 rfl rfl 9 (by decide) t_520 rfl hin (Or.inr rfl) (bi_nar _) (bi_fit _) rfl d_Relation_init_6 (fun H locs hP hD hS => ?_)
  have hP : va_P D classes [(h0, .inr (10, [.int 0, .int 0, .int 0, .int 0, .int 0, .int 0, .int 0, .int 0, .int 0, .int (bi true)]))] H := hP
  have hD : va_D A [(h0, .inr (10, [.int 0, .int 0, .int 0, .int 0, .int 0, .int 0, .int 0, .int 0, .int 0, .int (bi true)]))] := hD
  refine e_v hx hb hr hlk hQ hS d_Relation_init_9 ?_
  exact ⟨rfl, hP, hAe ▸ hD⟩
set_option maxHeartbeats 4000000 in
set_option maxRecDepth 20000 in
theorem k_Rel_init_Greater (l : Launch) (D : va_G) (cA : Nat → ClassId) (sz h0 : Nat) : CtA l y_Relation_init b_Relation_init 1 none 2 0 0 D cA [.ref h0] sz [(h0, .inr (11, [.int 0, .int 0, .int 0, .int 0, .int 0, .int 0, .int 0, .int 0, .int 0, .int (bi false)]))] (fun r H => r = none ∧ va_P D classes [(h0, .inr (11, [.int 0, .int 0, .int 0, .int 0, .int 0, .int 0, .int 0, .int 0, .int 0, .int (bi true)]))] H ∧ va_D (va_A [(h0, .inr (11, [.int 0, .int 0, .int 0, .int 0, .int 0, .int 0, .int 0, .int 0, .int 0, .int (bi false)]))] sz) [(h0, .inr (11, [.int 0, .int 0, .int 0, .int 0, .int 0, .int 0, .int 0, .int 0, .int 0, .int (bi true)]))]) := by
  refine CtA.mk (by decide) (Nat.le_of_ble_eq_true rfl) ?_
  intro p e s m args below meth c Q A H locs ls hx hb hr hml hlk hown hin hK hQ hAe hA hsz hP hD hS hl
  have hl : lv_has ls 1 [(0, .ref h0)] := hl
  have hown : s.vm.findClass "RangeSheet$Relation" = some m.cls := hown
  have hin : meth.name = "<init>" := hin
  refine lv_aload_n hx hb d_Relation_init_0 rfl (lv_at hl 0 rfl) ?_
  refine l_obj hx hb hml hown hK hl.1 t_510 d_Relation_init_1 ⟨Nat.le_of_ble_eq_true rfl, Nat.le_of_ble_eq_true rfl⟩ (Nat.le_of_ble_eq_true rfl) ?_
  refine lv_aload_n hx hb d_Relation_init_4 rfl (lv_at hl 0 rfl) ?_
  refine lv_iconst (v := 1) hx hb d_Relation_init_5 (by decide) ?_
  refine W.eq (g2 := F0 m 6 ls (.int (bi true) :: [.ref h0])) rfl ?_
  refine l_pf hx hb hK i_Greater t_Greater t_Greater_ok n_Greater hown hP hD hS 0 rfl rfl 9 (by decide) t_520 rfl hin (Or.inr rfl) (bi_nar _) (bi_fit _) rfl d_Relation_init_6 (fun H locs hP hD hS => ?_)
  have hP : va_P D classes [(h0, .inr (11, [.int 0, .int 0, .int 0, .int 0, .int 0, .int 0, .int 0, .int 0, .int 0, .int (bi true)]))] H := hP
  have hD : va_D A [(h0, .inr (11, [.int 0, .int 0, .int 0, .int 0, .int 0, .int 0, .int 0, .int 0, .int 0, .int (bi true)]))] := hD
  refine e_v hx hb hr hlk hQ hS d_Relation_init_9 ?_
  exact ⟨rfl, hP, hAe ▸ hD⟩
set_option maxHeartbeats 4000000 in
set_option maxRecDepth 20000 in
theorem k_Rel_init_AtMost (l : Launch) (D : va_G) (cA : Nat → ClassId) (sz h0 : Nat) : CtA l y_Relation_init b_Relation_init 1 none 2 0 0 D cA [.ref h0] sz [(h0, .inr (4, [.int 0, .int 0, .int 0, .int (bi false)]))] (fun r H => r = none ∧ va_P D classes [(h0, .inr (4, [.int 0, .int 0, .int 0, .int (bi true)]))] H ∧ va_D (va_A [(h0, .inr (4, [.int 0, .int 0, .int 0, .int (bi false)]))] sz) [(h0, .inr (4, [.int 0, .int 0, .int 0, .int (bi true)]))]) := by
  refine CtA.mk (by decide) (Nat.le_of_ble_eq_true rfl) ?_
  intro p e s m args below meth c Q A H locs ls hx hb hr hml hlk hown hin hK hQ hAe hA hsz hP hD hS hl
  have hl : lv_has ls 1 [(0, .ref h0)] := hl
  have hown : s.vm.findClass "RangeSheet$Relation" = some m.cls := hown
  have hin : meth.name = "<init>" := hin
  refine lv_aload_n hx hb d_Relation_init_0 rfl (lv_at hl 0 rfl) ?_
  refine l_obj hx hb hml hown hK hl.1 t_510 d_Relation_init_1 ⟨Nat.le_of_ble_eq_true rfl, Nat.le_of_ble_eq_true rfl⟩ (Nat.le_of_ble_eq_true rfl) ?_
  refine lv_aload_n hx hb d_Relation_init_4 rfl (lv_at hl 0 rfl) ?_
  refine lv_iconst (v := 1) hx hb d_Relation_init_5 (by decide) ?_
  refine W.eq (g2 := F0 m 6 ls (.int (bi true) :: [.ref h0])) rfl ?_
  refine l_pf hx hb hK i_AtMost t_AtMost t_AtMost_ok n_AtMost hown hP hD hS 0 rfl rfl 3 (by decide) t_520 rfl hin (Or.inr rfl) (bi_nar _) (bi_fit _) rfl d_Relation_init_6 (fun H locs hP hD hS => ?_)
  have hP : va_P D classes [(h0, .inr (4, [.int 0, .int 0, .int 0, .int (bi true)]))] H := hP
  have hD : va_D A [(h0, .inr (4, [.int 0, .int 0, .int 0, .int (bi true)]))] := hD
  refine e_v hx hb hr hlk hQ hS d_Relation_init_9 ?_
  exact ⟨rfl, hP, hAe ▸ hD⟩
set_option maxHeartbeats 4000000 in
set_option maxRecDepth 20000 in
theorem k_Rel_init_If (l : Launch) (D : va_G) (cA : Nat → ClassId) (sz h0 : Nat) : CtA l y_Relation_init b_Relation_init 1 none 2 0 0 D cA [.ref h0] sz [(h0, .inr (12, [.int 0, .int 0, .int 0, .int 0, .int 0, .int 0, .int 0, .int 0, .int 0, .int (bi false)]))] (fun r H => r = none ∧ va_P D classes [(h0, .inr (12, [.int 0, .int 0, .int 0, .int 0, .int 0, .int 0, .int 0, .int 0, .int 0, .int (bi true)]))] H ∧ va_D (va_A [(h0, .inr (12, [.int 0, .int 0, .int 0, .int 0, .int 0, .int 0, .int 0, .int 0, .int 0, .int (bi false)]))] sz) [(h0, .inr (12, [.int 0, .int 0, .int 0, .int 0, .int 0, .int 0, .int 0, .int 0, .int 0, .int (bi true)]))]) := by
  refine CtA.mk (by decide) (Nat.le_of_ble_eq_true rfl) ?_
  intro p e s m args below meth c Q A H locs ls hx hb hr hml hlk hown hin hK hQ hAe hA hsz hP hD hS hl
  have hl : lv_has ls 1 [(0, .ref h0)] := hl
  have hown : s.vm.findClass "RangeSheet$Relation" = some m.cls := hown
  have hin : meth.name = "<init>" := hin
  refine lv_aload_n hx hb d_Relation_init_0 rfl (lv_at hl 0 rfl) ?_
  refine l_obj hx hb hml hown hK hl.1 t_510 d_Relation_init_1 ⟨Nat.le_of_ble_eq_true rfl, Nat.le_of_ble_eq_true rfl⟩ (Nat.le_of_ble_eq_true rfl) ?_
  refine lv_aload_n hx hb d_Relation_init_4 rfl (lv_at hl 0 rfl) ?_
  refine lv_iconst (v := 1) hx hb d_Relation_init_5 (by decide) ?_
  refine W.eq (g2 := F0 m 6 ls (.int (bi true) :: [.ref h0])) rfl ?_
  refine l_pf hx hb hK i_If t_If t_If_ok n_If hown hP hD hS 0 rfl rfl 9 (by decide) t_520 rfl hin (Or.inr rfl) (bi_nar _) (bi_fit _) rfl d_Relation_init_6 (fun H locs hP hD hS => ?_)
  have hP : va_P D classes [(h0, .inr (12, [.int 0, .int 0, .int 0, .int 0, .int 0, .int 0, .int 0, .int 0, .int 0, .int (bi true)]))] H := hP
  have hD : va_D A [(h0, .inr (12, [.int 0, .int 0, .int 0, .int 0, .int 0, .int 0, .int 0, .int 0, .int 0, .int (bi true)]))] := hD
  refine e_v hx hb hr hlk hQ hS d_Relation_init_9 ?_
  exact ⟨rfl, hP, hAe ▸ hD⟩
set_option maxHeartbeats 4000000 in
set_option maxRecDepth 20000 in
theorem k_Rel_init_Different (l : Launch) (D : va_G) (cA : Nat → ClassId) (sz h0 : Nat) : CtA l y_Relation_init b_Relation_init 1 none 2 0 0 D cA [.ref h0] sz [(h0, .inr (5, [.int 0, .int (bi false)]))] (fun r H => r = none ∧ va_P D classes [(h0, .inr (5, [.int 0, .int (bi true)]))] H ∧ va_D (va_A [(h0, .inr (5, [.int 0, .int (bi false)]))] sz) [(h0, .inr (5, [.int 0, .int (bi true)]))]) := by
  refine CtA.mk (by decide) (Nat.le_of_ble_eq_true rfl) ?_
  intro p e s m args below meth c Q A H locs ls hx hb hr hml hlk hown hin hK hQ hAe hA hsz hP hD hS hl
  have hl : lv_has ls 1 [(0, .ref h0)] := hl
  have hown : s.vm.findClass "RangeSheet$Relation" = some m.cls := hown
  have hin : meth.name = "<init>" := hin
  refine lv_aload_n hx hb d_Relation_init_0 rfl (lv_at hl 0 rfl) ?_
  refine l_obj hx hb hml hown hK hl.1 t_510 d_Relation_init_1 ⟨Nat.le_of_ble_eq_true rfl, Nat.le_of_ble_eq_true rfl⟩ (Nat.le_of_ble_eq_true rfl) ?_
  refine lv_aload_n hx hb d_Relation_init_4 rfl (lv_at hl 0 rfl) ?_
  refine lv_iconst (v := 1) hx hb d_Relation_init_5 (by decide) ?_
  refine W.eq (g2 := F0 m 6 ls (.int (bi true) :: [.ref h0])) rfl ?_
  refine l_pf hx hb hK i_Different t_Different t_Different_ok n_Different hown hP hD hS 0 rfl rfl 1 (by decide) t_520 rfl hin (Or.inr rfl) (bi_nar _) (bi_fit _) rfl d_Relation_init_6 (fun H locs hP hD hS => ?_)
  have hP : va_P D classes [(h0, .inr (5, [.int 0, .int (bi true)]))] H := hP
  have hD : va_D A [(h0, .inr (5, [.int 0, .int (bi true)]))] := hD
  refine e_v hx hb hr hlk hQ hS d_Relation_init_9 ?_
  exact ⟨rfl, hP, hAe ▸ hD⟩
set_option maxHeartbeats 4000000 in
set_option maxRecDepth 20000 in
theorem k_Rel_init_Lookup (l : Launch) (D : va_G) (cA : Nat → ClassId) (sz h0 : Nat) : CtA l y_Relation_init b_Relation_init 1 none 2 0 0 D cA [.ref h0] sz [(h0, .inr (6, [.int 0, .int 0, .null, .int (bi false)]))] (fun r H => r = none ∧ va_P D classes [(h0, .inr (6, [.int 0, .int 0, .null, .int (bi true)]))] H ∧ va_D (va_A [(h0, .inr (6, [.int 0, .int 0, .null, .int (bi false)]))] sz) [(h0, .inr (6, [.int 0, .int 0, .null, .int (bi true)]))]) := by
  refine CtA.mk (by decide) (Nat.le_of_ble_eq_true rfl) ?_
  intro p e s m args below meth c Q A H locs ls hx hb hr hml hlk hown hin hK hQ hAe hA hsz hP hD hS hl
  have hl : lv_has ls 1 [(0, .ref h0)] := hl
  have hown : s.vm.findClass "RangeSheet$Relation" = some m.cls := hown
  have hin : meth.name = "<init>" := hin
  refine lv_aload_n hx hb d_Relation_init_0 rfl (lv_at hl 0 rfl) ?_
  refine l_obj hx hb hml hown hK hl.1 t_510 d_Relation_init_1 ⟨Nat.le_of_ble_eq_true rfl, Nat.le_of_ble_eq_true rfl⟩ (Nat.le_of_ble_eq_true rfl) ?_
  refine lv_aload_n hx hb d_Relation_init_4 rfl (lv_at hl 0 rfl) ?_
  refine lv_iconst (v := 1) hx hb d_Relation_init_5 (by decide) ?_
  refine W.eq (g2 := F0 m 6 ls (.int (bi true) :: [.ref h0])) rfl ?_
  refine l_pf hx hb hK i_Lookup t_Lookup t_Lookup_ok n_Lookup hown hP hD hS 0 rfl rfl 3 (by decide) t_520 rfl hin (Or.inr rfl) (bi_nar _) (bi_fit _) rfl d_Relation_init_6 (fun H locs hP hD hS => ?_)
  have hP : va_P D classes [(h0, .inr (6, [.int 0, .int 0, .null, .int (bi true)]))] H := hP
  have hD : va_D A [(h0, .inr (6, [.int 0, .int 0, .null, .int (bi true)]))] := hD
  refine e_v hx hb hr hlk hQ hS d_Relation_init_9 ?_
  exact ⟨rfl, hP, hAe ▸ hD⟩
theorem d_Three_init_0 : decode b_Three_init 0 = .ok (.aload_n 0, 1) := by decide +kernel
theorem d_Three_init_1 : decode b_Three_init 1 = .ok (.invokespecial 3, 3) := by decide +kernel
theorem d_Three_init_4 : decode b_Three_init 4 = .ok (.aload_n 0, 1) := by decide +kernel
theorem d_Three_init_5 : decode b_Three_init 5 = .ok (.iload_n 1, 1) := by decide +kernel
theorem d_Three_init_6 : decode b_Three_init 6 = .ok (.putfield 9, 3) := by decide +kernel
theorem d_Three_init_9 : decode b_Three_init 9 = .ok (.aload_n 0, 1) := by decide +kernel
theorem d_Three_init_10 : decode b_Three_init 10 = .ok (.iload_n 2, 1) := by decide +kernel
theorem d_Three_init_11 : decode b_Three_init 11 = .ok (.putfield 15, 3) := by decide +kernel
theorem d_Three_init_14 : decode b_Three_init 14 = .ok (.aload_n 0, 1) := by decide +kernel
theorem d_Three_init_15 : decode b_Three_init 15 = .ok (.iload_n 3, 1) := by decide +kernel
theorem d_Three_init_16 : decode b_Three_init 16 = .ok (.putfield 18, 3) := by decide +kernel
theorem d_Three_init_19 : decode b_Three_init 19 = .ok (.return_, 1) := by decide +kernel
set_option maxHeartbeats 4000000 in
set_option maxRecDepth 20000 in
theorem k_Three_init_Sum (l : Launch) (D : va_G) (cA : Nat → ClassId) (sz h0 : Nat) (xa : Int32) (xb : Int32) (xc : Int32) : CtA l y_Three_init b_Three_init 4 none 4 0 0 D cA [.ref h0, .int xa, .int xb, .int xc] sz [(h0, .inr (7, [.int 0, .int 0, .int 0, .int 0, .int 0, .int 0, .int 0, .int 0, .int 0, .int (bi false)]))] (fun r H => r = none ∧ va_P D classes [(h0, .inr (7, [.int xa, .int xb, .int xc, .int 0, .int 0, .int 0, .int 0, .int 0, .int 0, .int (bi true)]))] H ∧ va_D (va_A [(h0, .inr (7, [.int 0, .int 0, .int 0, .int 0, .int 0, .int 0, .int 0, .int 0, .int 0, .int (bi false)]))] sz) [(h0, .inr (7, [.int xa, .int xb, .int xc, .int 0, .int 0, .int 0, .int 0, .int 0, .int 0, .int (bi true)]))]) := by
  refine CtA.mk (by decide) (Nat.le_of_ble_eq_true rfl) ?_
  intro p e s m args below meth c Q A H locs ls hx hb hr hml hlk hown hin hK hQ hAe hA hsz hP hD hS hl
  have hl : lv_has ls 4 [(0, .ref h0), (1, .int xa), (2, .int xb), (3, .int xc)] := hl
  have hown : s.vm.findClass "RangeSheet$Three" = some m.cls := hown
  have hin : meth.name = "<init>" := hin
  refine lv_aload_n hx hb d_Three_init_0 rfl (lv_at hl 0 rfl) ?_
  refine l_IN (As := []) (rest := []) (wc := [(h0, .inr (7, [.int 0, .int 0, .int 0, .int 0, .int 0, .int 0, .int 0, .int 0, .int 0, .int (bi false)]))]) hx hb hml hown hK (k_Rel_init_Sum l D cA H.size h0 ) t_509 t_10 t_507 t_508 yk_Relation_init rfl ⟨Nat.le_of_ble_eq_true rfl, Nat.le_of_ble_eq_true rfl⟩ hP hD hS hA [0] (by decide) rfl rfl hl.1 rfl (Nat.le_of_ble_eq_true rfl) d_Three_init_1 ⟨Nat.le_of_ble_eq_true rfl, Nat.le_of_ble_eq_true rfl⟩ (fun r H locs hq hk1 hFc hS => ?_)
  obtain ⟨rfl, hP1, hD1⟩ := hq
  have hJ := va_join (wr := []) (w1 := [(h0, .inr (7, [.int 0, .int 0, .int 0, .int 0, .int 0, .int 0, .int 0, .int 0, .int 0, .int (bi true)]))]) hP hD [0] [] rfl rfl (by decide) (by decide) hk1 hFc hP1 hD1
  obtain ⟨hP, hD⟩ := hJ
  have hP : va_P D classes [(h0, .inr (7, [.int 0, .int 0, .int 0, .int 0, .int 0, .int 0, .int 0, .int 0, .int 0, .int (bi true)]))] H := hP
  have hD : va_D A [(h0, .inr (7, [.int 0, .int 0, .int 0, .int 0, .int 0, .int 0, .int 0, .int 0, .int 0, .int (bi true)]))] := hD
  refine W.eq (g2 := F0 m 4 ls []) rfl ?_
  refine lv_aload_n hx hb d_Three_init_4 rfl (lv_at hl 0 rfl) ?_
  refine lv_iload_n hx hb d_Three_init_5 rfl (lv_at hl 1 rfl) ?_
  refine l_pf hx hb hK i_Sum t_Sum t_Sum_ok n_Sum hown hP hD hS 0 rfl rfl 0 (by decide) t_511 rfl hin (Or.inr rfl) rfl rfl rfl d_Three_init_6 (fun H locs hP hD hS => ?_)
  have hP : va_P D classes [(h0, .inr (7, [.int xa, .int 0, .int 0, .int 0, .int 0, .int 0, .int 0, .int 0, .int 0, .int (bi true)]))] H := hP
  have hD : va_D A [(h0, .inr (7, [.int xa, .int 0, .int 0, .int 0, .int 0, .int 0, .int 0, .int 0, .int 0, .int (bi true)]))] := hD
  refine lv_aload_n hx hb d_Three_init_9 rfl (lv_at hl 0 rfl) ?_
  refine lv_iload_n hx hb d_Three_init_10 rfl (lv_at hl 2 rfl) ?_
  refine l_pf hx hb hK i_Sum t_Sum t_Sum_ok n_Sum hown hP hD hS 0 rfl rfl 1 (by decide) t_512 rfl hin (Or.inr rfl) rfl rfl rfl d_Three_init_11 (fun H locs hP hD hS => ?_)
  have hP : va_P D classes [(h0, .inr (7, [.int xa, .int xb, .int 0, .int 0, .int 0, .int 0, .int 0, .int 0, .int 0, .int (bi true)]))] H := hP
  have hD : va_D A [(h0, .inr (7, [.int xa, .int xb, .int 0, .int 0, .int 0, .int 0, .int 0, .int 0, .int 0, .int (bi true)]))] := hD
  refine lv_aload_n hx hb d_Three_init_14 rfl (lv_at hl 0 rfl) ?_
  refine lv_iload_n hx hb d_Three_init_15 rfl (lv_at hl 3 rfl) ?_
  refine l_pf hx hb hK i_Sum t_Sum t_Sum_ok n_Sum hown hP hD hS 0 rfl rfl 2 (by decide) t_513 rfl hin (Or.inr rfl) rfl rfl rfl d_Three_init_16 (fun H locs hP hD hS => ?_)
  have hP : va_P D classes [(h0, .inr (7, [.int xa, .int xb, .int xc, .int 0, .int 0, .int 0, .int 0, .int 0, .int 0, .int (bi true)]))] H := hP
  have hD : va_D A [(h0, .inr (7, [.int xa, .int xb, .int xc, .int 0, .int 0, .int 0, .int 0, .int 0, .int 0, .int (bi true)]))] := hD
  refine e_v hx hb hr hlk hQ hS d_Three_init_19 ?_
  exact ⟨rfl, hP, hAe ▸ hD⟩
theorem d_Sum_init_0 : decode b_Sum_init 0 = .ok (.aload_n 0, 1) := by decide +kernel
theorem d_Sum_init_1 : decode b_Sum_init 1 = .ok (.iload_n 1, 1) := by decide +kernel
theorem d_Sum_init_2 : decode b_Sum_init 2 = .ok (.iload_n 2, 1) := by decide +kernel
theorem d_Sum_init_3 : decode b_Sum_init 3 = .ok (.iload_n 3, 1) := by decide +kernel
theorem d_Sum_init_4 : decode b_Sum_init 4 = .ok (.invokespecial 1, 3) := by decide +kernel
theorem d_Sum_init_7 : decode b_Sum_init 7 = .ok (.return_, 1) := by decide +kernel
set_option maxHeartbeats 4000000 in
set_option maxRecDepth 20000 in
theorem k_Sum_init (l : Launch) (D : va_G) (cA : Nat → ClassId) (sz h0 : Nat) (xa : Int32) (xb : Int32) (xc : Int32) : CtA l y_Sum_init b_Sum_init 4 none 6 0 0 D cA [.ref h0, .int xa, .int xb, .int xc] sz [(h0, .inr (7, [.int 0, .int 0, .int 0, .int 0, .int 0, .int 0, .int 0, .int 0, .int 0, .int (bi false)]))] (fun r H => r = none ∧ va_P D classes [(h0, .inr (7, [.int xa, .int xb, .int xc, .int 0, .int 0, .int 0, .int 0, .int 0, .int 0, .int (bi true)]))] H ∧ va_D (va_A [(h0, .inr (7, [.int 0, .int 0, .int 0, .int 0, .int 0, .int 0, .int 0, .int 0, .int 0, .int (bi false)]))] sz) [(h0, .inr (7, [.int xa, .int xb, .int xc, .int 0, .int 0, .int 0, .int 0, .int 0, .int 0, .int (bi true)]))]) := by
  refine CtA.mk (by decide) (Nat.le_of_ble_eq_true rfl) ?_
  intro p e s m args below meth c Q A H locs ls hx hb hr hml hlk hown hin hK hQ hAe hA hsz hP hD hS hl
  have hl : lv_has ls 4 [(0, .ref h0), (1, .int xa), (2, .int xb), (3, .int xc)] := hl
  have hown : s.vm.findClass "RangeSheet$Sum" = some m.cls := hown
  have hin : meth.name = "<init>" := hin
  refine lv_aload_n hx hb d_Sum_init_0 rfl (lv_at hl 0 rfl) ?_
  refine lv_iload_n hx hb d_Sum_init_1 rfl (lv_at hl 1 rfl) ?_
  refine lv_iload_n hx hb d_Sum_init_2 rfl (lv_at hl 2 rfl) ?_
  refine lv_iload_n hx hb d_Sum_init_3 rfl (lv_at hl 3 rfl) ?_
  refine l_I (As := [.int xa, .int xb, .int xc]) (rest := []) (wc := [(h0, .inr (7, [.int 0, .int 0, .int 0, .int 0, .int 0, .int 0, .int 0, .int 0, .int 0, .int (bi false)]))]) hx hb hml hown hK (k_Three_init_Sum l D cA H.size h0 xa xb xc) t_506 t_11 t_504 t_505 yk_Three_init rfl ⟨Nat.le_of_ble_eq_true rfl, Nat.le_of_ble_eq_true rfl⟩ hP hD hS hA [0] (by decide) rfl rfl hl.1 rfl (Nat.le_of_ble_eq_true rfl) d_Sum_init_4 ⟨Nat.le_of_ble_eq_true rfl, Nat.le_of_ble_eq_true rfl⟩ (fun r H locs hq hk1 hFc hS => ?_)
  obtain ⟨rfl, hP1, hD1⟩ := hq
  have hJ := va_join (wr := []) (w1 := [(h0, .inr (7, [.int xa, .int xb, .int xc, .int 0, .int 0, .int 0, .int 0, .int 0, .int 0, .int (bi true)]))]) hP hD [0] [] rfl rfl (by decide) (by decide) hk1 hFc hP1 hD1
  obtain ⟨hP, hD⟩ := hJ
  have hP : va_P D classes [(h0, .inr (7, [.int xa, .int xb, .int xc, .int 0, .int 0, .int 0, .int 0, .int 0, .int 0, .int (bi true)]))] H := hP
  have hD : va_D A [(h0, .inr (7, [.int xa, .int xb, .int xc, .int 0, .int 0, .int 0, .int 0, .int 0, .int 0, .int (bi true)]))] := hD
  refine W.eq (g2 := F0 m 7 ls []) rfl ?_
  refine e_v hx hb hr hlk hQ hS d_Sum_init_7 ?_
  exact ⟨rfl, hP, hAe ▸ hD⟩
set_option maxHeartbeats 4000000 in
set_option maxRecDepth 20000 in
theorem k_Three_init_Product (l : Launch) (D : va_G) (cA : Nat → ClassId) (sz h0 : Nat) (xa : Int32) (xb : Int32) (xc : Int32) : CtA l y_Three_init b_Three_init 4 none 4 0 0 D cA [.ref h0, .int xa, .int xb, .int xc] sz [(h0, .inr (8, [.int 0, .int 0, .int 0, .int 0, .int 0, .int 0, .int 0, .int 0, .int 0, .int (bi false)]))] (fun r H => r = none ∧ va_P D classes [(h0, .inr (8, [.int xa, .int xb, .int xc, .int 0, .int 0, .int 0, .int 0, .int 0, .int 0, .int (bi true)]))] H ∧ va_D (va_A [(h0, .inr (8, [.int 0, .int 0, .int 0, .int 0, .int 0, .int 0, .int 0, .int 0, .int 0, .int (bi false)]))] sz) [(h0, .inr (8, [.int xa, .int xb, .int xc, .int 0, .int 0, .int 0, .int 0, .int 0, .int 0, .int (bi true)]))]) := by
  refine CtA.mk (by decide) (Nat.le_of_ble_eq_true rfl) ?_
  intro p e s m args below meth c Q A H locs ls hx hb hr hml hlk hown hin hK hQ hAe hA hsz hP hD hS hl
  have hl : lv_has ls 4 [(0, .ref h0), (1, .int xa), (2, .int xb), (3, .int xc)] := hl
  have hown : s.vm.findClass "RangeSheet$Three" = some m.cls := hown
  have hin : meth.name = "<init>" := hin
  refine lv_aload_n hx hb d_Three_init_0 rfl (lv_at hl 0 rfl) ?_
  refine l_IN (As := []) (rest := []) (wc := [(h0, .inr (8, [.int 0, .int 0, .int 0, .int 0, .int 0, .int 0, .int 0, .int 0, .int 0, .int (bi false)]))]) hx hb hml hown hK (k_Rel_init_Product l D cA H.size h0 ) t_509 t_10 t_507 t_508 yk_Relation_init rfl ⟨Nat.le_of_ble_eq_true rfl, Nat.le_of_ble_eq_true rfl⟩ hP hD hS hA [0] (by decide) rfl rfl hl.1 rfl (Nat.le_of_ble_eq_true rfl) d_Three_init_1 ⟨Nat.le_of_ble_eq_true rfl, Nat.le_of_ble_eq_true rfl⟩ (fun r H locs hq hk1 hFc hS => ?_)
  obtain ⟨rfl, hP1, hD1⟩ := hq
  have hJ := va_join (wr := []) (w1 := [(h0, .inr (8, [.int 0, .int 0, .int 0, .int 0, .int 0, .int 0, .int 0, .int 0, .int 0, .int (bi true)]))]) hP hD [0] [] rfl rfl (by decide) (by decide) hk1 hFc hP1 hD1
  obtain ⟨hP, hD⟩ := hJ
  have hP : va_P D classes [(h0, .inr (8, [.int 0, .int 0, .int 0, .int 0, .int 0, .int 0, .int 0, .int 0, .int 0, .int (bi true)]))] H := hP
  have hD : va_D A [(h0, .inr (8, [.int 0, .int 0, .int 0, .int 0, .int 0, .int 0, .int 0, .int 0, .int 0, .int (bi true)]))] := hD
  refine W.eq (g2 := F0 m 4 ls []) rfl ?_
  refine lv_aload_n hx hb d_Three_init_4 rfl (lv_at hl 0 rfl) ?_
  refine lv_iload_n hx hb d_Three_init_5 rfl (lv_at hl 1 rfl) ?_
  refine l_pf hx hb hK i_Product t_Product t_Product_ok n_Product hown hP hD hS 0 rfl rfl 0 (by decide) t_511 rfl hin (Or.inr rfl) rfl rfl rfl d_Three_init_6 (fun H locs hP hD hS => ?_)
  have hP : va_P D classes [(h0, .inr (8, [.int xa, .int 0, .int 0, .int 0, .int 0, .int 0, .int 0, .int 0, .int 0, .int (bi true)]))] H := hP
  have hD : va_D A [(h0, .inr (8, [.int xa, .int 0, .int 0, .int 0, .int 0, .int 0, .int 0, .int 0, .int 0, .int (bi true)]))] := hD
  refine lv_aload_n hx hb d_Three_init_9 rfl (lv_at hl 0 rfl) ?_
  refine lv_iload_n hx hb d_Three_init_10 rfl (lv_at hl 2 rfl) ?_
  refine l_pf hx hb hK i_Product t_Product t_Product_ok n_Product hown hP hD hS 0 rfl rfl 1 (by decide) t_512 rfl hin (Or.inr rfl) rfl rfl rfl d_Three_init_11 (fun H locs hP hD hS => ?_)
  have hP : va_P D classes [(h0, .inr (8, [.int xa, .int xb, .int 0, .int 0, .int 0, .int 0, .int 0, .int 0, .int 0, .int (bi true)]))] H := hP
  have hD : va_D A [(h0, .inr (8, [.int xa, .int xb, .int 0, .int 0, .int 0, .int 0, .int 0, .int 0, .int 0, .int (bi true)]))] := hD
  refine lv_aload_n hx hb d_Three_init_14 rfl (lv_at hl 0 rfl) ?_
  refine lv_iload_n hx hb d_Three_init_15 rfl (lv_at hl 3 rfl) ?_
  refine l_pf hx hb hK i_Product t_Product t_Product_ok n_Product hown hP hD hS 0 rfl rfl 2 (by decide) t_513 rfl hin (Or.inr rfl) rfl rfl rfl d_Three_init_16 (fun H locs hP hD hS => ?_)
  have hP : va_P D classes [(h0, .inr (8, [.int xa, .int xb, .int xc, .int 0, .int 0, .int 0, .int 0, .int 0, .int 0, .int (bi true)]))] H := hP
  have hD : va_D A [(h0, .inr (8, [.int xa, .int xb, .int xc, .int 0, .int 0, .int 0, .int 0, .int 0, .int 0, .int (bi true)]))] := hD
  refine e_v hx hb hr hlk hQ hS d_Three_init_19 ?_
  exact ⟨rfl, hP, hAe ▸ hD⟩
theorem d_Product_init_0 : decode b_Product_init 0 = .ok (.aload_n 0, 1) := by decide +kernel
theorem d_Product_init_1 : decode b_Product_init 1 = .ok (.iload_n 1, 1) := by decide +kernel
theorem d_Product_init_2 : decode b_Product_init 2 = .ok (.iload_n 2, 1) := by decide +kernel
theorem d_Product_init_3 : decode b_Product_init 3 = .ok (.iload_n 3, 1) := by decide +kernel
theorem d_Product_init_4 : decode b_Product_init 4 = .ok (.invokespecial 1, 3) := by decide +kernel
theorem d_Product_init_7 : decode b_Product_init 7 = .ok (.return_, 1) := by decide +kernel
set_option maxHeartbeats 4000000 in
set_option maxRecDepth 20000 in
theorem k_Product_init (l : Launch) (D : va_G) (cA : Nat → ClassId) (sz h0 : Nat) (xa : Int32) (xb : Int32) (xc : Int32) : CtA l y_Product_init b_Product_init 4 none 6 0 0 D cA [.ref h0, .int xa, .int xb, .int xc] sz [(h0, .inr (8, [.int 0, .int 0, .int 0, .int 0, .int 0, .int 0, .int 0, .int 0, .int 0, .int (bi false)]))] (fun r H => r = none ∧ va_P D classes [(h0, .inr (8, [.int xa, .int xb, .int xc, .int 0, .int 0, .int 0, .int 0, .int 0, .int 0, .int (bi true)]))] H ∧ va_D (va_A [(h0, .inr (8, [.int 0, .int 0, .int 0, .int 0, .int 0, .int 0, .int 0, .int 0, .int 0, .int (bi false)]))] sz) [(h0, .inr (8, [.int xa, .int xb, .int xc, .int 0, .int 0, .int 0, .int 0, .int 0, .int 0, .int (bi true)]))]) := by
  refine CtA.mk (by decide) (Nat.le_of_ble_eq_true rfl) ?_
  intro p e s m args below meth c Q A H locs ls hx hb hr hml hlk hown hin hK hQ hAe hA hsz hP hD hS hl
  have hl : lv_has ls 4 [(0, .ref h0), (1, .int xa), (2, .int xb), (3, .int xc)] := hl
  have hown : s.vm.findClass "RangeSheet$Product" = some m.cls := hown
  have hin : meth.name = "<init>" := hin
  refine lv_aload_n hx hb d_Product_init_0 rfl (lv_at hl 0 rfl) ?_
  refine lv_iload_n hx hb d_Product_init_1 rfl (lv_at hl 1 rfl) ?_
  refine lv_iload_n hx hb d_Product_init_2 rfl (lv_at hl 2 rfl) ?_
  refine lv_iload_n hx hb d_Product_init_3 rfl (lv_at hl 3 rfl) ?_
  refine l_I (As := [.int xa, .int xb, .int xc]) (rest := []) (wc := [(h0, .inr (8, [.int 0, .int 0, .int 0, .int 0, .int 0, .int 0, .int 0, .int 0, .int 0, .int (bi false)]))]) hx hb hml hown hK (k_Three_init_Product l D cA H.size h0 xa xb xc) t_506 t_11 t_548 t_505 yk_Three_init rfl ⟨Nat.le_of_ble_eq_true rfl, Nat.le_of_ble_eq_true rfl⟩ hP hD hS hA [0] (by decide) rfl rfl hl.1 rfl (Nat.le_of_ble_eq_true rfl) d_Product_init_4 ⟨Nat.le_of_ble_eq_true rfl, Nat.le_of_ble_eq_true rfl⟩ (fun r H locs hq hk1 hFc hS => ?_)
  obtain ⟨rfl, hP1, hD1⟩ := hq
  have hJ := va_join (wr := []) (w1 := [(h0, .inr (8, [.int xa, .int xb, .int xc, .int 0, .int 0, .int 0, .int 0, .int 0, .int 0, .int (bi true)]))]) hP hD [0] [] rfl rfl (by decide) (by decide) hk1 hFc hP1 hD1
  obtain ⟨hP, hD⟩ := hJ
  have hP : va_P D classes [(h0, .inr (8, [.int xa, .int xb, .int xc, .int 0, .int 0, .int 0, .int 0, .int 0, .int 0, .int (bi true)]))] H := hP
  have hD : va_D A [(h0, .inr (8, [.int xa, .int xb, .int xc, .int 0, .int 0, .int 0, .int 0, .int 0, .int 0, .int (bi true)]))] := hD
  refine W.eq (g2 := F0 m 7 ls []) rfl ?_
  refine e_v hx hb hr hlk hQ hS d_Product_init_7 ?_
  exact ⟨rfl, hP, hAe ▸ hD⟩
set_option maxHeartbeats 4000000 in
set_option maxRecDepth 20000 in
theorem k_Three_init_Quotient (l : Launch) (D : va_G) (cA : Nat → ClassId) (sz h0 : Nat) (xa : Int32) (xb : Int32) (xc : Int32) : CtA l y_Three_init b_Three_init 4 none 4 0 0 D cA [.ref h0, .int xa, .int xb, .int xc] sz [(h0, .inr (9, [.int 0, .int 0, .int 0, .int 0, .int 0, .int 0, .int 0, .int 0, .int 0, .int (bi false)]))] (fun r H => r = none ∧ va_P D classes [(h0, .inr (9, [.int xa, .int xb, .int xc, .int 0, .int 0, .int 0, .int 0, .int 0, .int 0, .int (bi true)]))] H ∧ va_D (va_A [(h0, .inr (9, [.int 0, .int 0, .int 0, .int 0, .int 0, .int 0, .int 0, .int 0, .int 0, .int (bi false)]))] sz) [(h0, .inr (9, [.int xa, .int xb, .int xc, .int 0, .int 0, .int 0, .int 0, .int 0, .int 0, .int (bi true)]))]) := by
  refine CtA.mk (by decide) (Nat.le_of_ble_eq_true rfl) ?_
  intro p e s m args below meth c Q A H locs ls hx hb hr hml hlk hown hin hK hQ hAe hA hsz hP hD hS hl
  have hl : lv_has ls 4 [(0, .ref h0), (1, .int xa), (2, .int xb), (3, .int xc)] := hl
  have hown : s.vm.findClass "RangeSheet$Three" = some m.cls := hown
  have hin : meth.name = "<init>" := hin
  refine lv_aload_n hx hb d_Three_init_0 rfl (lv_at hl 0 rfl) ?_
  refine l_IN (As := []) (rest := []) (wc := [(h0, .inr (9, [.int 0, .int 0, .int 0, .int 0, .int 0, .int 0, .int 0, .int 0, .int 0, .int (bi false)]))]) hx hb hml hown hK (k_Rel_init_Quotient l D cA H.size h0 ) t_509 t_10 t_507 t_508 yk_Relation_init rfl ⟨Nat.le_of_ble_eq_true rfl, Nat.le_of_ble_eq_true rfl⟩ hP hD hS hA [0] (by decide) rfl rfl hl.1 rfl (Nat.le_of_ble_eq_true rfl) d_Three_init_1 ⟨Nat.le_of_ble_eq_true rfl, Nat.le_of_ble_eq_true rfl⟩ (fun r H locs hq hk1 hFc hS => ?_)
  obtain ⟨rfl, hP1, hD1⟩ := hq
  have hJ := va_join (wr := []) (w1 := [(h0, .inr (9, [.int 0, .int 0, .int 0, .int 0, .int 0, .int 0, .int 0, .int 0, .int 0, .int (bi true)]))]) hP hD [0] [] rfl rfl (by decide) (by decide) hk1 hFc hP1 hD1
  obtain ⟨hP, hD⟩ := hJ
  have hP : va_P D classes [(h0, .inr (9, [.int 0, .int 0, .int 0, .int 0, .int 0, .int 0, .int 0, .int 0, .int 0, .int (bi true)]))] H := hP
  have hD : va_D A [(h0, .inr (9, [.int 0, .int 0, .int 0, .int 0, .int 0, .int 0, .int 0, .int 0, .int 0, .int (bi true)]))] := hD
  refine W.eq (g2 := F0 m 4 ls []) rfl ?_
  refine lv_aload_n hx hb d_Three_init_4 rfl (lv_at hl 0 rfl) ?_
  refine lv_iload_n hx hb d_Three_init_5 rfl (lv_at hl 1 rfl) ?_
  refine l_pf hx hb hK i_Quotient t_Quotient t_Quotient_ok n_Quotient hown hP hD hS 0 rfl rfl 0 (by decide) t_511 rfl hin (Or.inr rfl) rfl rfl rfl d_Three_init_6 (fun H locs hP hD hS => ?_)
  have hP : va_P D classes [(h0, .inr (9, [.int xa, .int 0, .int 0, .int 0, .int 0, .int 0, .int 0, .int 0, .int 0, .int (bi true)]))] H := hP
  have hD : va_D A [(h0, .inr (9, [.int xa, .int 0, .int 0, .int 0, .int 0, .int 0, .int 0, .int 0, .int 0, .int (bi true)]))] := hD
  refine lv_aload_n hx hb d_Three_init_9 rfl (lv_at hl 0 rfl) ?_
  refine lv_iload_n hx hb d_Three_init_10 rfl (lv_at hl 2 rfl) ?_
  refine l_pf hx hb hK i_Quotient t_Quotient t_Quotient_ok n_Quotient hown hP hD hS 0 rfl rfl 1 (by decide) t_512 rfl hin (Or.inr rfl) rfl rfl rfl d_Three_init_11 (fun H locs hP hD hS => ?_)
  have hP : va_P D classes [(h0, .inr (9, [.int xa, .int xb, .int 0, .int 0, .int 0, .int 0, .int 0, .int 0, .int 0, .int (bi true)]))] H := hP
  have hD : va_D A [(h0, .inr (9, [.int xa, .int xb, .int 0, .int 0, .int 0, .int 0, .int 0, .int 0, .int 0, .int (bi true)]))] := hD
  refine lv_aload_n hx hb d_Three_init_14 rfl (lv_at hl 0 rfl) ?_
  refine lv_iload_n hx hb d_Three_init_15 rfl (lv_at hl 3 rfl) ?_
  refine l_pf hx hb hK i_Quotient t_Quotient t_Quotient_ok n_Quotient hown hP hD hS 0 rfl rfl 2 (by decide) t_513 rfl hin (Or.inr rfl) rfl rfl rfl d_Three_init_16 (fun H locs hP hD hS => ?_)
  have hP : va_P D classes [(h0, .inr (9, [.int xa, .int xb, .int xc, .int 0, .int 0, .int 0, .int 0, .int 0, .int 0, .int (bi true)]))] H := hP
  have hD : va_D A [(h0, .inr (9, [.int xa, .int xb, .int xc, .int 0, .int 0, .int 0, .int 0, .int 0, .int 0, .int (bi true)]))] := hD
  refine e_v hx hb hr hlk hQ hS d_Three_init_19 ?_
  exact ⟨rfl, hP, hAe ▸ hD⟩
theorem d_Quotient_init_0 : decode b_Quotient_init 0 = .ok (.aload_n 0, 1) := by decide +kernel
theorem d_Quotient_init_1 : decode b_Quotient_init 1 = .ok (.iload_n 2, 1) := by decide +kernel
theorem d_Quotient_init_2 : decode b_Quotient_init 2 = .ok (.iload_n 1, 1) := by decide +kernel
theorem d_Quotient_init_3 : decode b_Quotient_init 3 = .ok (.iload_n 3, 1) := by decide +kernel
theorem d_Quotient_init_4 : decode b_Quotient_init 4 = .ok (.invokespecial 1, 3) := by decide +kernel
theorem d_Quotient_init_7 : decode b_Quotient_init 7 = .ok (.return_, 1) := by decide +kernel
set_option maxHeartbeats 4000000 in
set_option maxRecDepth 20000 in
theorem k_Quotient_init (l : Launch) (D : va_G) (cA : Nat → ClassId) (sz h0 : Nat) (xa : Int32) (xb : Int32) (xc : Int32) : CtA l y_Quotient_init b_Quotient_init 4 none 6 0 0 D cA [.ref h0, .int xa, .int xb, .int xc] sz [(h0, .inr (9, [.int 0, .int 0, .int 0, .int 0, .int 0, .int 0, .int 0, .int 0, .int 0, .int (bi false)]))] (fun r H => r = none ∧ va_P D classes [(h0, .inr (9, [.int xb, .int xa, .int xc, .int 0, .int 0, .int 0, .int 0, .int 0, .int 0, .int (bi true)]))] H ∧ va_D (va_A [(h0, .inr (9, [.int 0, .int 0, .int 0, .int 0, .int 0, .int 0, .int 0, .int 0, .int 0, .int (bi false)]))] sz) [(h0, .inr (9, [.int xb, .int xa, .int xc, .int 0, .int 0, .int 0, .int 0, .int 0, .int 0, .int (bi true)]))]) := by
  refine CtA.mk (by decide) (Nat.le_of_ble_eq_true rfl) ?_
  intro p e s m args below meth c Q A H locs ls hx hb hr hml hlk hown hin hK hQ hAe hA hsz hP hD hS hl
  have hl : lv_has ls 4 [(0, .ref h0), (1, .int xa), (2, .int xb), (3, .int xc)] := hl
  have hown : s.vm.findClass "RangeSheet$Quotient" = some m.cls := hown
  have hin : meth.name = "<init>" := hin
  refine lv_aload_n hx hb d_Quotient_init_0 rfl (lv_at hl 0 rfl) ?_
  refine lv_iload_n hx hb d_Quotient_init_1 rfl (lv_at hl 2 rfl) ?_
  refine lv_iload_n hx hb d_Quotient_init_2 rfl (lv_at hl 1 rfl) ?_
  refine lv_iload_n hx hb d_Quotient_init_3 rfl (lv_at hl 3 rfl) ?_
  refine l_I (As := [.int xb, .int xa, .int xc]) (rest := []) (wc := [(h0, .inr (9, [.int 0, .int 0, .int 0, .int 0, .int 0, .int 0, .int 0, .int 0, .int 0, .int (bi false)]))]) hx hb hml hown hK (k_Three_init_Quotient l D cA H.size h0 xb xa xc) t_506 t_11 t_565 t_505 yk_Three_init rfl ⟨Nat.le_of_ble_eq_true rfl, Nat.le_of_ble_eq_true rfl⟩ hP hD hS hA [0] (by decide) rfl rfl hl.1 rfl (Nat.le_of_ble_eq_true rfl) d_Quotient_init_4 ⟨Nat.le_of_ble_eq_true rfl, Nat.le_of_ble_eq_true rfl⟩ (fun r H locs hq hk1 hFc hS => ?_)
  obtain ⟨rfl, hP1, hD1⟩ := hq
  have hJ := va_join (wr := []) (w1 := [(h0, .inr (9, [.int xb, .int xa, .int xc, .int 0, .int 0, .int 0, .int 0, .int 0, .int 0, .int (bi true)]))]) hP hD [0] [] rfl rfl (by decide) (by decide) hk1 hFc hP1 hD1
  obtain ⟨hP, hD⟩ := hJ
  have hP : va_P D classes [(h0, .inr (9, [.int xb, .int xa, .int xc, .int 0, .int 0, .int 0, .int 0, .int 0, .int 0, .int (bi true)]))] H := hP
  have hD : va_D A [(h0, .inr (9, [.int xb, .int xa, .int xc, .int 0, .int 0, .int 0, .int 0, .int 0, .int 0, .int (bi true)]))] := hD
  refine W.eq (g2 := F0 m 7 ls []) rfl ?_
  refine e_v hx hb hr hlk hQ hS d_Quotient_init_7 ?_
  exact ⟨rfl, hP, hAe ▸ hD⟩
set_option maxHeartbeats 4000000 in
set_option maxRecDepth 20000 in
theorem k_Three_init_Lesser (l : Launch) (D : va_G) (cA : Nat → ClassId) (sz h0 : Nat) (xa : Int32) (xb : Int32) (xc : Int32) : CtA l y_Three_init b_Three_init 4 none 4 0 0 D cA [.ref h0, .int xa, .int xb, .int xc] sz [(h0, .inr (10, [.int 0, .int 0, .int 0, .int 0, .int 0, .int 0, .int 0, .int 0, .int 0, .int (bi false)]))] (fun r H => r = none ∧ va_P D classes [(h0, .inr (10, [.int xa, .int xb, .int xc, .int 0, .int 0, .int 0, .int 0, .int 0, .int 0, .int (bi true)]))] H ∧ va_D (va_A [(h0, .inr (10, [.int 0, .int 0, .int 0, .int 0, .int 0, .int 0, .int 0, .int 0, .int 0, .int (bi false)]))] sz) [(h0, .inr (10, [.int xa, .int xb, .int xc, .int 0, .int 0, .int 0, .int 0, .int 0, .int 0, .int (bi true)]))]) := by
  refine CtA.mk (by decide) (Nat.le_of_ble_eq_true rfl) ?_
  intro p e s m args below meth c Q A H locs ls hx hb hr hml hlk hown hin hK hQ hAe hA hsz hP hD hS hl
  have hl : lv_has ls 4 [(0, .ref h0), (1, .int xa), (2, .int xb), (3, .int xc)] := hl
  have hown : s.vm.findClass "RangeSheet$Three" = some m.cls := hown
  have hin : meth.name = "<init>" := hin
  refine lv_aload_n hx hb d_Three_init_0 rfl (lv_at hl 0 rfl) ?_
  refine l_IN (As := []) (rest := []) (wc := [(h0, .inr (10, [.int 0, .int 0, .int 0, .int 0, .int 0, .int 0, .int 0, .int 0, .int 0, .int (bi false)]))]) hx hb hml hown hK (k_Rel_init_Lesser l D cA H.size h0 ) t_509 t_10 t_507 t_508 yk_Relation_init rfl ⟨Nat.le_of_ble_eq_true rfl, Nat.le_of_ble_eq_true rfl⟩ hP hD hS hA [0] (by decide) rfl rfl hl.1 rfl (Nat.le_of_ble_eq_true rfl) d_Three_init_1 ⟨Nat.le_of_ble_eq_true rfl, Nat.le_of_ble_eq_true rfl⟩ (fun r H locs hq hk1 hFc hS => ?_)
  obtain ⟨rfl, hP1, hD1⟩ := hq
  have hJ := va_join (wr := []) (w1 := [(h0, .inr (10, [.int 0, .int 0, .int 0, .int 0, .int 0, .int 0, .int 0, .int 0, .int 0, .int (bi true)]))]) hP hD [0] [] rfl rfl (by decide) (by decide) hk1 hFc hP1 hD1
  obtain ⟨hP, hD⟩ := hJ
  have hP : va_P D classes [(h0, .inr (10, [.int 0, .int 0, .int 0, .int 0, .int 0, .int 0, .int 0, .int 0, .int 0, .int (bi true)]))] H := hP
  have hD : va_D A [(h0, .inr (10, [.int 0, .int 0, .int 0, .int 0, .int 0, .int 0, .int 0, .int 0, .int 0, .int (bi true)]))] := hD
  refine W.eq (g2 := F0 m 4 ls []) rfl ?_
  refine lv_aload_n hx hb d_Three_init_4 rfl (lv_at hl 0 rfl) ?_
  refine lv_iload_n hx hb d_Three_init_5 rfl (lv_at hl 1 rfl) ?_
  refine l_pf hx hb hK i_Lesser t_Lesser t_Lesser_ok n_Lesser hown hP hD hS 0 rfl rfl 0 (by decide) t_511 rfl hin (Or.inr rfl) rfl rfl rfl d_Three_init_6 (fun H locs hP hD hS => ?_)
  have hP : va_P D classes [(h0, .inr (10, [.int xa, .int 0, .int 0, .int 0, .int 0, .int 0, .int 0, .int 0, .int 0, .int (bi true)]))] H := hP
  have hD : va_D A [(h0, .inr (10, [.int xa, .int 0, .int 0, .int 0, .int 0, .int 0, .int 0, .int 0, .int 0, .int (bi true)]))] := hD
  refine lv_aload_n hx hb d_Three_init_9 rfl (lv_at hl 0 rfl) ?_
  refine lv_iload_n hx hb d_Three_init_10 rfl (lv_at hl 2 rfl) ?_
  refine l_pf hx hb hK i_Lesser t_Lesser t_Lesser_ok n_Lesser hown hP hD hS 0 rfl rfl 1 (by decide) t_512 rfl hin (Or.inr rfl) rfl rfl rfl d_Three_init_11 (fun H locs hP hD hS => ?_)
  have hP : va_P D classes [(h0, .inr (10, [.int xa, .int xb, .int 0, .int 0, .int 0, .int 0, .int 0, .int 0, .int 0, .int (bi true)]))] H := hP
  have hD : va_D A [(h0, .inr (10, [.int xa, .int xb, .int 0, .int 0, .int 0, .int 0, .int 0, .int 0, .int 0, .int (bi true)]))] := hD
  refine lv_aload_n hx hb d_Three_init_14 rfl (lv_at hl 0 rfl) ?_
  refine lv_iload_n hx hb d_Three_init_15 rfl (lv_at hl 3 rfl) ?_
  refine l_pf hx hb hK i_Lesser t_Lesser t_Lesser_ok n_Lesser hown hP hD hS 0 rfl rfl 2 (by decide) t_513 rfl hin (Or.inr rfl) rfl rfl rfl d_Three_init_16 (fun H locs hP hD hS => ?_)
  have hP : va_P D classes [(h0, .inr (10, [.int xa, .int xb, .int xc, .int 0, .int 0, .int 0, .int 0, .int 0, .int 0, .int (bi true)]))] H := hP
  have hD : va_D A [(h0, .inr (10, [.int xa, .int xb, .int xc, .int 0, .int 0, .int 0, .int 0, .int 0, .int 0, .int (bi true)]))] := hD
  refine e_v hx hb hr hlk hQ hS d_Three_init_19 ?_
  exact ⟨rfl, hP, hAe ▸ hD⟩
theorem d_Lesser_init_0 : decode b_Lesser_init 0 = .ok (.aload_n 0, 1) := by decide +kernel
theorem d_Lesser_init_1 : decode b_Lesser_init 1 = .ok (.iload_n 1, 1) := by decide +kernel
theorem d_Lesser_init_2 : decode b_Lesser_init 2 = .ok (.iload_n 2, 1) := by decide +kernel
theorem d_Lesser_init_3 : decode b_Lesser_init 3 = .ok (.iload_n 3, 1) := by decide +kernel
theorem d_Lesser_init_4 : decode b_Lesser_init 4 = .ok (.invokespecial 1, 3) := by decide +kernel
theorem d_Lesser_init_7 : decode b_Lesser_init 7 = .ok (.return_, 1) := by decide +kernel
set_option maxHeartbeats 4000000 in
set_option maxRecDepth 20000 in
theorem k_Lesser_init (l : Launch) (D : va_G) (cA : Nat → ClassId) (sz h0 : Nat) (xa : Int32) (xb : Int32) (xc : Int32) : CtA l y_Lesser_init b_Lesser_init 4 none 6 0 0 D cA [.ref h0, .int xa, .int xb, .int xc] sz [(h0, .inr (10, [.int 0, .int 0, .int 0, .int 0, .int 0, .int 0, .int 0, .int 0, .int 0, .int (bi false)]))] (fun r H => r = none ∧ va_P D classes [(h0, .inr (10, [.int xa, .int xb, .int xc, .int 0, .int 0, .int 0, .int 0, .int 0, .int 0, .int (bi true)]))] H ∧ va_D (va_A [(h0, .inr (10, [.int 0, .int 0, .int 0, .int 0, .int 0, .int 0, .int 0, .int 0, .int 0, .int (bi false)]))] sz) [(h0, .inr (10, [.int xa, .int xb, .int xc, .int 0, .int 0, .int 0, .int 0, .int 0, .int 0, .int (bi true)]))]) := by
  refine CtA.mk (by decide) (Nat.le_of_ble_eq_true rfl) ?_
  intro p e s m args below meth c Q A H locs ls hx hb hr hml hlk hown hin hK hQ hAe hA hsz hP hD hS hl
  have hl : lv_has ls 4 [(0, .ref h0), (1, .int xa), (2, .int xb), (3, .int xc)] := hl
  have hown : s.vm.findClass "RangeSheet$Lesser" = some m.cls := hown
  have hin : meth.name = "<init>" := hin
  refine lv_aload_n hx hb d_Lesser_init_0 rfl (lv_at hl 0 rfl) ?_
  refine lv_iload_n hx hb d_Lesser_init_1 rfl (lv_at hl 1 rfl) ?_
  refine lv_iload_n hx hb d_Lesser_init_2 rfl (lv_at hl 2 rfl) ?_
  refine lv_iload_n hx hb d_Lesser_init_3 rfl (lv_at hl 3 rfl) ?_
  refine l_I (As := [.int xa, .int xb, .int xc]) (rest := []) (wc := [(h0, .inr (10, [.int 0, .int 0, .int 0, .int 0, .int 0, .int 0, .int 0, .int 0, .int 0, .int (bi false)]))]) hx hb hml hown hK (k_Three_init_Lesser l D cA H.size h0 xa xb xc) t_506 t_11 t_582 t_505 yk_Three_init rfl ⟨Nat.le_of_ble_eq_true rfl, Nat.le_of_ble_eq_true rfl⟩ hP hD hS hA [0] (by decide) rfl rfl hl.1 rfl (Nat.le_of_ble_eq_true rfl) d_Lesser_init_4 ⟨Nat.le_of_ble_eq_true rfl, Nat.le_of_ble_eq_true rfl⟩ (fun r H locs hq hk1 hFc hS => ?_)
  obtain ⟨rfl, hP1, hD1⟩ := hq
  have hJ := va_join (wr := []) (w1 := [(h0, .inr (10, [.int xa, .int xb, .int xc, .int 0, .int 0, .int 0, .int 0, .int 0, .int 0, .int (bi true)]))]) hP hD [0] [] rfl rfl (by decide) (by decide) hk1 hFc hP1 hD1
  obtain ⟨hP, hD⟩ := hJ
  have hP : va_P D classes [(h0, .inr (10, [.int xa, .int xb, .int xc, .int 0, .int 0, .int 0, .int 0, .int 0, .int 0, .int (bi true)]))] H := hP
  have hD : va_D A [(h0, .inr (10, [.int xa, .int xb, .int xc, .int 0, .int 0, .int 0, .int 0, .int 0, .int 0, .int (bi true)]))] := hD
  refine W.eq (g2 := F0 m 7 ls []) rfl ?_
  refine e_v hx hb hr hlk hQ hS d_Lesser_init_7 ?_
  exact ⟨rfl, hP, hAe ▸ hD⟩
set_option maxHeartbeats 4000000 in
set_option maxRecDepth 20000 in
theorem k_Three_init_Greater (l : Launch) (D : va_G) (cA : Nat → ClassId) (sz h0 : Nat) (xa : Int32) (xb : Int32) (xc : Int32) : CtA l y_Three_init b_Three_init 4 none 4 0 0 D cA [.ref h0, .int xa, .int xb, .int xc] sz [(h0, .inr (11, [.int 0, .int 0, .int 0, .int 0, .int 0, .int 0, .int 0, .int 0, .int 0, .int (bi false)]))] (fun r H => r = none ∧ va_P D classes [(h0, .inr (11, [.int xa, .int xb, .int xc, .int 0, .int 0, .int 0, .int 0, .int 0, .int 0, .int (bi true)]))] H ∧ va_D (va_A [(h0, .inr (11, [.int 0, .int 0, .int 0, .int 0, .int 0, .int 0, .int 0, .int 0, .int 0, .int (bi false)]))] sz) [(h0, .inr (11, [.int xa, .int xb, .int xc, .int 0, .int 0, .int 0, .int 0, .int 0, .int 0, .int (bi true)]))]) := by
  refine CtA.mk (by decide) (Nat.le_of_ble_eq_true rfl) ?_
  intro p e s m args below meth c Q A H locs ls hx hb hr hml hlk hown hin hK hQ hAe hA hsz hP hD hS hl
  have hl : lv_has ls 4 [(0, .ref h0), (1, .int xa), (2, .int xb), (3, .int xc)] := hl
  have hown : s.vm.findClass "RangeSheet$Three" = some m.cls := hown
  have hin : meth.name = "<init>" := hin
  refine lv_aload_n hx hb d_Three_init_0 rfl (lv_at hl 0 rfl) ?_
  refine l_IN (As := []) (rest := []) (wc := [(h0, .inr (11, [.int 0, .int 0, .int 0, .int 0, .int 0, .int 0, .int 0, .int 0, .int 0, .int (bi false)]))]) hx hb hml hown hK (k_Rel_init_Greater l D cA H.size h0 ) t_509 t_10 t_507 t_508 yk_Relation_init rfl ⟨Nat.le_of_ble_eq_true rfl, Nat.le_of_ble_eq_true rfl⟩ hP hD hS hA [0] (by decide) rfl rfl hl.1 rfl (Nat.le_of_ble_eq_true rfl) d_Three_init_1 ⟨Nat.le_of_ble_eq_true rfl, Nat.le_of_ble_eq_true rfl⟩ (fun r H locs hq hk1 hFc hS => ?_)
  obtain ⟨rfl, hP1, hD1⟩ := hq
  have hJ := va_join (wr := []) (w1 := [(h0, .inr (11, [.int 0, .int 0, .int 0, .int 0, .int 0, .int 0, .int 0, .int 0, .int 0, .int (bi true)]))]) hP hD [0] [] rfl rfl (by decide) (by decide) hk1 hFc hP1 hD1
  obtain ⟨hP, hD⟩ := hJ
  have hP : va_P D classes [(h0, .inr (11, [.int 0, .int 0, .int 0, .int 0, .int 0, .int 0, .int 0, .int 0, .int 0, .int (bi true)]))] H := hP
  have hD : va_D A [(h0, .inr (11, [.int 0, .int 0, .int 0, .int 0, .int 0, .int 0, .int 0, .int 0, .int 0, .int (bi true)]))] := hD
  refine W.eq (g2 := F0 m 4 ls []) rfl ?_
  refine lv_aload_n hx hb d_Three_init_4 rfl (lv_at hl 0 rfl) ?_
  refine lv_iload_n hx hb d_Three_init_5 rfl (lv_at hl 1 rfl) ?_
  refine l_pf hx hb hK i_Greater t_Greater t_Greater_ok n_Greater hown hP hD hS 0 rfl rfl 0 (by decide) t_511 rfl hin (Or.inr rfl) rfl rfl rfl d_Three_init_6 (fun H locs hP hD hS => ?_)
  have hP : va_P D classes [(h0, .inr (11, [.int xa, .int 0, .int 0, .int 0, .int 0, .int 0, .int 0, .int 0, .int 0, .int (bi true)]))] H := hP
  have hD : va_D A [(h0, .inr (11, [.int xa, .int 0, .int 0, .int 0, .int 0, .int 0, .int 0, .int 0, .int 0, .int (bi true)]))] := hD
  refine lv_aload_n hx hb d_Three_init_9 rfl (lv_at hl 0 rfl) ?_
  refine lv_iload_n hx hb d_Three_init_10 rfl (lv_at hl 2 rfl) ?_
  refine l_pf hx hb hK i_Greater t_Greater t_Greater_ok n_Greater hown hP hD hS 0 rfl rfl 1 (by decide) t_512 rfl hin (Or.inr rfl) rfl rfl rfl d_Three_init_11 (fun H locs hP hD hS => ?_)
  have hP : va_P D classes [(h0, .inr (11, [.int xa, .int xb, .int 0, .int 0, .int 0, .int 0, .int 0, .int 0, .int 0, .int (bi true)]))] H := hP
  have hD : va_D A [(h0, .inr (11, [.int xa, .int xb, .int 0, .int 0, .int 0, .int 0, .int 0, .int 0, .int 0, .int (bi true)]))] := hD
  refine lv_aload_n hx hb d_Three_init_14 rfl (lv_at hl 0 rfl) ?_
  refine lv_iload_n hx hb d_Three_init_15 rfl (lv_at hl 3 rfl) ?_
  refine l_pf hx hb hK i_Greater t_Greater t_Greater_ok n_Greater hown hP hD hS 0 rfl rfl 2 (by decide) t_513 rfl hin (Or.inr rfl) rfl rfl rfl d_Three_init_16 (fun H locs hP hD hS => ?_)
  have hP : va_P D classes [(h0, .inr (11, [.int xa, .int xb, .int xc, .int 0, .int 0, .int 0, .int 0, .int 0, .int 0, .int (bi true)]))] H := hP
  have hD : va_D A [(h0, .inr (11, [.int xa, .int xb, .int xc, .int 0, .int 0, .int 0, .int 0, .int 0, .int 0, .int (bi true)]))] := hD
  refine e_v hx hb hr hlk hQ hS d_Three_init_19 ?_
  exact ⟨rfl, hP, hAe ▸ hD⟩
theorem d_Greater_init_0 : decode b_Greater_init 0 = .ok (.aload_n 0, 1) := by decide +kernel
theorem d_Greater_init_1 : decode b_Greater_init 1 = .ok (.iload_n 1, 1) := by decide +kernel
theorem d_Greater_init_2 : decode b_Greater_init 2 = .ok (.iload_n 2, 1) := by decide +kernel
theorem d_Greater_init_3 : decode b_Greater_init 3 = .ok (.iload_n 3, 1) := by decide +kernel
theorem d_Greater_init_4 : decode b_Greater_init 4 = .ok (.invokespecial 1, 3) := by decide +kernel
theorem d_Greater_init_7 : decode b_Greater_init 7 = .ok (.return_, 1) := by decide +kernel
set_option maxHeartbeats 4000000 in
set_option maxRecDepth 20000 in
theorem k_Greater_init (l : Launch) (D : va_G) (cA : Nat → ClassId) (sz h0 : Nat) (xa : Int32) (xb : Int32) (xc : Int32) : CtA l y_Greater_init b_Greater_init 4 none 6 0 0 D cA [.ref h0, .int xa, .int xb, .int xc] sz [(h0, .inr (11, [.int 0, .int 0, .int 0, .int 0, .int 0, .int 0, .int 0, .int 0, .int 0, .int (bi false)]))] (fun r H => r = none ∧ va_P D classes [(h0, .inr (11, [.int xa, .int xb, .int xc, .int 0, .int 0, .int 0, .int 0, .int 0, .int 0, .int (bi true)]))] H ∧ va_D (va_A [(h0, .inr (11, [.int 0, .int 0, .int 0, .int 0, .int 0, .int 0, .int 0, .int 0, .int 0, .int (bi false)]))] sz) [(h0, .inr (11, [.int xa, .int xb, .int xc, .int 0, .int 0, .int 0, .int 0, .int 0, .int 0, .int (bi true)]))]) := by
  refine CtA.mk (by decide) (Nat.le_of_ble_eq_true rfl) ?_
  intro p e s m args below meth c Q A H locs ls hx hb hr hml hlk hown hin hK hQ hAe hA hsz hP hD hS hl
  have hl : lv_has ls 4 [(0, .ref h0), (1, .int xa), (2, .int xb), (3, .int xc)] := hl
  have hown : s.vm.findClass "RangeSheet$Greater" = some m.cls := hown
  have hin : meth.name = "<init>" := hin
  refine lv_aload_n hx hb d_Greater_init_0 rfl (lv_at hl 0 rfl) ?_
  refine lv_iload_n hx hb d_Greater_init_1 rfl (lv_at hl 1 rfl) ?_
  refine lv_iload_n hx hb d_Greater_init_2 rfl (lv_at hl 2 rfl) ?_
  refine lv_iload_n hx hb d_Greater_init_3 rfl (lv_at hl 3 rfl) ?_
  refine l_I (As := [.int xa, .int xb, .int xc]) (rest := []) (wc := [(h0, .inr (11, [.int 0, .int 0, .int 0, .int 0, .int 0, .int 0, .int 0, .int 0, .int 0, .int (bi false)]))]) hx hb hml hown hK (k_Three_init_Greater l D cA H.size h0 xa xb xc) t_506 t_11 t_599 t_505 yk_Three_init rfl ⟨Nat.le_of_ble_eq_true rfl, Nat.le_of_ble_eq_true rfl⟩ hP hD hS hA [0] (by decide) rfl rfl hl.1 rfl (Nat.le_of_ble_eq_true rfl) d_Greater_init_4 ⟨Nat.le_of_ble_eq_true rfl, Nat.le_of_ble_eq_true rfl⟩ (fun r H locs hq hk1 hFc hS => ?_)
  obtain ⟨rfl, hP1, hD1⟩ := hq
  have hJ := va_join (wr := []) (w1 := [(h0, .inr (11, [.int xa, .int xb, .int xc, .int 0, .int 0, .int 0, .int 0, .int 0, .int 0, .int (bi true)]))]) hP hD [0] [] rfl rfl (by decide) (by decide) hk1 hFc hP1 hD1
  obtain ⟨hP, hD⟩ := hJ
  have hP : va_P D classes [(h0, .inr (11, [.int xa, .int xb, .int xc, .int 0, .int 0, .int 0, .int 0, .int 0, .int 0, .int (bi true)]))] H := hP
  have hD : va_D A [(h0, .inr (11, [.int xa, .int xb, .int xc, .int 0, .int 0, .int 0, .int 0, .int 0, .int 0, .int (bi true)]))] := hD
  refine W.eq (g2 := F0 m 7 ls []) rfl ?_
  refine e_v hx hb hr hlk hQ hS d_Greater_init_7 ?_
  exact ⟨rfl, hP, hAe ▸ hD⟩
set_option maxHeartbeats 4000000 in
set_option maxRecDepth 20000 in
theorem k_Three_init_If (l : Launch) (D : va_G) (cA : Nat → ClassId) (sz h0 : Nat) (xa : Int32) (xb : Int32) (xc : Int32) : CtA l y_Three_init b_Three_init 4 none 4 0 0 D cA [.ref h0, .int xa, .int xb, .int xc] sz [(h0, .inr (12, [.int 0, .int 0, .int 0, .int 0, .int 0, .int 0, .int 0, .int 0, .int 0, .int (bi false)]))] (fun r H => r = none ∧ va_P D classes [(h0, .inr (12, [.int xa, .int xb, .int xc, .int 0, .int 0, .int 0, .int 0, .int 0, .int 0, .int (bi true)]))] H ∧ va_D (va_A [(h0, .inr (12, [.int 0, .int 0, .int 0, .int 0, .int 0, .int 0, .int 0, .int 0, .int 0, .int (bi false)]))] sz) [(h0, .inr (12, [.int xa, .int xb, .int xc, .int 0, .int 0, .int 0, .int 0, .int 0, .int 0, .int (bi true)]))]) := by
  refine CtA.mk (by decide) (Nat.le_of_ble_eq_true rfl) ?_
  intro p e s m args below meth c Q A H locs ls hx hb hr hml hlk hown hin hK hQ hAe hA hsz hP hD hS hl
  have hl : lv_has ls 4 [(0, .ref h0), (1, .int xa), (2, .int xb), (3, .int xc)] := hl
  have hown : s.vm.findClass "RangeSheet$Three" = some m.cls := hown
  have hin : meth.name = "<init>" := hin
  refine lv_aload_n hx hb d_Three_init_0 rfl (lv_at hl 0 rfl) ?_
  refine l_IN (As := []) (rest := []) (wc := [(h0, .inr (12, [.int 0, .int 0, .int 0, .int 0, .int 0, .int 0, .int 0, .int 0, .int 0, .int (bi false)]))]) hx hb hml hown hK (k_Rel_init_If l D cA H.size h0 ) t_509 t_10 t_507 t_508 yk_Relation_init rfl ⟨Nat.le_of_ble_eq_true rfl, Nat.le_of_ble_eq_true rfl⟩ hP hD hS hA [0] (by decide) rfl rfl hl.1 rfl (Nat.le_of_ble_eq_true rfl) d_Three_init_1 ⟨Nat.le_of_ble_eq_true rfl, Nat.le_of_ble_eq_true rfl⟩ (fun r H locs hq hk1 hFc hS => ?_)
  obtain ⟨rfl, hP1, hD1⟩ := hq
  have hJ := va_join (wr := []) (w1 := [(h0, .inr (12, [.int 0, .int 0, .int 0, .int 0, .int 0, .int 0, .int 0, .int 0, .int 0, .int (bi true)]))]) hP hD [0] [] rfl rfl (by decide) (by decide) hk1 hFc hP1 hD1
  obtain ⟨hP, hD⟩ := hJ
  have hP : va_P D classes [(h0, .inr (12, [.int 0, .int 0, .int 0, .int 0, .int 0, .int 0, .int 0, .int 0, .int 0, .int (bi true)]))] H := hP
  have hD : va_D A [(h0, .inr (12, [.int 0, .int 0, .int 0, .int 0, .int 0, .int 0, .int 0, .int 0, .int 0, .int (bi true)]))] := hD
  refine W.eq (g2 := F0 m 4 ls []) rfl ?_
  refine lv_aload_n hx hb d_Three_init_4 rfl (lv_at hl 0 rfl) ?_
  refine lv_iload_n hx hb d_Three_init_5 rfl (lv_at hl 1 rfl) ?_
  refine l_pf hx hb hK i_If t_If t_If_ok n_If hown hP hD hS 0 rfl rfl 0 (by decide) t_511 rfl hin (Or.inr rfl) rfl rfl rfl d_Three_init_6 (fun H locs hP hD hS => ?_)
  have hP : va_P D classes [(h0, .inr (12, [.int xa, .int 0, .int 0, .int 0, .int 0, .int 0, .int 0, .int 0, .int 0, .int (bi true)]))] H := hP
  have hD : va_D A [(h0, .inr (12, [.int xa, .int 0, .int 0, .int 0, .int 0, .int 0, .int 0, .int 0, .int 0, .int (bi true)]))] := hD
  refine lv_aload_n hx hb d_Three_init_9 rfl (lv_at hl 0 rfl) ?_
  refine lv_iload_n hx hb d_Three_init_10 rfl (lv_at hl 2 rfl) ?_
  refine l_pf hx hb hK i_If t_If t_If_ok n_If hown hP hD hS 0 rfl rfl 1 (by decide) t_512 rfl hin (Or.inr rfl) rfl rfl rfl d_Three_init_11 (fun H locs hP hD hS => ?_)
  have hP : va_P D classes [(h0, .inr (12, [.int xa, .int xb, .int 0, .int 0, .int 0, .int 0, .int 0, .int 0, .int 0, .int (bi true)]))] H := hP
  have hD : va_D A [(h0, .inr (12, [.int xa, .int xb, .int 0, .int 0, .int 0, .int 0, .int 0, .int 0, .int 0, .int (bi true)]))] := hD
  refine lv_aload_n hx hb d_Three_init_14 rfl (lv_at hl 0 rfl) ?_
  refine lv_iload_n hx hb d_Three_init_15 rfl (lv_at hl 3 rfl) ?_
  refine l_pf hx hb hK i_If t_If t_If_ok n_If hown hP hD hS 0 rfl rfl 2 (by decide) t_513 rfl hin (Or.inr rfl) rfl rfl rfl d_Three_init_16 (fun H locs hP hD hS => ?_)
  have hP : va_P D classes [(h0, .inr (12, [.int xa, .int xb, .int xc, .int 0, .int 0, .int 0, .int 0, .int 0, .int 0, .int (bi true)]))] H := hP
  have hD : va_D A [(h0, .inr (12, [.int xa, .int xb, .int xc, .int 0, .int 0, .int 0, .int 0, .int 0, .int 0, .int (bi true)]))] := hD
  refine e_v hx hb hr hlk hQ hS d_Three_init_19 ?_
  exact ⟨rfl, hP, hAe ▸ hD⟩
theorem d_If_init_0 : decode b_If_init 0 = .ok (.aload_n 0, 1) := by decide +kernel
theorem d_If_init_1 : decode b_If_init 1 = .ok (.iload_n 1, 1) := by decide +kernel
theorem d_If_init_2 : decode b_If_init 2 = .ok (.iload_n 2, 1) := by decide +kernel
theorem d_If_init_3 : decode b_If_init 3 = .ok (.iload_n 3, 1) := by decide +kernel
theorem d_If_init_4 : decode b_If_init 4 = .ok (.invokespecial 1, 3) := by decide +kernel
theorem d_If_init_7 : decode b_If_init 7 = .ok (.return_, 1) := by decide +kernel
set_option maxHeartbeats 4000000 in
set_option maxRecDepth 20000 in
theorem k_If_init (l : Launch) (D : va_G) (cA : Nat → ClassId) (sz h0 : Nat) (xa : Int32) (xb : Int32) (xc : Int32) : CtA l y_If_init b_If_init 4 none 6 0 0 D cA [.ref h0, .int xa, .int xb, .int xc] sz [(h0, .inr (12, [.int 0, .int 0, .int 0, .int 0, .int 0, .int 0, .int 0, .int 0, .int 0, .int (bi false)]))] (fun r H => r = none ∧ va_P D classes [(h0, .inr (12, [.int xa, .int xb, .int xc, .int 0, .int 0, .int 0, .int 0, .int 0, .int 0, .int (bi true)]))] H ∧ va_D (va_A [(h0, .inr (12, [.int 0, .int 0, .int 0, .int 0, .int 0, .int 0, .int 0, .int 0, .int 0, .int (bi false)]))] sz) [(h0, .inr (12, [.int xa, .int xb, .int xc, .int 0, .int 0, .int 0, .int 0, .int 0, .int 0, .int (bi true)]))]) := by
  refine CtA.mk (by decide) (Nat.le_of_ble_eq_true rfl) ?_
  intro p e s m args below meth c Q A H locs ls hx hb hr hml hlk hown hin hK hQ hAe hA hsz hP hD hS hl
  have hl : lv_has ls 4 [(0, .ref h0), (1, .int xa), (2, .int xb), (3, .int xc)] := hl
  have hown : s.vm.findClass "RangeSheet$If" = some m.cls := hown
  have hin : meth.name = "<init>" := hin
  refine lv_aload_n hx hb d_If_init_0 rfl (lv_at hl 0 rfl) ?_
  refine lv_iload_n hx hb d_If_init_1 rfl (lv_at hl 1 rfl) ?_
  refine lv_iload_n hx hb d_If_init_2 rfl (lv_at hl 2 rfl) ?_
  refine lv_iload_n hx hb d_If_init_3 rfl (lv_at hl 3 rfl) ?_
  refine l_I (As := [.int xa, .int xb, .int xc]) (rest := []) (wc := [(h0, .inr (12, [.int 0, .int 0, .int 0, .int 0, .int 0, .int 0, .int 0, .int 0, .int 0, .int (bi false)]))]) hx hb hml hown hK (k_Three_init_If l D cA H.size h0 xa xb xc) t_506 t_11 t_633 t_505 yk_Three_init rfl ⟨Nat.le_of_ble_eq_true rfl, Nat.le_of_ble_eq_true rfl⟩ hP hD hS hA [0] (by decide) rfl rfl hl.1 rfl (Nat.le_of_ble_eq_true rfl) d_If_init_4 ⟨Nat.le_of_ble_eq_true rfl, Nat.le_of_ble_eq_true rfl⟩ (fun r H locs hq hk1 hFc hS => ?_)
  obtain ⟨rfl, hP1, hD1⟩ := hq
  have hJ := va_join (wr := []) (w1 := [(h0, .inr (12, [.int xa, .int xb, .int xc, .int 0, .int 0, .int 0, .int 0, .int 0, .int 0, .int (bi true)]))]) hP hD [0] [] rfl rfl (by decide) (by decide) hk1 hFc hP1 hD1
  obtain ⟨hP, hD⟩ := hJ
  have hP : va_P D classes [(h0, .inr (12, [.int xa, .int xb, .int xc, .int 0, .int 0, .int 0, .int 0, .int 0, .int 0, .int (bi true)]))] H := hP
  have hD : va_D A [(h0, .inr (12, [.int xa, .int xb, .int xc, .int 0, .int 0, .int 0, .int 0, .int 0, .int 0, .int (bi true)]))] := hD
  refine W.eq (g2 := F0 m 7 ls []) rfl ?_
  refine e_v hx hb hr hlk hQ hS d_If_init_7 ?_
  exact ⟨rfl, hP, hAe ▸ hD⟩
theorem d_AtMost_init_0 : decode b_AtMost_init 0 = .ok (.aload_n 0, 1) := by decide +kernel
theorem d_AtMost_init_1 : decode b_AtMost_init 1 = .ok (.invokespecial 1, 3) := by decide +kernel
theorem d_AtMost_init_4 : decode b_AtMost_init 4 = .ok (.aload_n 0, 1) := by decide +kernel
theorem d_AtMost_init_5 : decode b_AtMost_init 5 = .ok (.iload_n 1, 1) := by decide +kernel
theorem d_AtMost_init_6 : decode b_AtMost_init 6 = .ok (.putfield 7, 3) := by decide +kernel
theorem d_AtMost_init_9 : decode b_AtMost_init 9 = .ok (.aload_n 0, 1) := by decide +kernel
theorem d_AtMost_init_10 : decode b_AtMost_init 10 = .ok (.iload_n 2, 1) := by decide +kernel
theorem d_AtMost_init_11 : decode b_AtMost_init 11 = .ok (.putfield 13, 3) := by decide +kernel
theorem d_AtMost_init_14 : decode b_AtMost_init 14 = .ok (.aload_n 0, 1) := by decide +kernel
theorem d_AtMost_init_15 : decode b_AtMost_init 15 = .ok (.iload_n 3, 1) := by decide +kernel
theorem d_AtMost_init_16 : decode b_AtMost_init 16 = .ok (.putfield 16, 3) := by decide +kernel
theorem d_AtMost_init_19 : decode b_AtMost_init 19 = .ok (.return_, 1) := by decide +kernel
set_option maxHeartbeats 4000000 in
set_option maxRecDepth 20000 in
theorem k_AtMost_init (l : Launch) (D : va_G) (cA : Nat → ClassId) (sz h0 : Nat) (xa : Int32) (xb : Int32) (xc : Int32) : CtA l y_AtMost_init b_AtMost_init 4 none 6 0 0 D cA [.ref h0, .int xa, .int xb, .int xc] sz [(h0, .inr (4, [.int 0, .int 0, .int 0, .int (bi false)]))] (fun r H => r = none ∧ va_P D classes [(h0, .inr (4, [.int xa, .int xb, .int xc, .int (bi true)]))] H ∧ va_D (va_A [(h0, .inr (4, [.int 0, .int 0, .int 0, .int (bi false)]))] sz) [(h0, .inr (4, [.int xa, .int xb, .int xc, .int (bi true)]))]) := by
  refine CtA.mk (by decide) (Nat.le_of_ble_eq_true rfl) ?_
  intro p e s m args below meth c Q A H locs ls hx hb hr hml hlk hown hin hK hQ hAe hA hsz hP hD hS hl
  have hl : lv_has ls 4 [(0, .ref h0), (1, .int xa), (2, .int xb), (3, .int xc)] := hl
  have hown : s.vm.findClass "RangeSheet$AtMost" = some m.cls := hown
  have hin : meth.name = "<init>" := hin
  refine lv_aload_n hx hb d_AtMost_init_0 rfl (lv_at hl 0 rfl) ?_
  refine l_IN (As := []) (rest := []) (wc := [(h0, .inr (4, [.int 0, .int 0, .int 0, .int (bi false)]))]) hx hb hml hown hK (k_Rel_init_AtMost l D cA H.size h0 ) t_509 t_10 t_616 t_508 yk_Relation_init rfl ⟨Nat.le_of_ble_eq_true rfl, Nat.le_of_ble_eq_true rfl⟩ hP hD hS hA [0] (by decide) rfl rfl hl.1 rfl (Nat.le_of_ble_eq_true rfl) d_AtMost_init_1 ⟨Nat.le_of_ble_eq_true rfl, Nat.le_of_ble_eq_true rfl⟩ (fun r H locs hq hk1 hFc hS => ?_)
  obtain ⟨rfl, hP1, hD1⟩ := hq
  have hJ := va_join (wr := []) (w1 := [(h0, .inr (4, [.int 0, .int 0, .int 0, .int (bi true)]))]) hP hD [0] [] rfl rfl (by decide) (by decide) hk1 hFc hP1 hD1
  obtain ⟨hP, hD⟩ := hJ
  have hP : va_P D classes [(h0, .inr (4, [.int 0, .int 0, .int 0, .int (bi true)]))] H := hP
  have hD : va_D A [(h0, .inr (4, [.int 0, .int 0, .int 0, .int (bi true)]))] := hD
  refine W.eq (g2 := F0 m 4 ls []) rfl ?_
  refine lv_aload_n hx hb d_AtMost_init_4 rfl (lv_at hl 0 rfl) ?_
  refine lv_iload_n hx hb d_AtMost_init_5 rfl (lv_at hl 1 rfl) ?_
  refine l_pf hx hb hK i_AtMost t_AtMost t_AtMost_ok n_AtMost hown hP hD hS 0 rfl rfl 0 (by decide) t_617 rfl hin (Or.inr rfl) rfl rfl rfl d_AtMost_init_6 (fun H locs hP hD hS => ?_)
  have hP : va_P D classes [(h0, .inr (4, [.int xa, .int 0, .int 0, .int (bi true)]))] H := hP
  have hD : va_D A [(h0, .inr (4, [.int xa, .int 0, .int 0, .int (bi true)]))] := hD
  refine lv_aload_n hx hb d_AtMost_init_9 rfl (lv_at hl 0 rfl) ?_
  refine lv_iload_n hx hb d_AtMost_init_10 rfl (lv_at hl 2 rfl) ?_
  refine l_pf hx hb hK i_AtMost t_AtMost t_AtMost_ok n_AtMost hown hP hD hS 0 rfl rfl 1 (by decide) t_618 rfl hin (Or.inr rfl) rfl rfl rfl d_AtMost_init_11 (fun H locs hP hD hS => ?_)
  have hP : va_P D classes [(h0, .inr (4, [.int xa, .int xb, .int 0, .int (bi true)]))] H := hP
  have hD : va_D A [(h0, .inr (4, [.int xa, .int xb, .int 0, .int (bi true)]))] := hD
  refine lv_aload_n hx hb d_AtMost_init_14 rfl (lv_at hl 0 rfl) ?_
  refine lv_iload_n hx hb d_AtMost_init_15 rfl (lv_at hl 3 rfl) ?_
  refine l_pf hx hb hK i_AtMost t_AtMost t_AtMost_ok n_AtMost hown hP hD hS 0 rfl rfl 2 (by decide) t_619 rfl hin (Or.inr rfl) rfl rfl rfl d_AtMost_init_16 (fun H locs hP hD hS => ?_)
  have hP : va_P D classes [(h0, .inr (4, [.int xa, .int xb, .int xc, .int (bi true)]))] H := hP
  have hD : va_D A [(h0, .inr (4, [.int xa, .int xb, .int xc, .int (bi true)]))] := hD
  refine e_v hx hb hr hlk hQ hS d_AtMost_init_19 ?_
  exact ⟨rfl, hP, hAe ▸ hD⟩
theorem d_Different_init_0 : decode b_Different_init 0 = .ok (.aload_n 0, 1) := by decide +kernel
theorem d_Different_init_1 : decode b_Different_init 1 = .ok (.invokespecial 3, 3) := by decide +kernel
theorem d_Different_init_4 : decode b_Different_init 4 = .ok (.aload_n 0, 1) := by decide +kernel
theorem d_Different_init_5 : decode b_Different_init 5 = .ok (.iload_n 1, 1) := by decide +kernel
theorem d_Different_init_6 : decode b_Different_init 6 = .ok (.putfield 9, 3) := by decide +kernel
theorem d_Different_init_9 : decode b_Different_init 9 = .ok (.return_, 1) := by decide +kernel
set_option maxHeartbeats 4000000 in
set_option maxRecDepth 20000 in
theorem k_Different_init (l : Launch) (D : va_G) (cA : Nat → ClassId) (sz h0 : Nat) (xa : Int32) : CtA l y_Different_init b_Different_init 2 none 6 0 0 D cA [.ref h0, .int xa] sz [(h0, .inr (5, [.int 0, .int (bi false)]))] (fun r H => r = none ∧ va_P D classes [(h0, .inr (5, [.int xa, .int (bi true)]))] H ∧ va_D (va_A [(h0, .inr (5, [.int 0, .int (bi false)]))] sz) [(h0, .inr (5, [.int xa, .int (bi true)]))]) := by
  refine CtA.mk (by decide) (Nat.le_of_ble_eq_true rfl) ?_
  intro p e s m args below meth c Q A H locs ls hx hb hr hml hlk hown hin hK hQ hAe hA hsz hP hD hS hl
  have hl : lv_has ls 2 [(0, .ref h0), (1, .int xa)] := hl
  have hown : s.vm.findClass "RangeSheet$Different" = some m.cls := hown
  have hin : meth.name = "<init>" := hin
  refine lv_aload_n hx hb d_Different_init_0 rfl (lv_at hl 0 rfl) ?_
  refine l_IN (As := []) (rest := []) (wc := [(h0, .inr (5, [.int 0, .int (bi false)]))]) hx hb hml hown hK (k_Rel_init_Different l D cA H.size h0 ) t_509 t_10 t_649 t_508 yk_Relation_init rfl ⟨Nat.le_of_ble_eq_true rfl, Nat.le_of_ble_eq_true rfl⟩ hP hD hS hA [0] (by decide) rfl rfl hl.1 rfl (Nat.le_of_ble_eq_true rfl) d_Different_init_1 ⟨Nat.le_of_ble_eq_true rfl, Nat.le_of_ble_eq_true rfl⟩ (fun r H locs hq hk1 hFc hS => ?_)
  obtain ⟨rfl, hP1, hD1⟩ := hq
  have hJ := va_join (wr := []) (w1 := [(h0, .inr (5, [.int 0, .int (bi true)]))]) hP hD [0] [] rfl rfl (by decide) (by decide) hk1 hFc hP1 hD1
  obtain ⟨hP, hD⟩ := hJ
  have hP : va_P D classes [(h0, .inr (5, [.int 0, .int (bi true)]))] H := hP
  have hD : va_D A [(h0, .inr (5, [.int 0, .int (bi true)]))] := hD
  refine W.eq (g2 := F0 m 4 ls []) rfl ?_
  refine lv_aload_n hx hb d_Different_init_4 rfl (lv_at hl 0 rfl) ?_
  refine lv_iload_n hx hb d_Different_init_5 rfl (lv_at hl 1 rfl) ?_
  refine l_pf hx hb hK i_Different t_Different t_Different_ok n_Different hown hP hD hS 0 rfl rfl 0 (by decide) t_650 rfl hin (Or.inr rfl) rfl rfl rfl d_Different_init_6 (fun H locs hP hD hS => ?_)
  have hP : va_P D classes [(h0, .inr (5, [.int xa, .int (bi true)]))] H := hP
  have hD : va_D A [(h0, .inr (5, [.int xa, .int (bi true)]))] := hD
  refine e_v hx hb hr hlk hQ hS d_Different_init_9 ?_
  exact ⟨rfl, hP, hAe ▸ hD⟩
theorem d_Lookup_init_0 : decode b_Lookup_init 0 = .ok (.aload_n 0, 1) := by decide +kernel
theorem d_Lookup_init_1 : decode b_Lookup_init 1 = .ok (.invokespecial 3, 3) := by decide +kernel
theorem d_Lookup_init_4 : decode b_Lookup_init 4 = .ok (.aload_n 0, 1) := by decide +kernel
theorem d_Lookup_init_5 : decode b_Lookup_init 5 = .ok (.iload_n 1, 1) := by decide +kernel
theorem d_Lookup_init_6 : decode b_Lookup_init 6 = .ok (.putfield 9, 3) := by decide +kernel
theorem d_Lookup_init_9 : decode b_Lookup_init 9 = .ok (.aload_n 0, 1) := by decide +kernel
theorem d_Lookup_init_10 : decode b_Lookup_init 10 = .ok (.iload_n 2, 1) := by decide +kernel
theorem d_Lookup_init_11 : decode b_Lookup_init 11 = .ok (.putfield 15, 3) := by decide +kernel
theorem d_Lookup_init_14 : decode b_Lookup_init 14 = .ok (.aload_n 0, 1) := by decide +kernel
theorem d_Lookup_init_15 : decode b_Lookup_init 15 = .ok (.aload_n 3, 1) := by decide +kernel
theorem d_Lookup_init_16 : decode b_Lookup_init 16 = .ok (.putfield 18, 3) := by decide +kernel
theorem d_Lookup_init_19 : decode b_Lookup_init 19 = .ok (.return_, 1) := by decide +kernel
set_option maxHeartbeats 4000000 in
set_option maxRecDepth 20000 in
theorem k_Lookup_init (l : Launch) (D : va_G) (cA : Nat → ClassId) (sz h0 : Nat) (xa : Int32) (xb : Int32) (rw : Nat) : CtA l y_Lookup_init b_Lookup_init 4 none 6 0 0 D cA [.ref h0, .int xa, .int xb, .ref rw] sz [(h0, .inr (6, [.int 0, .int 0, .null, .int (bi false)]))] (fun r H => r = none ∧ va_P D classes [(h0, .inr (6, [.int xa, .int xb, .ref rw, .int (bi true)]))] H ∧ va_D (va_A [(h0, .inr (6, [.int 0, .int 0, .null, .int (bi false)]))] sz) [(h0, .inr (6, [.int xa, .int xb, .ref rw, .int (bi true)]))]) := by
  refine CtA.mk (by decide) (Nat.le_of_ble_eq_true rfl) ?_
  intro p e s m args below meth c Q A H locs ls hx hb hr hml hlk hown hin hK hQ hAe hA hsz hP hD hS hl
  have hl : lv_has ls 4 [(0, .ref h0), (1, .int xa), (2, .int xb), (3, .ref rw)] := hl
  have hown : s.vm.findClass "RangeSheet$Lookup" = some m.cls := hown
  have hin : meth.name = "<init>" := hin
  refine lv_aload_n hx hb d_Lookup_init_0 rfl (lv_at hl 0 rfl) ?_
  refine l_IN (As := []) (rest := []) (wc := [(h0, .inr (6, [.int 0, .int 0, .null, .int (bi false)]))]) hx hb hml hown hK (k_Rel_init_Lookup l D cA H.size h0 ) t_509 t_10 t_659 t_508 yk_Relation_init rfl ⟨Nat.le_of_ble_eq_true rfl, Nat.le_of_ble_eq_true rfl⟩ hP hD hS hA [0] (by decide) rfl rfl hl.1 rfl (Nat.le_of_ble_eq_true rfl) d_Lookup_init_1 ⟨Nat.le_of_ble_eq_true rfl, Nat.le_of_ble_eq_true rfl⟩ (fun r H locs hq hk1 hFc hS => ?_)
  obtain ⟨rfl, hP1, hD1⟩ := hq
  have hJ := va_join (wr := []) (w1 := [(h0, .inr (6, [.int 0, .int 0, .null, .int (bi true)]))]) hP hD [0] [] rfl rfl (by decide) (by decide) hk1 hFc hP1 hD1
  obtain ⟨hP, hD⟩ := hJ
  have hP : va_P D classes [(h0, .inr (6, [.int 0, .int 0, .null, .int (bi true)]))] H := hP
  have hD : va_D A [(h0, .inr (6, [.int 0, .int 0, .null, .int (bi true)]))] := hD
  refine W.eq (g2 := F0 m 4 ls []) rfl ?_
  refine lv_aload_n hx hb d_Lookup_init_4 rfl (lv_at hl 0 rfl) ?_
  refine lv_iload_n hx hb d_Lookup_init_5 rfl (lv_at hl 1 rfl) ?_
  refine l_pf hx hb hK i_Lookup t_Lookup t_Lookup_ok n_Lookup hown hP hD hS 0 rfl rfl 0 (by decide) t_660 rfl hin (Or.inr rfl) rfl rfl rfl d_Lookup_init_6 (fun H locs hP hD hS => ?_)
  have hP : va_P D classes [(h0, .inr (6, [.int xa, .int 0, .null, .int (bi true)]))] H := hP
  have hD : va_D A [(h0, .inr (6, [.int xa, .int 0, .null, .int (bi true)]))] := hD
  refine lv_aload_n hx hb d_Lookup_init_9 rfl (lv_at hl 0 rfl) ?_
  refine lv_iload_n hx hb d_Lookup_init_10 rfl (lv_at hl 2 rfl) ?_
  refine l_pf hx hb hK i_Lookup t_Lookup t_Lookup_ok n_Lookup hown hP hD hS 0 rfl rfl 1 (by decide) t_661 rfl hin (Or.inr rfl) rfl rfl rfl d_Lookup_init_11 (fun H locs hP hD hS => ?_)
  have hP : va_P D classes [(h0, .inr (6, [.int xa, .int xb, .null, .int (bi true)]))] H := hP
  have hD : va_D A [(h0, .inr (6, [.int xa, .int xb, .null, .int (bi true)]))] := hD
  refine lv_aload_n hx hb d_Lookup_init_14 rfl (lv_at hl 0 rfl) ?_
  refine lv_aload_n hx hb d_Lookup_init_15 rfl (lv_at hl 3 rfl) ?_
  refine l_pf hx hb hK i_Lookup t_Lookup t_Lookup_ok n_Lookup hown hP hD hS 0 rfl rfl 2 (by decide) t_662 rfl hin (Or.inr rfl) rfl rfl rfl d_Lookup_init_16 (fun H locs hP hD hS => ?_)
  have hP : va_P D classes [(h0, .inr (6, [.int xa, .int xb, .ref rw, .int (bi true)]))] H := hP
  have hD : va_D A [(h0, .inr (6, [.int xa, .int xb, .ref rw, .int (bi true)]))] := hD
  refine e_v hx hb hr hlk hQ hS d_Lookup_init_19 ?_
  exact ⟨rfl, hP, hAe ▸ hD⟩
