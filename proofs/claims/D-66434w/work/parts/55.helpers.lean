/-! the law's helpers -/
def OUT (cA : Nat → ClassId) (g : Nat → Int64) : va_E := .inl (cA 2, 1, .inr (.inl g))
def hAd (N : List Nat) (adr : Nat → Nat) (ao sz : Nat) : Nat → Prop := fun q => wA N adr q ∨ q = ao ∨ sz ≤ q
def CtH (l : Launch) (y : MethodName) (bytes : ByteArray) (maxL : Nat) (hh : List (Nat × Nat × Nat × Nat)) (k : Nat) (D : va_G) (cA : Nat → ClassId) (av : List Value) (sz : Nat) (N : List Nat) (adr : Nat → Nat) (cn : Nat → va_E) (ao : Nat) (g : Nat → Int64) (Post : Option Value → Heap → Prop) : Prop :=
  Met l y [.codeWith y bytes maxL (some .int) hh] (rla k 1 10) (va_Pc av (fun U => U.heap.size = sz ∧ KE D cA U ∧ Th U ∧ NC U ∧ va_P D classes (wl N adr cn) U.heap ∧ va_at D classes (ao, OUT cA g) U.heap)) (Qc0 Post (hAd N adr ao sz)) 1 10 (hAd N adr ao sz)
theorem CtH.mk {l : Launch} {y : MethodName} {bytes : ByteArray} {maxL : Nat} {hh : List (Nat × Nat × Nat × Nat)} {k : Nat} {D : va_G} {cA : Nat → ClassId} {av : List Value} {sz : Nat} {N : List Nat} {adr : Nat → Nat} {cn : Nat → va_E} {ao : Nat} {g : Nat → Int64} {Post : Option Value → Heap → Prop}
    (hy : plainName y.cls = true) (hn : (lg_sl av).length ≤ maxL)
    (body : ∀ (p : Program) (e : Env) (s : State) (m : MethodId) (args : Array Value) (below : List Frame) (meth : Method) (c : Code) (Q : State → Prop) (A : Nat → Prop) (H : Heap) (locs : List Loc) (ls : Array Slot), p.tables.exec = Jvm.exec → c.code = bytes → meth.sig.returnType = some .int → c.maxLocals = maxL → meth.locks = false → s.vm.findClass y.cls = some m.cls → KE D cA s → (∀ T : State, s.WarmedH T.vm → T.heap = H → Th T) → NC s → c.exceptionTable.toList.map hmap = hh → Q = MQ below (Qc0 Post A) args s 1 10 A → A = hAd N adr ao sz → H.size = sz → H.size ≤ s.heap.size → va_P D classes (wl N adr cn) H → va_at D classes (ao, OUT cA g) H → va_S A s.heap H locs →
      lv_has ls maxL (lv_args 0 av) → W p l e (rla k 1 10) s m args below meth c H locs 0 0 Q (F0 m 0 ls [])) : CtH l y bytes maxL hh k D cA av sz N adr cn ao g Post := by
  refine va_MetW (cc := bytes) (maxL := maxL) (ret := some .int) hy rfl ?_
  intro p e s m args below meth c s₁ B hml hv
  obtain ⟨hav, hsz, hK, hTh, hNC, hP, hO⟩ := hv
  have hl := lv_entry av (n := maxL) hn
  obtain ⟨m9, meth9, c9, hn9, h1, h2, h3, h4, h5, h6, h7, -⟩ := Cond.codeWith_spec (atoms_spec (ws := [.codeWith y bytes maxL (some .int) hh]) B.pre _ List.mem_cons_self)
  cases hn9.symm.trans B.named
  cases h1.symm.trans B.method
  cases h2.symm.trans (Stand.of_body B).code
  rw [show entryFrame m args maxL = F0 m 0 _ [] from by rw [hav]; exact lg_entry_eq ..]
  exact body p e s m args below meth c _ _ s.heap [] _ B.exec B.bytes B.returns hml B.notSynchronized (findClass_of_methodNamed B.named) hK (fun T hW hT => hTh.moved hW (fun q cell h _ => by rw [hT]; exact h)) hNC h5 rfl rfl hsz (Nat.le_refl _) hP hO va_S.rf hl
theorem keepP {D : va_G} {cl : List vw_C} {ws : va_W} {H H1 : Heap} (hk : ∀ (q : Nat) (cell : Cell), H[q]? = some cell → H1[q]? = some cell) (hP : va_P D cl ws H) : va_P D cl ws H1 := hP.kept (fun k q hq => by
  obtain ⟨c0, hc⟩ : ∃ c0, H[q.1]? = some c0 := ⟨_, Array.getElem?_eq_getElem (hP k q hq).lt⟩
  rw [hc, hk _ _ hc])
theorem keepO {D : va_G} {cl : List vw_C} {q : Nat × va_E} {H H1 : Heap} (hk : ∀ (q : Nat) (cell : Cell), H[q]? = some cell → H1[q]? = some cell) (hO : va_at D cl q H) : va_at D cl q H1 := hO.kept (by
  obtain ⟨c0, hc⟩ : ∃ c0, H[q.1]? = some c0 := ⟨_, Array.getElem?_eq_getElem hO.lt⟩
  rw [hc, hk _ _ hc])
theorem keepS {A : Nat → Prop} {H0 H H1 : Heap} {locs : List Loc} (hk : ∀ (q : Nat) (cell : Cell), H[q]? = some cell → H1[q]? = some cell) (hz : H.size ≤ H1.size) (hS : va_S A H0 H locs) : va_S A H0 H1 locs := ⟨Nat.le_trans hS.1 hz, fun q h1 h2 => by
  obtain ⟨c0, hc⟩ : ∃ c0, H[q]? = some c0 := ⟨_, Array.getElem?_eq_getElem (Nat.lt_of_lt_of_le h1 hS.1)⟩
  rw [hk _ _ hc, ← hc]
  exact hS.2.1 q h1 h2, hS.2.2⟩
section HL
variable {p : Program} {l : Launch} {e : Env} {R : Room} {s : State} {m : MethodId} {args : Array Value} {below : List Frame} {meth : Method} {c : Code} {H : Heap} {locs : List Loc} {cells slots : Nat} {Q : State → Prop}
variable {cc : ByteArray} {pc : Nat} {ls : Array Slot} {rest st : List Value} {D : va_G} {cA : Nat → ClassId} {A : Nat → Prop} {H0 : Heap} {N : List Nat} {adr : Nat → Nat} {cn : Nat → va_E} {nL ao : Nat} {g : Nat → Int64} {own : String}
/-- the answer is stored in the law's array -/
theorem w_out (hexec : p.tables.exec = Jvm.exec) (hb : c.code = cc) (hK : KE D cA s) (hi : wI N adr) (hP : va_P D classes (wl N adr cn) H) (hO : va_at D classes (ao, OUT cA g) H) (hao : ∀ n ∈ N, adr n ≠ ao) (hS : va_S A H0 H locs) (hA : ∀ n ∈ N, A (adr n)) (hAo : A ao) {x : Int64} (hdg : decode cc pc = .ok (.lastore, 1))
    (kk : ∀ (H1 : Heap) (locs1 : List Loc) (g2 : Nat → Int64), g2 0 = x → va_P D classes (wl N adr cn) H1 → va_at D classes (ao, OUT cA g2) H1 → va_S A H0 H1 locs1 → W p l e R s m args below meth c H1 locs1 cells slots Q (F0 m (pc + 1) ls rest)) : W p l e R s m args below meth c H locs cells slots Q (F0 m pc ls (.long x :: .int 0 :: .ref ao :: rest)) := by
  have hP2 : va_P D classes (wl N adr cn ++ [(ao, OUT cA g)]) H := va_P.app hP (fun k q hq => by
    have hk : k = 0 := by have := (List.getElem?_eq_some_iff.mp hq).1; simpa using this
    subst hk
    cases hq
    exact hO)
  have hD2 : va_D A (wl N adr cn ++ [(ao, OUT cA g)]) := va_D.app (wl_D hi hA) ⟨fun i j p q h1 h2 _ => by have := (List.getElem?_eq_some_iff.mp h1).1; have := (List.getElem?_eq_some_iff.mp h2).1; simp at *; omega, fun k q hq => by
    have hk : k = 0 := by have := (List.getElem?_eq_some_iff.mp hq).1; simpa using this
    subst hk
    cases hq
    exact hAo⟩ (fun i j p q h1 h2 => by
    have hk : j = 0 := by have := (List.getElem?_eq_some_iff.mp h2).1; simpa using this
    subst hk
    cases h2
    obtain ⟨n, hn, rfl⟩ := wl_of h1
    exact hao n (List.mem_of_getElem? hn))
  refine va_last (n := 1) (f := g) (cA := cA 2) hexec hb hK.2 hP2 hD2 hS (wl N adr cn).length 2 (by simp [OUT]) rfl (i_vpin kc_0 (by omega) (by decide)) hdg (fun H1 l1 h1 _ h3 => ?_)
  have he : (wl N adr cn ++ [(ao, OUT cA g)]).set (wl N adr cn).length (ao, .inl (cA 2, 1, .inr (.inl (vp_updL g (0 : Int32).toNatClampNeg x)))) = wl N adr cn ++ [(ao, OUT cA (vp_updL g 0 x))] := by simp [OUT]
  rw [he] at h1
  exact kk H1 l1 _ (by simp [vp_updL]) h1.left (h1 (wl N adr cn).length (ao, OUT cA (vp_updL g 0 x)) (by simp)) h3
theorem c_blindH {av : List Value} {sz : Nat} : FrameBlind (va_Pc av (fun U => U.heap.size = sz ∧ KE D cA U ∧ Th U ∧ NC U ∧ va_P D classes (wl N adr cn) U.heap ∧ va_at D classes (ao, OUT cA g) U.heap)) := fun a U g mk q => ⟨q.1, q.2.1, q.2.2.1.same rfl, q.2.2.2.1.moved (State.WarmedH.refl U) (fun _ _ h _ => h), q.2.2.2.2.1, q.2.2.2.2.2⟩
/-- a call of a helper -/
theorem l_SH {y : MethodName} {bytes : ByteArray} {maxL kc n index : Nat} {hh : List (Nat × Nat × Nat × Nat)} {As : List Value} {Post : Option Value → Heap → Prop} (hexec : p.tables.exec = Jvm.exec) (hb : c.code = cc) (hml : c.maxLocals = nL) (hown : s.vm.findClass own = some m.cls) (hK : KE D cA s) (hM : CtH l y bytes maxL hh kc D cA As H.size N adr cn ao g Post) (tc : Cond.codeWith y bytes maxL (some .int) hh ∈ TW) (tn : Cond.initialized y.cls ∈ TW) (tl : Cond.methodLink own index y ∈ TW) (ts : Cond.static y ∈ TW) (hd : yOk y n) (hR : kc + 1 ≤ R.frames ∧ 8 + (maxL + 11) + 60 * kc ≤ R.locals)
    (hTh : ∀ T : State, s.WarmedH T.vm → T.heap = H → Th T) (hNC : NC s) (hP : va_P D classes (wl N adr cn) H) (hO : va_at D classes (ao, OUT cA g) H) (hS : va_S A H0 H locs) (hA : ∀ q, hAd N adr ao H.size q → A q) (hn : As.length = n) (hsize : ls.size = nL) (hst : st = As.reverse ++ rest) (hW : (rest.map fun v => v.category).sum ≤ 8) (hdg : decode cc pc = .ok (.invokestatic index, 3)) (hc : cells + 1 ≤ R.cells ∧ slots + 10 ≤ R.slots)
    (kk : ∀ (r : Option Value) (H1 : Heap) (locs1 : List Loc), Post r H1 → (∀ q : Nat, q < H.size → ¬ hAd N adr ao H.size q → H1[q]? = H[q]?) → H.size ≤ H1.size → va_S A H0 H1 locs1 → W p l e R s m args below meth c H1 locs1 (cells + 1) (slots + 10) Q (F0 m (pc + 3) ls (r.toList ++ rest))) : W p l e R s m args below meth c H locs cells slots Q (F0 m pc ls st) := by
  intro T hT X
  subst hT
  obtain ⟨mk, methM, cM, hnamed, hmethM, -, -, -, -, -, -, hsigM⟩ := Cond.codeWith_spec (hK.w tc (a := args))
  have hstatic : methM.isStatic = true := Cond.static_spec hnamed hmethM (hK.w ts (a := args))
  obtain ⟨kP, hkP, -⟩ := className_of_methodNamed hnamed
  have hinitP : kP.init = .initialized := Cond.initialized_spec (findClass_of_methodNamed hnamed) hkP (hK.w tn (a := args))
  have hB : Back l R p e below s args y 3 8 _ _ := va_backW (hh := hh) (bytes := bytes) (maxL := maxL) (ret := some .int) hM c_blindH rfl rfl hR.1 hR.2 (fun w hw a' U hW => by rw [List.mem_singleton.mp hw]; exact (hK.warm hW).w tc) List.mem_cons_self (fun a' U hW => (hK.warm hW).w tn)
  obtain ⟨vm₁, X₁, hstep₁⟩ := X.invokestatic hexec hown (hK.w tl) hnamed hmethM hstatic hkP hinitP ⟨hd.1, hd.2.1⟩ (g := F0 m pc ls st) rfl (argsL := As) (rest := rest) (by have h2 := hd.2.2; rw [hsigM] at h2; exact hn.trans (Option.some.inj h2).symm) hst (by rw [hb]; exact hdg)
  obtain ⟨v, ⟨U', l2, c2, s2⟩, X', ⟨g', mk', t, L, e1, e2, hq, h1, hL, h2, h3⟩, hsteps⟩ := hB m meth c ⟨T.setVm vm₁, locs, cells, slots⟩ { F0 m pc ls st with stack := rest } (.invokestatic index) mk As.toArray X₁ rfl (hsize.trans hml.symm) (by rw [hb]; exact hdg) (lv_room hW) (X₁.named hnamed) ⟨hc.1, hc.2, rfl, rfl, hK.warm X₁.warmed, hTh _ X₁.warmed rfl, hNC.warm X₁.warmed, hP, hO⟩
  dsimp only [Pt.U, Pt.locs, Pt.cells, Pt.slots] at X' e1 e2 h1 h2 h3 hsteps
  subst h1; subst h2; subst h3
  obtain ⟨⟨r, hv, hp⟩, hz, hk⟩ := hq
  cases hv
  have hz : T.heap.size ≤ t.heap.size := hz
  have hk : ∀ q : Nat, q < T.heap.size → ¬ hAd N adr ao T.heap.size q → t.heap[q]? = T.heap[q]? := hk
  obtain ⟨t2, a1, b1⟩ := kk v U'.heap (locs ++ L) (by rw [e1]; exact hp) (fun q h1 h2 => by rw [e1]; exact hk q h1 h2) (by rw [e1]; exact hz)
    ⟨Nat.le_trans hS.1 (by rw [e1]; exact hz), fun q h1 h2 => by rw [e1, hk q (Nat.lt_of_lt_of_le h1 hS.1) (fun z => h2 (hA q z))]; exact hS.2.1 q h1 h2, fun q hq => by
      rcases List.mem_append.mp hq with h | h
      · exact hS.2.2 q h
      · exact hA _ (hL q h)⟩ U' rfl X'
  exact ⟨t2, hstep₁ _ fun acts => by rw [doInvoke_state]; exact hsteps.trans a1, b1⟩
/-- as l_V, with the frame -/
theorem l_V2 {y : MethodName} {bytes : ByteArray} {maxL kc n index mc ms b : Nat} {ret : Option FieldType} {As : List Value} {wc : va_W} {C : String} {Post : Option Value → Heap → Prop} (hexec : p.tables.exec = Jvm.exec) (hb : c.code = cc) (hml : c.maxLocals = nL) (hown : s.vm.findClass own = some m.cls) (hK : KE D cA s) (hM : CtA l y bytes maxL ret kc mc ms D cA (.ref b :: As) H.size wc Post) (tc : Cond.code y bytes maxL ret ∈ TW) (tn : Cond.initialized y.cls ∈ TW) (tl : Cond.methodLink own index y ∈ TW) (ti : Cond.instanceMethod y ∈ TW) (ts : Cond.selects C y y ∈ TW) (hd : yOk y n) (hR : kc + 1 ≤ R.frames ∧ 8 + (maxL + 11) + 60 * kc ≤ R.locals)
    (hrec : ∃ cellB : Cell, H[b]? = some cellB ∧ cellB.vm.isStatics = false ∧ s.vm.findClass C = some cellB.cls) (hP : va_P D classes wc H) (hD : va_D A wc) (hS : va_S A H0 H locs) (hFc : ∀ q, va_A wc H.size q → A q) (hn : As.length = n) (hsize : ls.size = nL) (hst : st = As.reverse ++ .ref b :: rest) (hW : (rest.map fun v => v.category).sum ≤ 8) (hdg : decode cc pc = .ok (.invokevirtual index, 3)) (hc : cells + mc ≤ R.cells ∧ slots + ms ≤ R.slots)
    (kk : ∀ (r : Option Value) (H1 : Heap) (locs1 : List Loc), Post r H1 → (∀ q : Nat, q < H.size → ¬ va_A wc H.size q → H1[q]? = H[q]?) → H.size ≤ H1.size → va_S A H0 H1 locs1 → W p l e R s m args below meth c H1 locs1 (cells + mc) (slots + ms) Q (F0 m (pc + 3) ls (r.toList ++ rest))) : W p l e R s m args below meth c H locs cells slots Q (F0 m pc ls st) := by
  have hr := va_runV (Ts := []) (args := args) (rest := rest) (As := As) (b := b) (locs := locs) (cells := cells) (slots := slots) (below := below) (meth := meth) (e := e) (g := F0 m pc ls st) ⟨hexec, hb, hml, hown, fun w h => absurd h List.not_mem_nil⟩ hM ⟨c_BA hK tc tn (hK.w tl) hd hR, hK.w ti, hK.w ts⟩ ⟨c_blindA, hrec, fun U hU hW => ⟨rfl, by rw [hU], hK.warm hW, by rw [hU]; exact hP, hD.weaken (fun _ _ _ _ => trivial)⟩⟩ rfl hn hsize hst (lv_room hW) hdg hc
  intro T hT X
  obtain ⟨v, st₀, t, T', L, h0, X', hL, e1, e2, ⟨⟨r, hv, hp⟩, hz, hk⟩, stp⟩ := hr T hT X
  cases hv
  rw [h0] at hz hk
  obtain ⟨t2, a1, b1⟩ := kk v T'.heap (locs ++ L) (by rw [e1]; exact hp) (fun q h1 h2 => by rw [e1]; exact hk q h1 h2) (by rw [e1]; exact hz)
    ⟨Nat.le_trans hS.1 (by rw [e1]; exact hz), fun q h1 h2 => by rw [e1, hk q (Nat.lt_of_lt_of_le h1 hS.1) (fun z => h2 (hFc q z))]; exact hS.2.1 q h1 h2, fun q hq => by
      rcases List.mem_append.mp hq with h | h
      · exact hS.2.2 q h
      · exact hFc _ (hL q h)⟩ T' rfl X'
  exact ⟨t2, stp t2 a1, b1⟩
end HL
theorem map_cons {α β : Type} {f : α → β} {l : List α} {b : β} {w : List β} (h : l.map f = b :: w) : ∃ a t, l = a :: t ∧ f a = b ∧ t.map f = w := by
  cases l with
  | nil => simp at h
  | cons a t => simp only [List.map_cons, List.cons.injEq] at h; exact ⟨a, t, rfl, h.1, h.2⟩
theorem d_Law_cell_0 : decode b_Law_cell 0 = .ok (.aload_n 3, 1) := by decide +kernel
theorem d_Law_cell_1 : decode b_Law_cell 1 = .ok (.iconst 0, 1) := by decide +kernel
theorem d_Law_cell_2 : decode b_Law_cell 2 = .ok (.aload_n 0, 1) := by decide +kernel
theorem d_Law_cell_3 : decode b_Law_cell 3 = .ok (.iload_n 1, 1) := by decide +kernel
theorem d_Law_cell_4 : decode b_Law_cell 4 = .ok (.iload_n 2, 1) := by decide +kernel
theorem d_Law_cell_5 : decode b_Law_cell 5 = .ok (.invokevirtual 7, 3) := by decide +kernel
theorem d_Law_cell_8 : decode b_Law_cell 8 = .ok (.i2l, 1) := by decide +kernel
theorem d_Law_cell_9 : decode b_Law_cell 9 = .ok (.lastore, 1) := by decide +kernel
theorem d_Law_cell_10 : decode b_Law_cell 10 = .ok (.goto 11, 3) := by decide +kernel
theorem d_Law_cell_13 : decode b_Law_cell 13 = .ok (.astore 4, 2) := by decide +kernel
theorem d_Law_cell_15 : decode b_Law_cell 15 = .ok (.iconst 1, 1) := by decide +kernel
theorem d_Law_cell_16 : decode b_Law_cell 16 = .ok (.ireturn, 1) := by decide +kernel
theorem d_Law_cell_17 : decode b_Law_cell 17 = .ok (.astore 4, 2) := by decide +kernel
theorem d_Law_cell_19 : decode b_Law_cell 19 = .ok (.iconst 2, 1) := by decide +kernel
theorem d_Law_cell_20 : decode b_Law_cell 20 = .ok (.ireturn, 1) := by decide +kernel
theorem d_Law_cell_21 : decode b_Law_cell 21 = .ok (.iconst 0, 1) := by decide +kernel
theorem d_Law_cell_22 : decode b_Law_cell 22 = .ok (.ireturn, 1) := by decide +kernel
set_option maxHeartbeats 4000000 in
set_option maxRecDepth 20000 in
theorem k_Law_cell (l : Launch) (htr : l.stackTraces = false) (D : va_G) (cA : Nat → ClassId) (sz : Nat) (adr : Nat → Nat) (cn : Nat → va_E) (ao : Nat) (go : Nat → Int64) (F : Nat → Nat → Int32) (I : Nat → Int32) (nn mm en mk0 : Nat) (N : List Nat) (hi : wI N adr) (hNm : ∀ k, k < 56 + mm → k ∈ N) (hao : ∀ n ∈ N, adr n ≠ ao) (x : Nat → Int32) (dn : Bool) (hCP : CP cA adr cn I F mm x dn) (hWF : WF I F nn mm en mk0) (xa xb : Int32) : CtH l y_Law_cell b_Law_cell 5 [(0, 10, 13, 13), (0, 10, 17, 15)] 34 D cA [.ref (adr 0), .int xa, .int xb, .ref ao] sz N adr cn ao go (fun r H => (b_cell nn xa.toInt xb.toInt = 0 ∧ ∃ (z : Int32) (g2 : Nat → Int64), r = some (.int 0) ∧ z.toInt = (nn : Int) ∧ g2 0 = z.toInt64 ∧ va_at D classes (ao, OUT cA g2) H ∧ CQ D cA adr N (va_up I 1 (Int32.ofInt ((nn : Int) + 1))) (G_cell F nn xa xb) mm H) ∨ (¬ b_cell nn xa.toInt xb.toInt = 0 ∧ ∃ cd : Int32, r = some (.int cd) ∧ cd.toInt = b_cell nn xa.toInt xb.toInt ∧ va_at D classes (ao, OUT cA go) H ∧ CQ D cA adr N I F mm H)) := by
  refine CtH.mk (by decide) (Nat.le_of_ble_eq_true rfl) ?_
  intro p e s m args below meth c Q A H locs ls hx hb hr hml hlk hown hK hTh hNC htab hQ hAe hsz hsz2 hP hO hS hl
  have hl : lv_has ls 5 [(0, .ref (adr 0)), (1, .int xa), (2, .int xb), (3, .ref ao)] := hl
  have hown : s.vm.findClass "RangeSheetLaw" = some m.cls := hown
  have hWF0 := hWF
  have hCP0 := hCP
  obtain ⟨hW, hE, hen, ⟨hmk, hmke⟩, htd, hsp, hsd, hset, hgd⟩ := hWF
  obtain ⟨hSR, ⟨hx1, hx3, hx8, hx9, hx11, hx14, hx18⟩, ⟨hc2, hc3, hc4, hc5, hc6, hc7⟩, ⟨cf, hBf⟩, ⟨fn0, gn0, cn0, hBn, hBne⟩, hBx⟩ := hCP
  obtain ⟨f, g, ch, hB⟩ := hBx 0 (by omega)
  have hB : BP cA adr cn 14 f g ch := hB
  have hn10 := hW.1
  have hm12 := hW.2.1
  have hen12 := hE.1
  have hv1 : (x 1).toInt = (nn : Int) := by rw [hx1]; exact hW.2.2.1
  have hv8 : (x 8).toInt = (en : Int) := by rw [hx8]; exact hen
  have hv9 : (x 9).toInt = (mk0 : Int) := by rw [hx9]; exact hmk
  have hN0 := hNm 0 (by omega)
  have hAm : ∀ n ∈ N, A (adr n) := fun n hn => by rw [hAe]; exact Or.inl ⟨n, hn, rfl⟩
  have hAo : A ao := by rw [hAe]; exact Or.inr (Or.inl rfl)
  have hlt := hO.lt
  have hv3 := hSR.2.2.1
  by_cases hc1 : (-100 ≤ xa.toInt ∧ xb.toInt ≤ 100 ∧ xa.toInt ≤ xb.toInt)
  · by_cases hc2n : nn < 10
    · have hcode : b_cell nn xa.toInt xb.toInt = 0 := by unfold b_cell; rw [if_neg (fun h => h hc1), if_neg (by omega)]
      refine lv_aload_n hx hb d_Law_cell_0 rfl (lv_at hl 3 rfl) ?_
      refine lv_iconst (v := 0) hx hb d_Law_cell_1 (by decide) ?_
      refine lv_aload_n hx hb d_Law_cell_2 rfl (lv_at hl 0 rfl) ?_
      refine lv_iload_n hx hb d_Law_cell_3 rfl (lv_at hl 1 rfl) ?_
      refine lv_iload_n hx hb d_Law_cell_4 rfl (lv_at hl 2 rfl) ?_
      refine x_V (As := [.int xa, .int xb]) (rest := [.int (0 : Int32), .ref ao]) hx hb hml hown hK (k_Sht_cell l D cA adr N hi cn F I nn mm en mk0 x dn hCP0 hNm hWF0 xa xb hc1 (by omega)) t_393 t_1 t_390 t_391 t_392 yk_Sht_cell ⟨Nat.le_of_ble_eq_true rfl, Nat.le_of_ble_eq_true rfl⟩ (w_rec hK hP hN0 hSR.1 rfl) hP rfl hl.1 rfl (Nat.le_of_ble_eq_true rfl) d_Law_cell_5 ⟨Nat.le_of_ble_eq_true rfl, Nat.le_of_ble_eq_true rfl⟩ hS (fun q h => by rw [hAe]; exact Or.inl h) (fun r H1 locs hq hkk hS => ?_)
      obtain ⟨z, rfl, hz, cn2, x2, dn2, hC2, hP2⟩ := hq
      have hO : va_at D classes (ao, OUT cA go) H1 := hO.kept (hkk ao hlt (fun ⟨n, hn, h⟩ => hao n hn h.symm))
      have hP := hP2
      refine W.eq (g2 := F0 m 8 ls [.int z, .int 0, .ref ao]) rfl ?_
      refine lv_i2l hx hb d_Law_cell_8 rfl ?_
      refine w_out hx hb hK hi hP hO hao hS hAm hAo d_Law_cell_9 (fun H locs g2 hg2 hP hO hS => ?_)
      refine lv_goto (tgt := 21) hx hb d_Law_cell_10 (by decide) ?_
      refine lv_iconst (v := 0) hx hb d_Law_cell_21 (by decide) ?_
      refine W_up (c2 := 1) (s2 := 10) (Nat.le_of_ble_eq_true rfl) (Nat.le_of_ble_eq_true rfl) ?_
      refine e_i hx hb hr hlk hQ hS d_Law_cell_22 ?_
      exact Or.inl ⟨hcode, z, g2, rfl, hz, hg2, hO, CQ.of hC2 hP⟩
    · have hcode : b_cell nn xa.toInt xb.toInt = 2 := by unfold b_cell; rw [if_neg (fun h => h hc1), if_pos (by omega)]
      refine lv_aload_n hx hb d_Law_cell_0 rfl (lv_at hl 3 rfl) ?_
      refine lv_iconst (v := 0) hx hb d_Law_cell_1 (by decide) ?_
      refine lv_aload_n hx hb d_Law_cell_2 rfl (lv_at hl 0 rfl) ?_
      refine lv_iload_n hx hb d_Law_cell_3 rfl (lv_at hl 1 rfl) ?_
      refine lv_iload_n hx hb d_Law_cell_4 rfl (lv_at hl 2 rfl) ?_
      obtain ⟨x1, tl, ht1, he1, htl⟩ := map_cons htab
      obtain ⟨x2, tl2, ht2, he2, _⟩ := map_cons htl
      obtain ⟨q1, q2, q3, q4⟩ : x1.startPc = 0 ∧ x1.endPc = 10 ∧ x1.handlerPc = 13 ∧ x1.catchType = 13 := by have := he1; simp only [hmap, Prod.mk.injEq] at this; exact this
      obtain ⟨r1, r2, r3, r4⟩ : x2.startPc = 0 ∧ x2.endPc = 10 ∧ x2.handlerPc = 17 ∧ x2.catchType = 15 := by have := he2; simp only [hmap, Prod.mk.injEq] at this; exact this
      refine t_VC (As := [.int xa, .int xb]) (rest := [.int (0 : Int32), .ref ao]) (hpc := 17) hx hb hml hown hK (k_Sht_cell_T2 l htr D cA adr N cn x dn hSR.1 hN0 nn hv1 hn10 xa xb hc1 (by omega)) t_393 t_1 t_390 t_391 t_392 yk_Sht_cell ⟨Nat.le_of_ble_eq_true rfl, Nat.le_of_ble_eq_true rfl⟩ ⟨Nat.le_of_ble_eq_true rfl, Nat.le_of_ble_eq_true rfl⟩ (w_rec hK hP hN0 hSR.1 rfl) hTh hP rfl hl.1 rfl (Nat.le_of_ble_eq_true rfl) d_Law_cell_5 (fun T c9 s9 S g hg hpcg x0 ce h2 h3 h4 => ?_) (fun x0 H1 hkp hzp => ?_)
      · have := finds2 S hK hNC hown (by rw [ht1, ht2]) hg (by simp [covers, hpcg, q1, q2]) (by simp [covers, hpcg, r1, r2]) (by rw [q4]; decide) (by rw [r4]; decide) (by rw [q4]; exact t_388) (by rw [r4]; exact t_389) h2 h3 h4; rw [r3] at this; exact this
      have hP := keepP hkp hP; have hO := keepO hkp hO; have hS := keepS hkp hzp hS
      refine lv_astore (lv' := [(4, .ref x0), (0, .ref (adr 0)), (1, .int xa), (2, .int xb), (3, .ref ao)]) hx hb d_Law_cell_17 hl (by decide) rfl (fun ls hl => ?_)
      refine lv_iconst (v := 2) hx hb d_Law_cell_19 (by decide) ?_
      refine W_up (c2 := 1) (s2 := 10) (Nat.le_of_ble_eq_true rfl) (Nat.le_of_ble_eq_true rfl) ?_
      refine e_i hx hb hr hlk hQ hS d_Law_cell_20 ?_
      exact Or.inr ⟨by rw [hcode]; decide, _, rfl, by rw [hcode]; exact kc_2, hO, CQ.of hCP0 hP⟩
  · have hcode : b_cell nn xa.toInt xb.toInt = 1 := by unfold b_cell; rw [if_pos hc1]
    refine lv_aload_n hx hb d_Law_cell_0 rfl (lv_at hl 3 rfl) ?_
    refine lv_iconst (v := 0) hx hb d_Law_cell_1 (by decide) ?_
    refine lv_aload_n hx hb d_Law_cell_2 rfl (lv_at hl 0 rfl) ?_
    refine lv_iload_n hx hb d_Law_cell_3 rfl (lv_at hl 1 rfl) ?_
    refine lv_iload_n hx hb d_Law_cell_4 rfl (lv_at hl 2 rfl) ?_
    obtain ⟨x1, tl, ht1, he1, htl⟩ := map_cons htab
    obtain ⟨q1, q2, q3, q4⟩ : x1.startPc = 0 ∧ x1.endPc = 10 ∧ x1.handlerPc = 13 ∧ x1.catchType = 13 := by have := he1; simp only [hmap, Prod.mk.injEq] at this; exact this
    refine t_VC (As := [.int xa, .int xb]) (rest := [.int (0 : Int32), .ref ao]) (hpc := 13) hx hb hml hown hK (k_Sht_cell_T1 l htr D cA adr N cn x dn hSR.1 hN0 nn hv1 hn10 xa xb hc1) t_393 t_1 t_390 t_391 t_392 yk_Sht_cell ⟨Nat.le_of_ble_eq_true rfl, Nat.le_of_ble_eq_true rfl⟩ ⟨Nat.le_of_ble_eq_true rfl, Nat.le_of_ble_eq_true rfl⟩ (w_rec hK hP hN0 hSR.1 rfl) hTh hP rfl hl.1 rfl (Nat.le_of_ble_eq_true rfl) d_Law_cell_5 (fun T c9 s9 S g hg hpcg x0 ce h2 h3 h4 => ?_) (fun x0 H1 hkp hzp => ?_)
    · have := finds1 (C := "java/lang/IllegalArgumentException") S hK hown ht1 hg (by simp [covers, hpcg, q1, q2]) (by rw [q4]; decide) (by rw [q4]; exact t_388) t_402 h2 h3 h4; rw [q3] at this; exact this
    have hP := keepP hkp hP; have hO := keepO hkp hO; have hS := keepS hkp hzp hS
    refine lv_astore (lv' := [(4, .ref x0), (0, .ref (adr 0)), (1, .int xa), (2, .int xb), (3, .ref ao)]) hx hb d_Law_cell_13 hl (by decide) rfl (fun ls hl => ?_)
    refine lv_iconst (v := 1) hx hb d_Law_cell_15 (by decide) ?_
    refine W_up (c2 := 1) (s2 := 10) (Nat.le_of_ble_eq_true rfl) (Nat.le_of_ble_eq_true rfl) ?_
    refine e_i hx hb hr hlk hQ hS d_Law_cell_16 ?_
    exact Or.inr ⟨by rw [hcode]; decide, _, rfl, by rw [hcode]; exact kc_1, hO, CQ.of hCP0 hP⟩
theorem d_Law_set_0 : decode b_Law_set 0 = .ok (.aload 4, 2) := by decide +kernel
theorem d_Law_set_2 : decode b_Law_set 2 = .ok (.iconst 0, 1) := by decide +kernel
theorem d_Law_set_3 : decode b_Law_set 3 = .ok (.aload_n 0, 1) := by decide +kernel
theorem d_Law_set_4 : decode b_Law_set 4 = .ok (.iload_n 1, 1) := by decide +kernel
theorem d_Law_set_5 : decode b_Law_set 5 = .ok (.iload_n 2, 1) := by decide +kernel
theorem d_Law_set_6 : decode b_Law_set 6 = .ok (.iload_n 3, 1) := by decide +kernel
theorem d_Law_set_7 : decode b_Law_set 7 = .ok (.invokevirtual 21, 3) := by decide +kernel
theorem d_Law_set_10 : decode b_Law_set 10 = .ok (.i2l, 1) := by decide +kernel
theorem d_Law_set_11 : decode b_Law_set 11 = .ok (.lastore, 1) := by decide +kernel
theorem d_Law_set_12 : decode b_Law_set 12 = .ok (.goto 11, 3) := by decide +kernel
theorem d_Law_set_15 : decode b_Law_set 15 = .ok (.astore 5, 2) := by decide +kernel
theorem d_Law_set_17 : decode b_Law_set 17 = .ok (.iconst 1, 1) := by decide +kernel
theorem d_Law_set_18 : decode b_Law_set 18 = .ok (.ireturn, 1) := by decide +kernel
theorem d_Law_set_19 : decode b_Law_set 19 = .ok (.astore 5, 2) := by decide +kernel
theorem d_Law_set_21 : decode b_Law_set 21 = .ok (.iconst 2, 1) := by decide +kernel
theorem d_Law_set_22 : decode b_Law_set 22 = .ok (.ireturn, 1) := by decide +kernel
theorem d_Law_set_23 : decode b_Law_set 23 = .ok (.iconst 0, 1) := by decide +kernel
theorem d_Law_set_24 : decode b_Law_set 24 = .ok (.ireturn, 1) := by decide +kernel
set_option maxHeartbeats 4000000 in
set_option maxRecDepth 20000 in
theorem k_Law_set (l : Launch) (htr : l.stackTraces = false) (D : va_G) (cA : Nat → ClassId) (sz : Nat) (adr : Nat → Nat) (cn : Nat → va_E) (ao : Nat) (go : Nat → Int64) (F : Nat → Nat → Int32) (I : Nat → Int32) (nn mm en mk0 : Nat) (N : List Nat) (hi : wI N adr) (hNm : ∀ k, k < 56 + mm → k ∈ N) (hao : ∀ n ∈ N, adr n ≠ ao) (x : Nat → Int32) (dn : Bool) (hCP : CP cA adr cn I F mm x dn) (hWF : WF I F nn mm en mk0) (xk xa xb : Int32) : CtH l y_Law_set b_Law_set 6 [(0, 12, 15, 13), (0, 12, 19, 15)] 34 D cA [.ref (adr 0), .int xk, .int xa, .int xb, .ref ao] sz N adr cn ao go (fun r H => (b_set nn en xk.toInt xa.toInt xb.toInt = 0 ∧ ∃ (z : Int32) (g2 : Nat → Int64), r = some (.int 0) ∧ z.toInt = (en : Int) ∧ g2 0 = z.toInt64 ∧ va_at D classes (ao, OUT cA g2) H ∧ CQ D cA adr N (J_set I en mk0) (G_set F en xk xa xb) mm H) ∨ (¬ b_set nn en xk.toInt xa.toInt xb.toInt = 0 ∧ ∃ cd : Int32, r = some (.int cd) ∧ cd.toInt = b_set nn en xk.toInt xa.toInt xb.toInt ∧ va_at D classes (ao, OUT cA go) H ∧ CQ D cA adr N I F mm H)) := by
  refine CtH.mk (by decide) (Nat.le_of_ble_eq_true rfl) ?_
  intro p e s m args below meth c Q A H locs ls hx hb hr hml hlk hown hK hTh hNC htab hQ hAe hsz hsz2 hP hO hS hl
  have hl : lv_has ls 6 [(0, .ref (adr 0)), (1, .int xk), (2, .int xa), (3, .int xb), (4, .ref ao)] := hl
  have hown : s.vm.findClass "RangeSheetLaw" = some m.cls := hown
  have hWF0 := hWF
  have hCP0 := hCP
  obtain ⟨hW, hE, hen, ⟨hmk, hmke⟩, htd, hsp, hsd, hset, hgd⟩ := hWF
  obtain ⟨hSR, ⟨hx1, hx3, hx8, hx9, hx11, hx14, hx18⟩, ⟨hc2, hc3, hc4, hc5, hc6, hc7⟩, ⟨cf, hBf⟩, ⟨fn0, gn0, cn0, hBn, hBne⟩, hBx⟩ := hCP
  obtain ⟨f, g, ch, hB⟩ := hBx 0 (by omega)
  have hB : BP cA adr cn 14 f g ch := hB
  have hn10 := hW.1
  have hm12 := hW.2.1
  have hen12 := hE.1
  have hv1 : (x 1).toInt = (nn : Int) := by rw [hx1]; exact hW.2.2.1
  have hv8 : (x 8).toInt = (en : Int) := by rw [hx8]; exact hen
  have hv9 : (x 9).toInt = (mk0 : Int) := by rw [hx9]; exact hmk
  have hN0 := hNm 0 (by omega)
  have hAm : ∀ n ∈ N, A (adr n) := fun n hn => by rw [hAe]; exact Or.inl ⟨n, hn, rfl⟩
  have hAo : A ao := by rw [hAe]; exact Or.inr (Or.inl rfl)
  have hlt := hO.lt
  have hv3 := hSR.2.2.1
  by_cases hc1 : (0 ≤ xk.toInt ∧ xk.toInt < (nn : Int)) ∧ -100 ≤ xa.toInt ∧ xb.toInt ≤ 100 ∧ xa.toInt ≤ xb.toInt
  · by_cases hc2n : en < 12
    · have hcode : b_set nn en xk.toInt xa.toInt xb.toInt = 0 := by unfold b_set; rw [if_neg (fun h => h hc1), if_neg (by omega)]
      refine lv_aload hx hb d_Law_set_0 (lv_at hl 4 rfl) ?_
      refine lv_iconst (v := 0) hx hb d_Law_set_2 (by decide) ?_
      refine lv_aload_n hx hb d_Law_set_3 rfl (lv_at hl 0 rfl) ?_
      refine lv_iload_n hx hb d_Law_set_4 rfl (lv_at hl 1 rfl) ?_
      refine lv_iload_n hx hb d_Law_set_5 rfl (lv_at hl 2 rfl) ?_
      refine lv_iload_n hx hb d_Law_set_6 rfl (lv_at hl 3 rfl) ?_
      refine x_V (As := [.int xk, .int xa, .int xb]) (rest := [.int (0 : Int32), .ref ao]) hx hb hml hown hK (k_Sht_set l D cA adr N hi cn F I nn mm en mk0 x dn hCP0 hNm hWF0 xk xa xb hc1 (by omega)) t_677 t_1 t_674 t_675 t_676 yk_Sht_set ⟨Nat.le_of_ble_eq_true rfl, Nat.le_of_ble_eq_true rfl⟩ (w_rec hK hP hN0 hSR.1 rfl) hP rfl hl.1 rfl (Nat.le_of_ble_eq_true rfl) d_Law_set_7 ⟨Nat.le_of_ble_eq_true rfl, Nat.le_of_ble_eq_true rfl⟩ hS (fun q h => by rw [hAe]; exact Or.inl h) (fun r H1 locs hq hkk hS => ?_)
      obtain ⟨z, rfl, hz, cn2, x2, dn2, hC2, hP2⟩ := hq
      have hO : va_at D classes (ao, OUT cA go) H1 := hO.kept (hkk ao hlt (fun ⟨n, hn, h⟩ => hao n hn h.symm))
      have hP := hP2
      refine W.eq (g2 := F0 m 10 ls [.int z, .int 0, .ref ao]) rfl ?_
      refine lv_i2l hx hb d_Law_set_10 rfl ?_
      refine w_out hx hb hK hi hP hO hao hS hAm hAo d_Law_set_11 (fun H locs g2 hg2 hP hO hS => ?_)
      refine lv_goto (tgt := 23) hx hb d_Law_set_12 (by decide) ?_
      refine lv_iconst (v := 0) hx hb d_Law_set_23 (by decide) ?_
      refine W_up (c2 := 1) (s2 := 10) (Nat.le_of_ble_eq_true rfl) (Nat.le_of_ble_eq_true rfl) ?_
      refine e_i hx hb hr hlk hQ hS d_Law_set_24 ?_
      exact Or.inl ⟨hcode, z, g2, rfl, hz, hg2, hO, CQ.of hC2 hP⟩
    · have hcode : b_set nn en xk.toInt xa.toInt xb.toInt = 2 := by unfold b_set; rw [if_neg (fun h => h hc1), if_pos (by omega)]
      refine lv_aload hx hb d_Law_set_0 (lv_at hl 4 rfl) ?_
      refine lv_iconst (v := 0) hx hb d_Law_set_2 (by decide) ?_
      refine lv_aload_n hx hb d_Law_set_3 rfl (lv_at hl 0 rfl) ?_
      refine lv_iload_n hx hb d_Law_set_4 rfl (lv_at hl 1 rfl) ?_
      refine lv_iload_n hx hb d_Law_set_5 rfl (lv_at hl 2 rfl) ?_
      refine lv_iload_n hx hb d_Law_set_6 rfl (lv_at hl 3 rfl) ?_
      obtain ⟨x1, tl, ht1, he1, htl⟩ := map_cons htab
      obtain ⟨x2, tl2, ht2, he2, _⟩ := map_cons htl
      obtain ⟨q1, q2, q3, q4⟩ : x1.startPc = 0 ∧ x1.endPc = 12 ∧ x1.handlerPc = 15 ∧ x1.catchType = 13 := by have := he1; simp only [hmap, Prod.mk.injEq] at this; exact this
      obtain ⟨r1, r2, r3, r4⟩ : x2.startPc = 0 ∧ x2.endPc = 12 ∧ x2.handlerPc = 19 ∧ x2.catchType = 15 := by have := he2; simp only [hmap, Prod.mk.injEq] at this; exact this
      refine t_VC (As := [.int xk, .int xa, .int xb]) (rest := [.int (0 : Int32), .ref ao]) (hpc := 19) hx hb hml hown hK (k_Sht_set_T2 l htr D cA adr N cn x dn hSR.1 hN0 nn hv1 hn10 en hv8 xk xa xb hc1 (by omega)) t_677 t_1 t_674 t_675 t_676 yk_Sht_set ⟨Nat.le_of_ble_eq_true rfl, Nat.le_of_ble_eq_true rfl⟩ ⟨Nat.le_of_ble_eq_true rfl, Nat.le_of_ble_eq_true rfl⟩ (w_rec hK hP hN0 hSR.1 rfl) hTh hP rfl hl.1 rfl (Nat.le_of_ble_eq_true rfl) d_Law_set_7 (fun T c9 s9 S g hg hpcg x0 ce h2 h3 h4 => ?_) (fun x0 H1 hkp hzp => ?_)
      · have := finds2 S hK hNC hown (by rw [ht1, ht2]) hg (by simp [covers, hpcg, q1, q2]) (by simp [covers, hpcg, r1, r2]) (by rw [q4]; decide) (by rw [r4]; decide) (by rw [q4]; exact t_388) (by rw [r4]; exact t_389) h2 h3 h4; rw [r3] at this; exact this
      have hP := keepP hkp hP; have hO := keepO hkp hO; have hS := keepS hkp hzp hS
      refine lv_astore (lv' := [(5, .ref x0), (0, .ref (adr 0)), (1, .int xk), (2, .int xa), (3, .int xb), (4, .ref ao)]) hx hb d_Law_set_19 hl (by decide) rfl (fun ls hl => ?_)
      refine lv_iconst (v := 2) hx hb d_Law_set_21 (by decide) ?_
      refine W_up (c2 := 1) (s2 := 10) (Nat.le_of_ble_eq_true rfl) (Nat.le_of_ble_eq_true rfl) ?_
      refine e_i hx hb hr hlk hQ hS d_Law_set_22 ?_
      exact Or.inr ⟨by rw [hcode]; decide, _, rfl, by rw [hcode]; exact kc_2, hO, CQ.of hCP0 hP⟩
  · have hcode : b_set nn en xk.toInt xa.toInt xb.toInt = 1 := by unfold b_set; rw [if_pos hc1]
    refine lv_aload hx hb d_Law_set_0 (lv_at hl 4 rfl) ?_
    refine lv_iconst (v := 0) hx hb d_Law_set_2 (by decide) ?_
    refine lv_aload_n hx hb d_Law_set_3 rfl (lv_at hl 0 rfl) ?_
    refine lv_iload_n hx hb d_Law_set_4 rfl (lv_at hl 1 rfl) ?_
    refine lv_iload_n hx hb d_Law_set_5 rfl (lv_at hl 2 rfl) ?_
    refine lv_iload_n hx hb d_Law_set_6 rfl (lv_at hl 3 rfl) ?_
    obtain ⟨x1, tl, ht1, he1, htl⟩ := map_cons htab
    obtain ⟨q1, q2, q3, q4⟩ : x1.startPc = 0 ∧ x1.endPc = 12 ∧ x1.handlerPc = 15 ∧ x1.catchType = 13 := by have := he1; simp only [hmap, Prod.mk.injEq] at this; exact this
    refine t_VC (As := [.int xk, .int xa, .int xb]) (rest := [.int (0 : Int32), .ref ao]) (hpc := 15) hx hb hml hown hK (k_Sht_set_T1 l htr D cA adr N cn x dn hSR.1 hN0 nn hv1 hn10 xk xa xb hc1) t_677 t_1 t_674 t_675 t_676 yk_Sht_set ⟨Nat.le_of_ble_eq_true rfl, Nat.le_of_ble_eq_true rfl⟩ ⟨Nat.le_of_ble_eq_true rfl, Nat.le_of_ble_eq_true rfl⟩ (w_rec hK hP hN0 hSR.1 rfl) hTh hP rfl hl.1 rfl (Nat.le_of_ble_eq_true rfl) d_Law_set_7 (fun T c9 s9 S g hg hpcg x0 ce h2 h3 h4 => ?_) (fun x0 H1 hkp hzp => ?_)
    · have := finds1 (C := "java/lang/IllegalArgumentException") S hK hown ht1 hg (by simp [covers, hpcg, q1, q2]) (by rw [q4]; decide) (by rw [q4]; exact t_388) t_402 h2 h3 h4; rw [q3] at this; exact this
    have hP := keepP hkp hP; have hO := keepO hkp hO; have hS := keepS hkp hzp hS
    refine lv_astore (lv' := [(5, .ref x0), (0, .ref (adr 0)), (1, .int xk), (2, .int xa), (3, .int xb), (4, .ref ao)]) hx hb d_Law_set_15 hl (by decide) rfl (fun ls hl => ?_)
    refine lv_iconst (v := 1) hx hb d_Law_set_17 (by decide) ?_
    refine W_up (c2 := 1) (s2 := 10) (Nat.le_of_ble_eq_true rfl) (Nat.le_of_ble_eq_true rfl) ?_
    refine e_i hx hb hr hlk hQ hS d_Law_set_18 ?_
    exact Or.inr ⟨by rw [hcode]; decide, _, rfl, by rw [hcode]; exact kc_1, hO, CQ.of hCP0 hP⟩
theorem d_Law_relate_0 : decode b_Law_relate 0 = .ok (.aload 5, 2) := by decide +kernel
theorem d_Law_relate_2 : decode b_Law_relate 2 = .ok (.iconst 0, 1) := by decide +kernel
theorem d_Law_relate_3 : decode b_Law_relate 3 = .ok (.aload_n 0, 1) := by decide +kernel
theorem d_Law_relate_4 : decode b_Law_relate 4 = .ok (.iload_n 1, 1) := by decide +kernel
theorem d_Law_relate_5 : decode b_Law_relate 5 = .ok (.iload_n 2, 1) := by decide +kernel
theorem d_Law_relate_6 : decode b_Law_relate 6 = .ok (.iload_n 3, 1) := by decide +kernel
theorem d_Law_relate_7 : decode b_Law_relate 7 = .ok (.iload 4, 2) := by decide +kernel
theorem d_Law_relate_9 : decode b_Law_relate 9 = .ok (.invokevirtual 17, 3) := by decide +kernel
theorem d_Law_relate_12 : decode b_Law_relate 12 = .ok (.i2l, 1) := by decide +kernel
theorem d_Law_relate_13 : decode b_Law_relate 13 = .ok (.lastore, 1) := by decide +kernel
theorem d_Law_relate_14 : decode b_Law_relate 14 = .ok (.goto 11, 3) := by decide +kernel
theorem d_Law_relate_17 : decode b_Law_relate 17 = .ok (.astore 6, 2) := by decide +kernel
theorem d_Law_relate_19 : decode b_Law_relate 19 = .ok (.iconst 1, 1) := by decide +kernel
theorem d_Law_relate_20 : decode b_Law_relate 20 = .ok (.ireturn, 1) := by decide +kernel
theorem d_Law_relate_21 : decode b_Law_relate 21 = .ok (.astore 6, 2) := by decide +kernel
theorem d_Law_relate_23 : decode b_Law_relate 23 = .ok (.iconst 2, 1) := by decide +kernel
theorem d_Law_relate_24 : decode b_Law_relate 24 = .ok (.ireturn, 1) := by decide +kernel
theorem d_Law_relate_25 : decode b_Law_relate 25 = .ok (.iconst 0, 1) := by decide +kernel
theorem d_Law_relate_26 : decode b_Law_relate 26 = .ok (.ireturn, 1) := by decide +kernel
set_option maxHeartbeats 4000000 in
set_option maxRecDepth 20000 in
theorem k_Law_relate (l : Launch) (htr : l.stackTraces = false) (D : va_G) (cA : Nat → ClassId) (sz : Nat) (adr : Nat → Nat) (cn : Nat → va_E) (ao : Nat) (go : Nat → Int64) (F : Nat → Nat → Int32) (I : Nat → Int32) (nn mm en mk0 : Nat) (N : List Nat) (hNe : N = List.range (56 + mm)) (hi : wI N adr) (hao : ∀ n ∈ N, adr n ≠ ao) (x : Nat → Int32) (dn : Bool) (hCP : CP cA adr cn I F mm x dn) (hWF : WF I F nn mm en mk0) (xk xa xb xc : Int32) : CtH l y_Law_relate b_Law_relate 7 [(0, 14, 17, 13), (0, 14, 21, 15)] 34 D cA [.ref (adr 0), .int xk, .int xa, .int xb, .int xc, .ref ao] sz N adr cn ao go (fun r H => (b_rel nn mm xk.toInt xa.toInt xb.toInt xc.toInt = 0 ∧ ∃ (z : Int32) (g2 : Nat → Int64) (adr2 : Nat → Nat) (cn2 : Nat → va_E) (x2 : Nat → Int32), r = some (.int 0) ∧ z.toInt = (mm : Int) ∧ g2 0 = z.toInt64 ∧ va_at D classes (ao, OUT cA g2) H ∧ (∀ k, k < 56 + mm → adr2 k = adr k) ∧ wI (List.range (56 + (mm + 1))) adr2 ∧ CP cA adr2 cn2 (va_up I 4 (Int32.ofInt ((mm : Int) + 1))) (G_rel F mm xk xa xb xc) (mm + 1) x2 dn ∧ va_P D classes (wl (List.range (56 + (mm + 1))) adr2 cn2) H ∧ ∀ n ∈ List.range (56 + (mm + 1)), va_A (wl (List.range (56 + mm)) adr cn) sz (adr2 n)) ∨ (¬ b_rel nn mm xk.toInt xa.toInt xb.toInt xc.toInt = 0 ∧ ∃ cd : Int32, r = some (.int cd) ∧ cd.toInt = b_rel nn mm xk.toInt xa.toInt xb.toInt xc.toInt ∧ va_at D classes (ao, OUT cA go) H ∧ CQ D cA adr N I F mm H)) := by
  refine CtH.mk (by decide) (Nat.le_of_ble_eq_true rfl) ?_
  intro p e s m args below meth c Q A H locs ls hx hb hr hml hlk hown hK hTh hNC htab hQ hAe hsz hsz2 hP hO hS hl
  have hl : lv_has ls 7 [(0, .ref (adr 0)), (1, .int xk), (2, .int xa), (3, .int xb), (4, .int xc), (5, .ref ao)] := hl
  have hown : s.vm.findClass "RangeSheetLaw" = some m.cls := hown
  subst hNe
  have hNm : ∀ k, k < 56 + mm → k ∈ List.range (56 + mm) := fun k hk => List.mem_range.mpr hk
  have hWF0 := hWF
  have hCP0 := hCP
  obtain ⟨hW, hE, hen, ⟨hmk, hmke⟩, htd, hsp, hsd, hset, hgd⟩ := hWF
  obtain ⟨hSR, ⟨hx1, hx3, hx8, hx9, hx11, hx14, hx18⟩, ⟨hc2, hc3, hc4, hc5, hc6, hc7⟩, ⟨cf, hBf⟩, ⟨fn0, gn0, cn0, hBn, hBne⟩, hBx⟩ := hCP
  obtain ⟨f, g, ch, hB⟩ := hBx 0 (by omega)
  have hB : BP cA adr cn 14 f g ch := hB
  have hn10 := hW.1
  have hm12 := hW.2.1
  have hen12 := hE.1
  have hv1 : (x 1).toInt = (nn : Int) := by rw [hx1]; exact hW.2.2.1
  have hv8 : (x 8).toInt = (en : Int) := by rw [hx8]; exact hen
  have hv9 : (x 9).toInt = (mk0 : Int) := by rw [hx9]; exact hmk
  have hN0 := hNm 0 (by omega)
  have hAm : ∀ n ∈ (List.range (56 + mm)), A (adr n) := fun n hn => by rw [hAe]; exact Or.inl ⟨n, hn, rfl⟩
  have hAo : A ao := by rw [hAe]; exact Or.inr (Or.inl rfl)
  have hlt := hO.lt
  have hv3 := hSR.2.2.1
  by_cases hc1 : RO nn xk.toInt xa.toInt xb.toInt xc.toInt
  · by_cases hc2n : mm < 12
    · have hcode : b_rel nn mm xk.toInt xa.toInt xb.toInt xc.toInt = 0 := b_rel_0 hc1 (by omega)
      refine lv_aload hx hb d_Law_relate_0 (lv_at hl 5 rfl) ?_
      refine lv_iconst (v := 0) hx hb d_Law_relate_2 (by decide) ?_
      refine lv_aload_n hx hb d_Law_relate_3 rfl (lv_at hl 0 rfl) ?_
      refine lv_iload_n hx hb d_Law_relate_4 rfl (lv_at hl 1 rfl) ?_
      refine lv_iload_n hx hb d_Law_relate_5 rfl (lv_at hl 2 rfl) ?_
      refine lv_iload_n hx hb d_Law_relate_6 rfl (lv_at hl 3 rfl) ?_
      refine lv_iload hx hb d_Law_relate_7 (lv_at hl 4 rfl) ?_
      refine l_V2 (As := [.int xk, .int xa, .int xb, .int xc]) (rest := [.int (0 : Int32), .ref ao]) hx hb hml hown hK (k_Sht_relate l D cA H.size adr cn F I nn mm en mk0 x dn hCP0 hWF0 xk xa xb xc hc1 (by omega)) t_486 t_1 t_483 t_484 t_485 yk_Sht_relate ⟨Nat.le_of_ble_eq_true rfl, Nat.le_of_ble_eq_true rfl⟩ (w_rec hK hP hN0 hSR.1 rfl) hP (wl_D hi hAm) hS (fun q h => ?_) rfl hl.1 rfl (Nat.le_of_ble_eq_true rfl) d_Law_relate_9 ⟨Nat.le_of_ble_eq_true rfl, Nat.le_of_ble_eq_true rfl⟩ (fun r H1 locs hq hkk _ hS => ?_)
      · rw [hAe]; rcases h with ⟨k, e9, h⟩ | h; (obtain ⟨n, hn, h2⟩ := wl_of h; cases h2; exact Or.inl ⟨n, List.mem_of_getElem? hn, rfl⟩); exact Or.inr (Or.inr (by omega))
      obtain ⟨z, adr2, cn2, x2, rfl, hz, hag, hi2, hC2, hP2, hA2⟩ := hq
      have hO : va_at D classes (ao, OUT cA go) H1 := hO.kept (hkk ao hlt (fun h => by rcases h with ⟨k, e9, h⟩ | h; (obtain ⟨n, hn, h2⟩ := wl_of h; cases h2; exact hao n (List.mem_of_getElem? hn) rfl); exact absurd hlt (by show ¬ ao < _; omega)))
      have hP := hP2
      have hAm2 : ∀ n ∈ List.range (56 + (mm + 1)), A (adr2 n) := fun n hn => by rw [hAe]; rcases hA2 n hn with ⟨k, e9, h⟩ | h; (obtain ⟨n9, hn9, h2⟩ := wl_of h; exact Or.inl ⟨n9, List.mem_of_getElem? hn9, congrArg Prod.fst h2⟩); exact Or.inr (Or.inr (by omega))
      have hao2 : ∀ n ∈ List.range (56 + (mm + 1)), adr2 n ≠ ao := fun n hn e9 => by rcases hA2 n hn with ⟨k, e8, h⟩ | h; (obtain ⟨n9, hn9, h2⟩ := wl_of h; exact hao n9 (List.mem_of_getElem? hn9) ((congrArg Prod.fst h2).symm.trans e9)); (rw [e9] at h; exact absurd hlt (by show ¬ ao < _; omega))
      refine W.eq (g2 := F0 m 12 ls [.int z, .int 0, .ref ao]) rfl ?_
      refine lv_i2l hx hb d_Law_relate_12 rfl ?_
      refine w_out hx hb hK hi2 hP hO hao2 hS hAm2 hAo d_Law_relate_13 (fun H locs g2 hg2 hP hO hS => ?_)
      refine lv_goto (tgt := 25) hx hb d_Law_relate_14 (by decide) ?_
      refine lv_iconst (v := 0) hx hb d_Law_relate_25 (by decide) ?_
      refine W_up (c2 := 1) (s2 := 10) (Nat.le_of_ble_eq_true rfl) (Nat.le_of_ble_eq_true rfl) ?_
      refine e_i hx hb hr hlk hQ hS d_Law_relate_26 ?_
      exact Or.inl ⟨hcode, z, g2, adr2, cn2, x2, rfl, hz, hg2, hO, hag, hi2, hC2, hP, by rw [← hsz]; exact hA2⟩
    · have hcode : b_rel nn mm xk.toInt xa.toInt xb.toInt xc.toInt = 2 := b_rel_2 hc1 (by omega)
      refine lv_aload hx hb d_Law_relate_0 (lv_at hl 5 rfl) ?_
      refine lv_iconst (v := 0) hx hb d_Law_relate_2 (by decide) ?_
      refine lv_aload_n hx hb d_Law_relate_3 rfl (lv_at hl 0 rfl) ?_
      refine lv_iload_n hx hb d_Law_relate_4 rfl (lv_at hl 1 rfl) ?_
      refine lv_iload_n hx hb d_Law_relate_5 rfl (lv_at hl 2 rfl) ?_
      refine lv_iload_n hx hb d_Law_relate_6 rfl (lv_at hl 3 rfl) ?_
      refine lv_iload hx hb d_Law_relate_7 (lv_at hl 4 rfl) ?_
      obtain ⟨x1, tl, ht1, he1, htl⟩ := map_cons htab
      obtain ⟨x2, tl2, ht2, he2, _⟩ := map_cons htl
      obtain ⟨q1, q2, q3, q4⟩ : x1.startPc = 0 ∧ x1.endPc = 14 ∧ x1.handlerPc = 17 ∧ x1.catchType = 13 := by have := he1; simp only [hmap, Prod.mk.injEq] at this; exact this
      obtain ⟨r1, r2, r3, r4⟩ : x2.startPc = 0 ∧ x2.endPc = 14 ∧ x2.handlerPc = 21 ∧ x2.catchType = 15 := by have := he2; simp only [hmap, Prod.mk.injEq] at this; exact this
      refine t_VC (As := [.int xk, .int xa, .int xb, .int xc]) (rest := [.int (0 : Int32), .ref ao]) (hpc := 21) hx hb hml hown hK (k_Sht_relate_T2 l htr D cA adr (List.range (56 + mm)) cn x dn hSR.1 hN0 nn hv1 hn10 mm hv3 xk xa xb xc hc1 (by omega)) t_486 t_1 t_483 t_484 t_485 yk_Sht_relate ⟨Nat.le_of_ble_eq_true rfl, Nat.le_of_ble_eq_true rfl⟩ ⟨Nat.le_of_ble_eq_true rfl, Nat.le_of_ble_eq_true rfl⟩ (w_rec hK hP hN0 hSR.1 rfl) hTh hP rfl hl.1 rfl (Nat.le_of_ble_eq_true rfl) d_Law_relate_9 (fun T c9 s9 S g hg hpcg x0 ce h2 h3 h4 => ?_) (fun x0 H1 hkp hzp => ?_)
      · have := finds2 S hK hNC hown (by rw [ht1, ht2]) hg (by simp [covers, hpcg, q1, q2]) (by simp [covers, hpcg, r1, r2]) (by rw [q4]; decide) (by rw [r4]; decide) (by rw [q4]; exact t_388) (by rw [r4]; exact t_389) h2 h3 h4; rw [r3] at this; exact this
      have hP := keepP hkp hP; have hO := keepO hkp hO; have hS := keepS hkp hzp hS
      refine lv_astore (lv' := [(6, .ref x0), (0, .ref (adr 0)), (1, .int xk), (2, .int xa), (3, .int xb), (4, .int xc), (5, .ref ao)]) hx hb d_Law_relate_21 hl (by decide) rfl (fun ls hl => ?_)
      refine lv_iconst (v := 2) hx hb d_Law_relate_23 (by decide) ?_
      refine W_up (c2 := 1) (s2 := 10) (Nat.le_of_ble_eq_true rfl) (Nat.le_of_ble_eq_true rfl) ?_
      refine e_i hx hb hr hlk hQ hS d_Law_relate_24 ?_
      exact Or.inr ⟨by rw [hcode]; decide, _, rfl, by rw [hcode]; exact kc_2, hO, CQ.of hCP0 hP⟩
  · have hcode : b_rel nn mm xk.toInt xa.toInt xb.toInt xc.toInt = 1 := b_rel_1 hc1
    refine lv_aload hx hb d_Law_relate_0 (lv_at hl 5 rfl) ?_
    refine lv_iconst (v := 0) hx hb d_Law_relate_2 (by decide) ?_
    refine lv_aload_n hx hb d_Law_relate_3 rfl (lv_at hl 0 rfl) ?_
    refine lv_iload_n hx hb d_Law_relate_4 rfl (lv_at hl 1 rfl) ?_
    refine lv_iload_n hx hb d_Law_relate_5 rfl (lv_at hl 2 rfl) ?_
    refine lv_iload_n hx hb d_Law_relate_6 rfl (lv_at hl 3 rfl) ?_
    refine lv_iload hx hb d_Law_relate_7 (lv_at hl 4 rfl) ?_
    obtain ⟨x1, tl, ht1, he1, htl⟩ := map_cons htab
    obtain ⟨q1, q2, q3, q4⟩ : x1.startPc = 0 ∧ x1.endPc = 14 ∧ x1.handlerPc = 17 ∧ x1.catchType = 13 := by have := he1; simp only [hmap, Prod.mk.injEq] at this; exact this
    refine t_VC (As := [.int xk, .int xa, .int xb, .int xc]) (rest := [.int (0 : Int32), .ref ao]) (hpc := 17) hx hb hml hown hK (k_Sht_relate_T1 l htr D cA adr (List.range (56 + mm)) cn x dn hSR.1 hN0 nn hv1 hn10 xk xa xb xc hc1) t_486 t_1 t_483 t_484 t_485 yk_Sht_relate ⟨Nat.le_of_ble_eq_true rfl, Nat.le_of_ble_eq_true rfl⟩ ⟨Nat.le_of_ble_eq_true rfl, Nat.le_of_ble_eq_true rfl⟩ (w_rec hK hP hN0 hSR.1 rfl) hTh hP rfl hl.1 rfl (Nat.le_of_ble_eq_true rfl) d_Law_relate_9 (fun T c9 s9 S g hg hpcg x0 ce h2 h3 h4 => ?_) (fun x0 H1 hkp hzp => ?_)
    · have := finds1 (C := "java/lang/IllegalArgumentException") S hK hown ht1 hg (by simp [covers, hpcg, q1, q2]) (by rw [q4]; decide) (by rw [q4]; exact t_388) t_402 h2 h3 h4; rw [q3] at this; exact this
    have hP := keepP hkp hP; have hO := keepO hkp hO; have hS := keepS hkp hzp hS
    refine lv_astore (lv' := [(6, .ref x0), (0, .ref (adr 0)), (1, .int xk), (2, .int xa), (3, .int xb), (4, .int xc), (5, .ref ao)]) hx hb d_Law_relate_17 hl (by decide) rfl (fun ls hl => ?_)
    refine lv_iconst (v := 1) hx hb d_Law_relate_19 (by decide) ?_
    refine W_up (c2 := 1) (s2 := 10) (Nat.le_of_ble_eq_true rfl) (Nat.le_of_ble_eq_true rfl) ?_
    refine e_i hx hb hr hlk hQ hS d_Law_relate_20 ?_
    exact Or.inr ⟨by rw [hcode]; decide, _, rfl, by rw [hcode]; exact kc_1, hO, CQ.of hCP0 hP⟩
theorem d_Law_because_0 : decode b_Law_because 0 = .ok (.aload_n 3, 1) := by decide +kernel
theorem d_Law_because_1 : decode b_Law_because 1 = .ok (.iconst 0, 1) := by decide +kernel
theorem d_Law_because_2 : decode b_Law_because 2 = .ok (.aload_n 0, 1) := by decide +kernel
theorem d_Law_because_3 : decode b_Law_because 3 = .ok (.iload_n 1, 1) := by decide +kernel
theorem d_Law_because_4 : decode b_Law_because 4 = .ok (.iload_n 2, 1) := by decide +kernel
theorem d_Law_because_5 : decode b_Law_because 5 = .ok (.invokevirtual 25, 3) := by decide +kernel
theorem d_Law_because_8 : decode b_Law_because 8 = .ok (.i2l, 1) := by decide +kernel
theorem d_Law_because_9 : decode b_Law_because 9 = .ok (.lastore, 1) := by decide +kernel
theorem d_Law_because_10 : decode b_Law_because 10 = .ok (.goto 7, 3) := by decide +kernel
theorem d_Law_because_13 : decode b_Law_because 13 = .ok (.astore 4, 2) := by decide +kernel
theorem d_Law_because_15 : decode b_Law_because 15 = .ok (.iconst 1, 1) := by decide +kernel
theorem d_Law_because_16 : decode b_Law_because 16 = .ok (.ireturn, 1) := by decide +kernel
theorem d_Law_because_17 : decode b_Law_because 17 = .ok (.iconst 0, 1) := by decide +kernel
theorem d_Law_because_18 : decode b_Law_because 18 = .ok (.ireturn, 1) := by decide +kernel
set_option maxHeartbeats 4000000 in
set_option maxRecDepth 20000 in
theorem k_Law_because (l : Launch) (htr : l.stackTraces = false) (D : va_G) (cA : Nat → ClassId) (sz : Nat) (adr : Nat → Nat) (cn : Nat → va_E) (ao : Nat) (go : Nat → Int64) (F : Nat → Nat → Int32) (I : Nat → Int32) (nn mm en mk0 : Nat) (N : List Nat) (hi : wI N adr) (hNm : ∀ k, k < 56 + mm → k ∈ N) (hao : ∀ n ∈ N, adr n ≠ ao) (x : Nat → Int32) (dn : Bool) (hCP : CP cA adr cn I F mm x dn) (hWF : WF I F nn mm en mk0) (xk : Int32) (tp : Bool) : CtH l y_Law_because b_Law_because 5 [(0, 10, 13, 13)] 34 D cA [.ref (adr 0), .int xk, .int (bi tp), .ref ao] sz N adr cn ao go (fun r H => ((if (0 ≤ xk.toInt ∧ xk.toInt < (nn : Int)) then (0 : Int) else 1) = 0 ∧ ∃ (z : Int32) (g2 : Nat → Int64), r = some (.int 0) ∧ z.toInt = r_bcs F nn mm en mk0 tp xk.toInt.toNat ∧ g2 0 = z.toInt64 ∧ va_at D classes (ao, OUT cA g2) H ∧ CQ D cA adr N I F mm H) ∨ (¬ (if (0 ≤ xk.toInt ∧ xk.toInt < (nn : Int)) then (0 : Int) else 1) = 0 ∧ ∃ cd : Int32, r = some (.int cd) ∧ cd.toInt = (if (0 ≤ xk.toInt ∧ xk.toInt < (nn : Int)) then (0 : Int) else 1) ∧ va_at D classes (ao, OUT cA go) H ∧ CQ D cA adr N I F mm H)) := by
  refine CtH.mk (by decide) (Nat.le_of_ble_eq_true rfl) ?_
  intro p e s m args below meth c Q A H locs ls hx hb hr hml hlk hown hK hTh hNC htab hQ hAe hsz hsz2 hP hO hS hl
  have hl : lv_has ls 5 [(0, .ref (adr 0)), (1, .int xk), (2, .int (bi tp)), (3, .ref ao)] := hl
  have hown : s.vm.findClass "RangeSheetLaw" = some m.cls := hown
  have hWF0 := hWF
  have hCP0 := hCP
  obtain ⟨hW, hE, hen, ⟨hmk, hmke⟩, htd, hsp, hsd, hset, hgd⟩ := hWF
  obtain ⟨hSR, ⟨hx1, hx3, hx8, hx9, hx11, hx14, hx18⟩, ⟨hc2, hc3, hc4, hc5, hc6, hc7⟩, ⟨cf, hBf⟩, ⟨fn0, gn0, cn0, hBn, hBne⟩, hBx⟩ := hCP
  obtain ⟨f, g, ch, hB⟩ := hBx 0 (by omega)
  have hB : BP cA adr cn 14 f g ch := hB
  have hn10 := hW.1
  have hm12 := hW.2.1
  have hen12 := hE.1
  have hv1 : (x 1).toInt = (nn : Int) := by rw [hx1]; exact hW.2.2.1
  have hv8 : (x 8).toInt = (en : Int) := by rw [hx8]; exact hen
  have hv9 : (x 9).toInt = (mk0 : Int) := by rw [hx9]; exact hmk
  have hN0 := hNm 0 (by omega)
  have hAm : ∀ n ∈ N, A (adr n) := fun n hn => by rw [hAe]; exact Or.inl ⟨n, hn, rfl⟩
  have hAo : A ao := by rw [hAe]; exact Or.inr (Or.inl rfl)
  have hlt := hO.lt
  have hv3 := hSR.2.2.1
  by_cases hc1 : (0 ≤ xk.toInt ∧ xk.toInt < (nn : Int))
  · have hcode : (if (0 ≤ xk.toInt ∧ xk.toInt < (nn : Int)) then (0 : Int) else 1) = 0 := if_pos hc1
    refine lv_aload_n hx hb d_Law_because_0 rfl (lv_at hl 3 rfl) ?_
    refine lv_iconst (v := 0) hx hb d_Law_because_1 (by decide) ?_
    refine lv_aload_n hx hb d_Law_because_2 rfl (lv_at hl 0 rfl) ?_
    refine lv_iload_n hx hb d_Law_because_3 rfl (lv_at hl 1 rfl) ?_
    refine lv_iload_n hx hb d_Law_because_4 rfl (lv_at hl 2 rfl) ?_
    refine x_V (As := [.int xk, .int (bi tp)]) (rest := [.int (0 : Int32), .ref ao]) hx hb hml hown hK (k_Sht_because l D cA adr N hi cn F I nn mm en mk0 x dn hCP0 hNm hWF0 xk tp hc1) t_684 t_1 t_681 t_682 t_683 yk_Sht_because ⟨Nat.le_of_ble_eq_true rfl, Nat.le_of_ble_eq_true rfl⟩ (w_rec hK hP hN0 hSR.1 rfl) hP rfl hl.1 rfl (Nat.le_of_ble_eq_true rfl) d_Law_because_5 ⟨Nat.le_of_ble_eq_true rfl, Nat.le_of_ble_eq_true rfl⟩ hS (fun q h => by rw [hAe]; exact Or.inl h) (fun r H1 locs hq hkk hS => ?_)
    obtain ⟨z, rfl, hz, cn2, x2, dn2, hC2, hP2⟩ := hq
    have hO : va_at D classes (ao, OUT cA go) H1 := hO.kept (hkk ao hlt (fun ⟨n, hn, h⟩ => hao n hn h.symm))
    have hP := hP2
    refine W.eq (g2 := F0 m 8 ls [.int z, .int 0, .ref ao]) rfl ?_
    refine lv_i2l hx hb d_Law_because_8 rfl ?_
    refine w_out hx hb hK hi hP hO hao hS hAm hAo d_Law_because_9 (fun H locs g2 hg2 hP hO hS => ?_)
    refine lv_goto (tgt := 17) hx hb d_Law_because_10 (by decide) ?_
    refine lv_iconst (v := 0) hx hb d_Law_because_17 (by decide) ?_
    refine W_up (c2 := 1) (s2 := 10) (Nat.le_of_ble_eq_true rfl) (Nat.le_of_ble_eq_true rfl) ?_
    refine e_i hx hb hr hlk hQ hS d_Law_because_18 ?_
    exact Or.inl ⟨hcode, z, g2, rfl, hz, hg2, hO, CQ.of hC2 hP⟩
  · have hcode : (if (0 ≤ xk.toInt ∧ xk.toInt < (nn : Int)) then (0 : Int) else 1) = 1 := if_neg hc1
    refine lv_aload_n hx hb d_Law_because_0 rfl (lv_at hl 3 rfl) ?_
    refine lv_iconst (v := 0) hx hb d_Law_because_1 (by decide) ?_
    refine lv_aload_n hx hb d_Law_because_2 rfl (lv_at hl 0 rfl) ?_
    refine lv_iload_n hx hb d_Law_because_3 rfl (lv_at hl 1 rfl) ?_
    refine lv_iload_n hx hb d_Law_because_4 rfl (lv_at hl 2 rfl) ?_
    obtain ⟨x1, tl, ht1, he1, htl⟩ := map_cons htab
    obtain ⟨q1, q2, q3, q4⟩ : x1.startPc = 0 ∧ x1.endPc = 10 ∧ x1.handlerPc = 13 ∧ x1.catchType = 13 := by have := he1; simp only [hmap, Prod.mk.injEq] at this; exact this
    refine t_VC (As := [.int xk, .int (bi tp)]) (rest := [.int (0 : Int32), .ref ao]) (hpc := 13) hx hb hml hown hK (k_Sht_because_T l htr D cA adr N cn x dn hSR.1 hN0 nn hv1 hn10 xk tp hc1) t_684 t_1 t_681 t_682 t_683 yk_Sht_because ⟨Nat.le_of_ble_eq_true rfl, Nat.le_of_ble_eq_true rfl⟩ ⟨Nat.le_of_ble_eq_true rfl, Nat.le_of_ble_eq_true rfl⟩ (w_rec hK hP hN0 hSR.1 rfl) hTh hP rfl hl.1 rfl (Nat.le_of_ble_eq_true rfl) d_Law_because_5 (fun T c9 s9 S g hg hpcg x0 ce h2 h3 h4 => ?_) (fun x0 H1 hkp hzp => ?_)
    · have := finds1 (C := "java/lang/IllegalArgumentException") S hK hown ht1 hg (by simp [covers, hpcg, q1, q2]) (by rw [q4]; decide) (by rw [q4]; exact t_388) t_402 h2 h3 h4; rw [q3] at this; exact this
    have hP := keepP hkp hP; have hO := keepO hkp hO; have hS := keepS hkp hzp hS
    refine lv_astore (lv' := [(4, .ref x0), (0, .ref (adr 0)), (1, .int xk), (2, .int (bi tp)), (3, .ref ao)]) hx hb d_Law_because_13 hl (by decide) rfl (fun ls hl => ?_)
    refine lv_iconst (v := 1) hx hb d_Law_because_15 (by decide) ?_
    refine W_up (c2 := 1) (s2 := 10) (Nat.le_of_ble_eq_true rfl) (Nat.le_of_ble_eq_true rfl) ?_
    refine e_i hx hb hr hlk hQ hS d_Law_because_16 ?_
    exact Or.inr ⟨by rw [hcode]; decide, _, rfl, by rw [hcode]; exact kc_1, hO, CQ.of hCP0 hP⟩
theorem d_Law_solve_0 : decode b_Law_solve 0 = .ok (.aload_n 2, 1) := by decide +kernel
theorem d_Law_solve_1 : decode b_Law_solve 1 = .ok (.iconst 0, 1) := by decide +kernel
theorem d_Law_solve_2 : decode b_Law_solve 2 = .ok (.aload_n 0, 1) := by decide +kernel
theorem d_Law_solve_3 : decode b_Law_solve 3 = .ok (.iload_n 1, 1) := by decide +kernel
theorem d_Law_solve_4 : decode b_Law_solve 4 = .ok (.invokevirtual 29, 3) := by decide +kernel
theorem d_Law_solve_7 : decode b_Law_solve 7 = .ok (.i2l, 1) := by decide +kernel
theorem d_Law_solve_8 : decode b_Law_solve 8 = .ok (.lastore, 1) := by decide +kernel
theorem d_Law_solve_9 : decode b_Law_solve 9 = .ok (.goto 6, 3) := by decide +kernel
theorem d_Law_solve_12 : decode b_Law_solve 12 = .ok (.astore_n 3, 1) := by decide +kernel
theorem d_Law_solve_13 : decode b_Law_solve 13 = .ok (.iconst 1, 1) := by decide +kernel
theorem d_Law_solve_14 : decode b_Law_solve 14 = .ok (.ireturn, 1) := by decide +kernel
theorem d_Law_solve_15 : decode b_Law_solve 15 = .ok (.iconst 0, 1) := by decide +kernel
theorem d_Law_solve_16 : decode b_Law_solve 16 = .ok (.ireturn, 1) := by decide +kernel
set_option maxHeartbeats 4000000 in
set_option maxRecDepth 20000 in
theorem k_Law_solve (l : Launch) (htr : l.stackTraces = false) (D : va_G) (cA : Nat → ClassId) (sz : Nat) (adr : Nat → Nat) (cn : Nat → va_E) (ao : Nat) (go : Nat → Int64) (F : Nat → Nat → Int32) (I : Nat → Int32) (nn mm en mk0 : Nat) (N : List Nat) (hi : wI N adr) (hNm : ∀ k, k < 56 + mm → k ∈ N) (hao : ∀ n ∈ N, adr n ≠ ao) (x : Nat → Int32) (dn : Bool) (hCP : CP cA adr cn I F mm x dn) (hWF : WF I F nn mm en mk0) (xm : Int32) : CtH l y_Law_solve b_Law_solve 4 [(0, 9, 12, 13)] 34 D cA [.ref (adr 0), .int xm, .ref ao] sz N adr cn ao go (fun r H => ((if (0 ≤ xm.toInt ∧ xm.toInt ≤ 300) then (0 : Int) else 1) = 0 ∧ ∃ (z : Int32) (g2 : Nat → Int64), r = some (.int 0) ∧ z.toInt = (fnd F nn mm en mk0 xm.toInt.toNat (-1) false).1 ∧ g2 0 = z.toInt64 ∧ va_at D classes (ao, OUT cA g2) H ∧ CQ D cA adr N (J_fnd I (fnd F nn mm en mk0 xm.toInt.toNat (-1) false)) (G_fnd F nn (fnd F nn mm en mk0 xm.toInt.toNat (-1) false)) mm H) ∨ (¬ (if (0 ≤ xm.toInt ∧ xm.toInt ≤ 300) then (0 : Int) else 1) = 0 ∧ ∃ cd : Int32, r = some (.int cd) ∧ cd.toInt = (if (0 ≤ xm.toInt ∧ xm.toInt ≤ 300) then (0 : Int) else 1) ∧ va_at D classes (ao, OUT cA go) H ∧ CQ D cA adr N I F mm H)) := by
  refine CtH.mk (by decide) (Nat.le_of_ble_eq_true rfl) ?_
  intro p e s m args below meth c Q A H locs ls hx hb hr hml hlk hown hK hTh hNC htab hQ hAe hsz hsz2 hP hO hS hl
  have hl : lv_has ls 4 [(0, .ref (adr 0)), (1, .int xm), (2, .ref ao)] := hl
  have hown : s.vm.findClass "RangeSheetLaw" = some m.cls := hown
  have hWF0 := hWF
  have hCP0 := hCP
  obtain ⟨hW, hE, hen, ⟨hmk, hmke⟩, htd, hsp, hsd, hset, hgd⟩ := hWF
  obtain ⟨hSR, ⟨hx1, hx3, hx8, hx9, hx11, hx14, hx18⟩, ⟨hc2, hc3, hc4, hc5, hc6, hc7⟩, ⟨cf, hBf⟩, ⟨fn0, gn0, cn0, hBn, hBne⟩, hBx⟩ := hCP
  obtain ⟨f, g, ch, hB⟩ := hBx 0 (by omega)
  have hB : BP cA adr cn 14 f g ch := hB
  have hn10 := hW.1
  have hm12 := hW.2.1
  have hen12 := hE.1
  have hv1 : (x 1).toInt = (nn : Int) := by rw [hx1]; exact hW.2.2.1
  have hv8 : (x 8).toInt = (en : Int) := by rw [hx8]; exact hen
  have hv9 : (x 9).toInt = (mk0 : Int) := by rw [hx9]; exact hmk
  have hN0 := hNm 0 (by omega)
  have hAm : ∀ n ∈ N, A (adr n) := fun n hn => by rw [hAe]; exact Or.inl ⟨n, hn, rfl⟩
  have hAo : A ao := by rw [hAe]; exact Or.inr (Or.inl rfl)
  have hlt := hO.lt
  have hv3 := hSR.2.2.1
  by_cases hc1 : (0 ≤ xm.toInt ∧ xm.toInt ≤ 300)
  · have hcode : (if (0 ≤ xm.toInt ∧ xm.toInt ≤ 300) then (0 : Int) else 1) = 0 := if_pos hc1
    refine lv_aload_n hx hb d_Law_solve_0 rfl (lv_at hl 2 rfl) ?_
    refine lv_iconst (v := 0) hx hb d_Law_solve_1 (by decide) ?_
    refine lv_aload_n hx hb d_Law_solve_2 rfl (lv_at hl 0 rfl) ?_
    refine lv_iload_n hx hb d_Law_solve_3 rfl (lv_at hl 1 rfl) ?_
    refine x_V (As := [.int xm]) (rest := [.int (0 : Int32), .ref ao]) hx hb hml hown hK (k_Sht_solve l D cA adr N hi cn F I nn mm en mk0 x dn hCP0 hNm hWF0 xm hc1) t_695 t_1 t_692 t_693 t_694 yk_Sht_solve ⟨Nat.le_of_ble_eq_true rfl, Nat.le_of_ble_eq_true rfl⟩ (w_rec hK hP hN0 hSR.1 rfl) hP rfl hl.1 rfl (Nat.le_of_ble_eq_true rfl) d_Law_solve_4 ⟨Nat.le_of_ble_eq_true rfl, Nat.le_of_ble_eq_true rfl⟩ hS (fun q h => by rw [hAe]; exact Or.inl h) (fun r H1 locs hq hkk hS => ?_)
    obtain ⟨z, rfl, hz, cn2, x2, dn2, hC2, hP2⟩ := hq
    have hO : va_at D classes (ao, OUT cA go) H1 := hO.kept (hkk ao hlt (fun ⟨n, hn, h⟩ => hao n hn h.symm))
    have hP := hP2
    refine W.eq (g2 := F0 m 7 ls [.int z, .int 0, .ref ao]) rfl ?_
    refine lv_i2l hx hb d_Law_solve_7 rfl ?_
    refine w_out hx hb hK hi hP hO hao hS hAm hAo d_Law_solve_8 (fun H locs g2 hg2 hP hO hS => ?_)
    refine lv_goto (tgt := 15) hx hb d_Law_solve_9 (by decide) ?_
    refine lv_iconst (v := 0) hx hb d_Law_solve_15 (by decide) ?_
    refine W_up (c2 := 1) (s2 := 10) (Nat.le_of_ble_eq_true rfl) (Nat.le_of_ble_eq_true rfl) ?_
    refine e_i hx hb hr hlk hQ hS d_Law_solve_16 ?_
    exact Or.inl ⟨hcode, z, g2, rfl, hz, hg2, hO, CQ.of hC2 hP⟩
  · have hcode : (if (0 ≤ xm.toInt ∧ xm.toInt ≤ 300) then (0 : Int) else 1) = 1 := if_neg hc1
    refine lv_aload_n hx hb d_Law_solve_0 rfl (lv_at hl 2 rfl) ?_
    refine lv_iconst (v := 0) hx hb d_Law_solve_1 (by decide) ?_
    refine lv_aload_n hx hb d_Law_solve_2 rfl (lv_at hl 0 rfl) ?_
    refine lv_iload_n hx hb d_Law_solve_3 rfl (lv_at hl 1 rfl) ?_
    obtain ⟨x1, tl, ht1, he1, htl⟩ := map_cons htab
    obtain ⟨q1, q2, q3, q4⟩ : x1.startPc = 0 ∧ x1.endPc = 9 ∧ x1.handlerPc = 12 ∧ x1.catchType = 13 := by have := he1; simp only [hmap, Prod.mk.injEq] at this; exact this
    refine t_VC (As := [.int xm]) (rest := [.int (0 : Int32), .ref ao]) (hpc := 12) hx hb hml hown hK (k_Sht_solve_T l htr D cA adr N cn x dn hSR.1 hN0 nn hv1 hn10 xm hc1) t_695 t_1 t_692 t_693 t_694 yk_Sht_solve ⟨Nat.le_of_ble_eq_true rfl, Nat.le_of_ble_eq_true rfl⟩ ⟨Nat.le_of_ble_eq_true rfl, Nat.le_of_ble_eq_true rfl⟩ (w_rec hK hP hN0 hSR.1 rfl) hTh hP rfl hl.1 rfl (Nat.le_of_ble_eq_true rfl) d_Law_solve_4 (fun T c9 s9 S g hg hpcg x0 ce h2 h3 h4 => ?_) (fun x0 H1 hkp hzp => ?_)
    · have := finds1 (C := "java/lang/IllegalArgumentException") S hK hown ht1 hg (by simp [covers, hpcg, q1, q2]) (by rw [q4]; decide) (by rw [q4]; exact t_388) t_402 h2 h3 h4; rw [q3] at this; exact this
    have hP := keepP hkp hP; have hO := keepO hkp hO; have hS := keepS hkp hzp hS
    refine lv_astore_n (lv' := [(3, .ref x0), (0, .ref (adr 0)), (1, .int xm), (2, .ref ao)]) hx hb d_Law_solve_12 rfl hl (by decide) rfl (fun ls hl => ?_)
    refine lv_iconst (v := 1) hx hb d_Law_solve_13 (by decide) ?_
    refine W_up (c2 := 1) (s2 := 10) (Nat.le_of_ble_eq_true rfl) (Nat.le_of_ble_eq_true rfl) ?_
    refine e_i hx hb hr hlk hQ hS d_Law_solve_14 ?_
    exact Or.inr ⟨by rw [hcode]; decide, _, rfl, by rw [hcode]; exact kc_1, hO, CQ.of hCP0 hP⟩
theorem d_Law_least_0 : decode b_Law_least 0 = .ok (.aload_n 3, 1) := by decide +kernel
theorem d_Law_least_1 : decode b_Law_least 1 = .ok (.iconst 0, 1) := by decide +kernel
theorem d_Law_least_2 : decode b_Law_least 2 = .ok (.aload_n 0, 1) := by decide +kernel
theorem d_Law_least_3 : decode b_Law_least 3 = .ok (.iload_n 1, 1) := by decide +kernel
theorem d_Law_least_4 : decode b_Law_least 4 = .ok (.iload_n 2, 1) := by decide +kernel
theorem d_Law_least_5 : decode b_Law_least 5 = .ok (.invokevirtual 33, 3) := by decide +kernel
theorem d_Law_least_8 : decode b_Law_least 8 = .ok (.i2l, 1) := by decide +kernel
theorem d_Law_least_9 : decode b_Law_least 9 = .ok (.lastore, 1) := by decide +kernel
theorem d_Law_least_10 : decode b_Law_least 10 = .ok (.goto 7, 3) := by decide +kernel
theorem d_Law_least_13 : decode b_Law_least 13 = .ok (.astore 4, 2) := by decide +kernel
theorem d_Law_least_15 : decode b_Law_least 15 = .ok (.iconst 1, 1) := by decide +kernel
theorem d_Law_least_16 : decode b_Law_least 16 = .ok (.ireturn, 1) := by decide +kernel
theorem d_Law_least_17 : decode b_Law_least 17 = .ok (.iconst 0, 1) := by decide +kernel
theorem d_Law_least_18 : decode b_Law_least 18 = .ok (.ireturn, 1) := by decide +kernel
set_option maxHeartbeats 4000000 in
set_option maxRecDepth 20000 in
theorem k_Law_least (l : Launch) (htr : l.stackTraces = false) (D : va_G) (cA : Nat → ClassId) (sz : Nat) (adr : Nat → Nat) (cn : Nat → va_E) (ao : Nat) (go : Nat → Int64) (F : Nat → Nat → Int32) (I : Nat → Int32) (nn mm en mk0 : Nat) (N : List Nat) (hi : wI N adr) (hNm : ∀ k, k < 56 + mm → k ∈ N) (hao : ∀ n ∈ N, adr n ≠ ao) (x : Nat → Int32) (dn : Bool) (hCP : CP cA adr cn I F mm x dn) (hWF : WF I F nn mm en mk0) (xk xm : Int32) : CtH l y_Law_least b_Law_least 5 [(0, 10, 13, 13)] 34 D cA [.ref (adr 0), .int xk, .int xm, .ref ao] sz N adr cn ao go (fun r H => ((if ((0 ≤ xk.toInt ∧ xk.toInt < (nn : Int)) ∧ (0 ≤ xm.toInt ∧ xm.toInt ≤ 300)) then (0 : Int) else 1) = 0 ∧ ∃ (z : Int32) (g2 : Nat → Int64), r = some (.int 0) ∧ z.toInt = (if (fnd F nn mm en mk0 xm.toInt.toNat xk.toInt false).1 = 1 then (G_fnd F nn (fnd F nn mm en mk0 xm.toInt.toNat xk.toInt false) 33 xk.toInt.toNat).toInt else -1000) ∧ g2 0 = z.toInt64 ∧ va_at D classes (ao, OUT cA g2) H ∧ CQ D cA adr N (J_fnd I (fnd F nn mm en mk0 xm.toInt.toNat xk.toInt false)) (G_fnd F nn (fnd F nn mm en mk0 xm.toInt.toNat xk.toInt false)) mm H) ∨ (¬ (if ((0 ≤ xk.toInt ∧ xk.toInt < (nn : Int)) ∧ (0 ≤ xm.toInt ∧ xm.toInt ≤ 300)) then (0 : Int) else 1) = 0 ∧ ∃ cd : Int32, r = some (.int cd) ∧ cd.toInt = (if ((0 ≤ xk.toInt ∧ xk.toInt < (nn : Int)) ∧ (0 ≤ xm.toInt ∧ xm.toInt ≤ 300)) then (0 : Int) else 1) ∧ va_at D classes (ao, OUT cA go) H ∧ CQ D cA adr N I F mm H)) := by
  refine CtH.mk (by decide) (Nat.le_of_ble_eq_true rfl) ?_
  intro p e s m args below meth c Q A H locs ls hx hb hr hml hlk hown hK hTh hNC htab hQ hAe hsz hsz2 hP hO hS hl
  have hl : lv_has ls 5 [(0, .ref (adr 0)), (1, .int xk), (2, .int xm), (3, .ref ao)] := hl
  have hown : s.vm.findClass "RangeSheetLaw" = some m.cls := hown
  have hWF0 := hWF
  have hCP0 := hCP
  obtain ⟨hW, hE, hen, ⟨hmk, hmke⟩, htd, hsp, hsd, hset, hgd⟩ := hWF
  obtain ⟨hSR, ⟨hx1, hx3, hx8, hx9, hx11, hx14, hx18⟩, ⟨hc2, hc3, hc4, hc5, hc6, hc7⟩, ⟨cf, hBf⟩, ⟨fn0, gn0, cn0, hBn, hBne⟩, hBx⟩ := hCP
  obtain ⟨f, g, ch, hB⟩ := hBx 0 (by omega)
  have hB : BP cA adr cn 14 f g ch := hB
  have hn10 := hW.1
  have hm12 := hW.2.1
  have hen12 := hE.1
  have hv1 : (x 1).toInt = (nn : Int) := by rw [hx1]; exact hW.2.2.1
  have hv8 : (x 8).toInt = (en : Int) := by rw [hx8]; exact hen
  have hv9 : (x 9).toInt = (mk0 : Int) := by rw [hx9]; exact hmk
  have hN0 := hNm 0 (by omega)
  have hAm : ∀ n ∈ N, A (adr n) := fun n hn => by rw [hAe]; exact Or.inl ⟨n, hn, rfl⟩
  have hAo : A ao := by rw [hAe]; exact Or.inr (Or.inl rfl)
  have hlt := hO.lt
  have hv3 := hSR.2.2.1
  by_cases hc1 : ((0 ≤ xk.toInt ∧ xk.toInt < (nn : Int)) ∧ (0 ≤ xm.toInt ∧ xm.toInt ≤ 300))
  · have hcode : (if ((0 ≤ xk.toInt ∧ xk.toInt < (nn : Int)) ∧ (0 ≤ xm.toInt ∧ xm.toInt ≤ 300)) then (0 : Int) else 1) = 0 := if_pos hc1
    refine lv_aload_n hx hb d_Law_least_0 rfl (lv_at hl 3 rfl) ?_
    refine lv_iconst (v := 0) hx hb d_Law_least_1 (by decide) ?_
    refine lv_aload_n hx hb d_Law_least_2 rfl (lv_at hl 0 rfl) ?_
    refine lv_iload_n hx hb d_Law_least_3 rfl (lv_at hl 1 rfl) ?_
    refine lv_iload_n hx hb d_Law_least_4 rfl (lv_at hl 2 rfl) ?_
    refine x_V (As := [.int xk, .int xm]) (rest := [.int (0 : Int32), .ref ao]) hx hb hml hown hK (k_Sht_least l D cA adr N hi cn F I nn mm en mk0 x dn hCP0 hNm hWF0 xk xm hc1.1 hc1.2) t_719 t_1 t_716 t_717 t_718 yk_Sht_least ⟨Nat.le_of_ble_eq_true rfl, Nat.le_of_ble_eq_true rfl⟩ (w_rec hK hP hN0 hSR.1 rfl) hP rfl hl.1 rfl (Nat.le_of_ble_eq_true rfl) d_Law_least_5 ⟨Nat.le_of_ble_eq_true rfl, Nat.le_of_ble_eq_true rfl⟩ hS (fun q h => by rw [hAe]; exact Or.inl h) (fun r H1 locs hq hkk hS => ?_)
    obtain ⟨z, rfl, hz, cn2, x2, dn2, hC2, hP2⟩ := hq
    have hO : va_at D classes (ao, OUT cA go) H1 := hO.kept (hkk ao hlt (fun ⟨n, hn, h⟩ => hao n hn h.symm))
    have hP := hP2
    refine W.eq (g2 := F0 m 8 ls [.int z, .int 0, .ref ao]) rfl ?_
    refine lv_i2l hx hb d_Law_least_8 rfl ?_
    refine w_out hx hb hK hi hP hO hao hS hAm hAo d_Law_least_9 (fun H locs g2 hg2 hP hO hS => ?_)
    refine lv_goto (tgt := 17) hx hb d_Law_least_10 (by decide) ?_
    refine lv_iconst (v := 0) hx hb d_Law_least_17 (by decide) ?_
    refine W_up (c2 := 1) (s2 := 10) (Nat.le_of_ble_eq_true rfl) (Nat.le_of_ble_eq_true rfl) ?_
    refine e_i hx hb hr hlk hQ hS d_Law_least_18 ?_
    exact Or.inl ⟨hcode, z, g2, rfl, hz, hg2, hO, CQ.of hC2 hP⟩
  · have hcode : (if ((0 ≤ xk.toInt ∧ xk.toInt < (nn : Int)) ∧ (0 ≤ xm.toInt ∧ xm.toInt ≤ 300)) then (0 : Int) else 1) = 1 := if_neg hc1
    refine lv_aload_n hx hb d_Law_least_0 rfl (lv_at hl 3 rfl) ?_
    refine lv_iconst (v := 0) hx hb d_Law_least_1 (by decide) ?_
    refine lv_aload_n hx hb d_Law_least_2 rfl (lv_at hl 0 rfl) ?_
    refine lv_iload_n hx hb d_Law_least_3 rfl (lv_at hl 1 rfl) ?_
    refine lv_iload_n hx hb d_Law_least_4 rfl (lv_at hl 2 rfl) ?_
    obtain ⟨x1, tl, ht1, he1, htl⟩ := map_cons htab
    obtain ⟨q1, q2, q3, q4⟩ : x1.startPc = 0 ∧ x1.endPc = 10 ∧ x1.handlerPc = 13 ∧ x1.catchType = 13 := by have := he1; simp only [hmap, Prod.mk.injEq] at this; exact this
    refine t_VC (As := [.int xk, .int xm]) (rest := [.int (0 : Int32), .ref ao]) (hpc := 13) hx hb hml hown hK (k_Sht_least_T l htr D cA adr N cn x dn hSR.1 hN0 nn hv1 hn10 xk xm hc1) t_719 t_1 t_716 t_717 t_718 yk_Sht_least ⟨Nat.le_of_ble_eq_true rfl, Nat.le_of_ble_eq_true rfl⟩ ⟨Nat.le_of_ble_eq_true rfl, Nat.le_of_ble_eq_true rfl⟩ (w_rec hK hP hN0 hSR.1 rfl) hTh hP rfl hl.1 rfl (Nat.le_of_ble_eq_true rfl) d_Law_least_5 (fun T c9 s9 S g hg hpcg x0 ce h2 h3 h4 => ?_) (fun x0 H1 hkp hzp => ?_)
    · have := finds1 (C := "java/lang/IllegalArgumentException") S hK hown ht1 hg (by simp [covers, hpcg, q1, q2]) (by rw [q4]; decide) (by rw [q4]; exact t_388) t_402 h2 h3 h4; rw [q3] at this; exact this
    have hP := keepP hkp hP; have hO := keepO hkp hO; have hS := keepS hkp hzp hS
    refine lv_astore (lv' := [(4, .ref x0), (0, .ref (adr 0)), (1, .int xk), (2, .int xm), (3, .ref ao)]) hx hb d_Law_least_13 hl (by decide) rfl (fun ls hl => ?_)
    refine lv_iconst (v := 1) hx hb d_Law_least_15 (by decide) ?_
    refine W_up (c2 := 1) (s2 := 10) (Nat.le_of_ble_eq_true rfl) (Nat.le_of_ble_eq_true rfl) ?_
    refine e_i hx hb hr hlk hQ hS d_Law_least_16 ?_
    exact Or.inr ⟨by rw [hcode]; decide, _, rfl, by rw [hcode]; exact kc_1, hO, CQ.of hCP0 hP⟩
theorem d_Law_greatest_0 : decode b_Law_greatest 0 = .ok (.aload_n 3, 1) := by decide +kernel
theorem d_Law_greatest_1 : decode b_Law_greatest 1 = .ok (.iconst 0, 1) := by decide +kernel
theorem d_Law_greatest_2 : decode b_Law_greatest 2 = .ok (.aload_n 0, 1) := by decide +kernel
theorem d_Law_greatest_3 : decode b_Law_greatest 3 = .ok (.iload_n 1, 1) := by decide +kernel
theorem d_Law_greatest_4 : decode b_Law_greatest 4 = .ok (.iload_n 2, 1) := by decide +kernel
theorem d_Law_greatest_5 : decode b_Law_greatest 5 = .ok (.invokevirtual 36, 3) := by decide +kernel
theorem d_Law_greatest_8 : decode b_Law_greatest 8 = .ok (.i2l, 1) := by decide +kernel
theorem d_Law_greatest_9 : decode b_Law_greatest 9 = .ok (.lastore, 1) := by decide +kernel
theorem d_Law_greatest_10 : decode b_Law_greatest 10 = .ok (.goto 7, 3) := by decide +kernel
theorem d_Law_greatest_13 : decode b_Law_greatest 13 = .ok (.astore 4, 2) := by decide +kernel
theorem d_Law_greatest_15 : decode b_Law_greatest 15 = .ok (.iconst 1, 1) := by decide +kernel
theorem d_Law_greatest_16 : decode b_Law_greatest 16 = .ok (.ireturn, 1) := by decide +kernel
theorem d_Law_greatest_17 : decode b_Law_greatest 17 = .ok (.iconst 0, 1) := by decide +kernel
theorem d_Law_greatest_18 : decode b_Law_greatest 18 = .ok (.ireturn, 1) := by decide +kernel
set_option maxHeartbeats 4000000 in
set_option maxRecDepth 20000 in
theorem k_Law_greatest (l : Launch) (htr : l.stackTraces = false) (D : va_G) (cA : Nat → ClassId) (sz : Nat) (adr : Nat → Nat) (cn : Nat → va_E) (ao : Nat) (go : Nat → Int64) (F : Nat → Nat → Int32) (I : Nat → Int32) (nn mm en mk0 : Nat) (N : List Nat) (hi : wI N adr) (hNm : ∀ k, k < 56 + mm → k ∈ N) (hao : ∀ n ∈ N, adr n ≠ ao) (x : Nat → Int32) (dn : Bool) (hCP : CP cA adr cn I F mm x dn) (hWF : WF I F nn mm en mk0) (xk xm : Int32) : CtH l y_Law_greatest b_Law_greatest 5 [(0, 10, 13, 13)] 34 D cA [.ref (adr 0), .int xk, .int xm, .ref ao] sz N adr cn ao go (fun r H => ((if ((0 ≤ xk.toInt ∧ xk.toInt < (nn : Int)) ∧ (0 ≤ xm.toInt ∧ xm.toInt ≤ 300)) then (0 : Int) else 1) = 0 ∧ ∃ (z : Int32) (g2 : Nat → Int64), r = some (.int 0) ∧ z.toInt = (if (fnd F nn mm en mk0 xm.toInt.toNat xk.toInt true).1 = 1 then (G_fnd F nn (fnd F nn mm en mk0 xm.toInt.toNat xk.toInt true) 33 xk.toInt.toNat).toInt else -1000) ∧ g2 0 = z.toInt64 ∧ va_at D classes (ao, OUT cA g2) H ∧ CQ D cA adr N (J_fnd I (fnd F nn mm en mk0 xm.toInt.toNat xk.toInt true)) (G_fnd F nn (fnd F nn mm en mk0 xm.toInt.toNat xk.toInt true)) mm H) ∨ (¬ (if ((0 ≤ xk.toInt ∧ xk.toInt < (nn : Int)) ∧ (0 ≤ xm.toInt ∧ xm.toInt ≤ 300)) then (0 : Int) else 1) = 0 ∧ ∃ cd : Int32, r = some (.int cd) ∧ cd.toInt = (if ((0 ≤ xk.toInt ∧ xk.toInt < (nn : Int)) ∧ (0 ≤ xm.toInt ∧ xm.toInt ≤ 300)) then (0 : Int) else 1) ∧ va_at D classes (ao, OUT cA go) H ∧ CQ D cA adr N I F mm H)) := by
  refine CtH.mk (by decide) (Nat.le_of_ble_eq_true rfl) ?_
  intro p e s m args below meth c Q A H locs ls hx hb hr hml hlk hown hK hTh hNC htab hQ hAe hsz hsz2 hP hO hS hl
  have hl : lv_has ls 5 [(0, .ref (adr 0)), (1, .int xk), (2, .int xm), (3, .ref ao)] := hl
  have hown : s.vm.findClass "RangeSheetLaw" = some m.cls := hown
  have hWF0 := hWF
  have hCP0 := hCP
  obtain ⟨hW, hE, hen, ⟨hmk, hmke⟩, htd, hsp, hsd, hset, hgd⟩ := hWF
  obtain ⟨hSR, ⟨hx1, hx3, hx8, hx9, hx11, hx14, hx18⟩, ⟨hc2, hc3, hc4, hc5, hc6, hc7⟩, ⟨cf, hBf⟩, ⟨fn0, gn0, cn0, hBn, hBne⟩, hBx⟩ := hCP
  obtain ⟨f, g, ch, hB⟩ := hBx 0 (by omega)
  have hB : BP cA adr cn 14 f g ch := hB
  have hn10 := hW.1
  have hm12 := hW.2.1
  have hen12 := hE.1
  have hv1 : (x 1).toInt = (nn : Int) := by rw [hx1]; exact hW.2.2.1
  have hv8 : (x 8).toInt = (en : Int) := by rw [hx8]; exact hen
  have hv9 : (x 9).toInt = (mk0 : Int) := by rw [hx9]; exact hmk
  have hN0 := hNm 0 (by omega)
  have hAm : ∀ n ∈ N, A (adr n) := fun n hn => by rw [hAe]; exact Or.inl ⟨n, hn, rfl⟩
  have hAo : A ao := by rw [hAe]; exact Or.inr (Or.inl rfl)
  have hlt := hO.lt
  have hv3 := hSR.2.2.1
  by_cases hc1 : ((0 ≤ xk.toInt ∧ xk.toInt < (nn : Int)) ∧ (0 ≤ xm.toInt ∧ xm.toInt ≤ 300))
  · have hcode : (if ((0 ≤ xk.toInt ∧ xk.toInt < (nn : Int)) ∧ (0 ≤ xm.toInt ∧ xm.toInt ≤ 300)) then (0 : Int) else 1) = 0 := if_pos hc1
    refine lv_aload_n hx hb d_Law_greatest_0 rfl (lv_at hl 3 rfl) ?_
    refine lv_iconst (v := 0) hx hb d_Law_greatest_1 (by decide) ?_
    refine lv_aload_n hx hb d_Law_greatest_2 rfl (lv_at hl 0 rfl) ?_
    refine lv_iload_n hx hb d_Law_greatest_3 rfl (lv_at hl 1 rfl) ?_
    refine lv_iload_n hx hb d_Law_greatest_4 rfl (lv_at hl 2 rfl) ?_
    refine x_V (As := [.int xk, .int xm]) (rest := [.int (0 : Int32), .ref ao]) hx hb hml hown hK (k_Sht_greatest l D cA adr N hi cn F I nn mm en mk0 x dn hCP0 hNm hWF0 xk xm hc1.1 hc1.2) t_730 t_1 t_727 t_728 t_729 yk_Sht_greatest ⟨Nat.le_of_ble_eq_true rfl, Nat.le_of_ble_eq_true rfl⟩ (w_rec hK hP hN0 hSR.1 rfl) hP rfl hl.1 rfl (Nat.le_of_ble_eq_true rfl) d_Law_greatest_5 ⟨Nat.le_of_ble_eq_true rfl, Nat.le_of_ble_eq_true rfl⟩ hS (fun q h => by rw [hAe]; exact Or.inl h) (fun r H1 locs hq hkk hS => ?_)
    obtain ⟨z, rfl, hz, cn2, x2, dn2, hC2, hP2⟩ := hq
    have hO : va_at D classes (ao, OUT cA go) H1 := hO.kept (hkk ao hlt (fun ⟨n, hn, h⟩ => hao n hn h.symm))
    have hP := hP2
    refine W.eq (g2 := F0 m 8 ls [.int z, .int 0, .ref ao]) rfl ?_
    refine lv_i2l hx hb d_Law_greatest_8 rfl ?_
    refine w_out hx hb hK hi hP hO hao hS hAm hAo d_Law_greatest_9 (fun H locs g2 hg2 hP hO hS => ?_)
    refine lv_goto (tgt := 17) hx hb d_Law_greatest_10 (by decide) ?_
    refine lv_iconst (v := 0) hx hb d_Law_greatest_17 (by decide) ?_
    refine W_up (c2 := 1) (s2 := 10) (Nat.le_of_ble_eq_true rfl) (Nat.le_of_ble_eq_true rfl) ?_
    refine e_i hx hb hr hlk hQ hS d_Law_greatest_18 ?_
    exact Or.inl ⟨hcode, z, g2, rfl, hz, hg2, hO, CQ.of hC2 hP⟩
  · have hcode : (if ((0 ≤ xk.toInt ∧ xk.toInt < (nn : Int)) ∧ (0 ≤ xm.toInt ∧ xm.toInt ≤ 300)) then (0 : Int) else 1) = 1 := if_neg hc1
    refine lv_aload_n hx hb d_Law_greatest_0 rfl (lv_at hl 3 rfl) ?_
    refine lv_iconst (v := 0) hx hb d_Law_greatest_1 (by decide) ?_
    refine lv_aload_n hx hb d_Law_greatest_2 rfl (lv_at hl 0 rfl) ?_
    refine lv_iload_n hx hb d_Law_greatest_3 rfl (lv_at hl 1 rfl) ?_
    refine lv_iload_n hx hb d_Law_greatest_4 rfl (lv_at hl 2 rfl) ?_
    obtain ⟨x1, tl, ht1, he1, htl⟩ := map_cons htab
    obtain ⟨q1, q2, q3, q4⟩ : x1.startPc = 0 ∧ x1.endPc = 10 ∧ x1.handlerPc = 13 ∧ x1.catchType = 13 := by have := he1; simp only [hmap, Prod.mk.injEq] at this; exact this
    refine t_VC (As := [.int xk, .int xm]) (rest := [.int (0 : Int32), .ref ao]) (hpc := 13) hx hb hml hown hK (k_Sht_greatest_T l htr D cA adr N cn x dn hSR.1 hN0 nn hv1 hn10 xk xm hc1) t_730 t_1 t_727 t_728 t_729 yk_Sht_greatest ⟨Nat.le_of_ble_eq_true rfl, Nat.le_of_ble_eq_true rfl⟩ ⟨Nat.le_of_ble_eq_true rfl, Nat.le_of_ble_eq_true rfl⟩ (w_rec hK hP hN0 hSR.1 rfl) hTh hP rfl hl.1 rfl (Nat.le_of_ble_eq_true rfl) d_Law_greatest_5 (fun T c9 s9 S g hg hpcg x0 ce h2 h3 h4 => ?_) (fun x0 H1 hkp hzp => ?_)
    · have := finds1 (C := "java/lang/IllegalArgumentException") S hK hown ht1 hg (by simp [covers, hpcg, q1, q2]) (by rw [q4]; decide) (by rw [q4]; exact t_388) t_402 h2 h3 h4; rw [q3] at this; exact this
    have hP := keepP hkp hP; have hO := keepO hkp hO; have hS := keepS hkp hzp hS
    refine lv_astore (lv' := [(4, .ref x0), (0, .ref (adr 0)), (1, .int xk), (2, .int xm), (3, .ref ao)]) hx hb d_Law_greatest_13 hl (by decide) rfl (fun ls hl => ?_)
    refine lv_iconst (v := 1) hx hb d_Law_greatest_15 (by decide) ?_
    refine W_up (c2 := 1) (s2 := 10) (Nat.le_of_ble_eq_true rfl) (Nat.le_of_ble_eq_true rfl) ?_
    refine e_i hx hb hr hlk hQ hS d_Law_greatest_16 ?_
    exact Or.inr ⟨by rw [hcode]; decide, _, rfl, by rw [hcode]; exact kc_1, hO, CQ.of hCP0 hP⟩
