/-! worlds by names: the cell of the name n lies at adr n and holds cn n -/
def wl (N : List Nat) (adr : Nat → Nat) (cn : Nat → va_E) : va_W := N.map fun n => (adr n, cn n)
def wI (N : List Nat) (adr : Nat → Nat) : Prop := N.Nodup ∧ ∀ n ∈ N, ∀ k ∈ N, adr n = adr k → n = k
def wA (N : List Nat) (adr : Nat → Nat) : Nat → Prop := fun q => ∃ n ∈ N, q = adr n
theorem wl_at {N : List Nat} {adr : Nat → Nat} {cn : Nat → va_E} {k n : Nat} (h : N[k]? = some n) : (wl N adr cn)[k]? = some (adr n, cn n) := by simp [wl, h]
theorem wl_of {N : List Nat} {adr : Nat → Nat} {cn : Nat → va_E} {k : Nat} {q : Nat × va_E} (h : (wl N adr cn)[k]? = some q) : ∃ n, N[k]? = some n ∧ q = (adr n, cn n) := by
  unfold wl at h
  rw [List.getElem?_map] at h
  cases hn : N[k]? with
  | none => rw [hn] at h; cases h
  | some n => rw [hn] at h; exact ⟨n, rfl, (Option.some.inj h).symm⟩
theorem nd_inj {N : List Nat} (h : N.Nodup) {i j n : Nat} (hi : N[i]? = some n) (hj : N[j]? = some n) : i = j :=
  (List.getElem?_inj (List.getElem?_eq_some_iff.mp hi).1 h).mp (hi.trans hj.symm)
theorem wl_P {D : va_G} {N : List Nat} {adr : Nat → Nat} {cn : Nat → va_E} {H : Heap} : va_P D classes (wl N adr cn) H ↔ ∀ n ∈ N, va_at D classes (adr n, cn n) H := by
  constructor
  · intro h n hn
    obtain ⟨k, hk⟩ := List.getElem?_of_mem hn
    exact h k _ (wl_at hk)
  · intro h k q hq
    obtain ⟨n, hn, rfl⟩ := wl_of hq
    exact h n (List.mem_of_getElem? hn)
theorem wl_D {A : Nat → Prop} {N : List Nat} {adr : Nat → Nat} {cn : Nat → va_E} (hi : wI N adr) (hA : ∀ n ∈ N, A (adr n)) : va_D A (wl N adr cn) := by
  refine ⟨fun i j p q hi' hj hpq => ?_, fun k q hk => ?_⟩
  · obtain ⟨n, hn, rfl⟩ := wl_of hi'
    obtain ⟨k, hk, rfl⟩ := wl_of hj
    have e := hi.2 n (List.mem_of_getElem? hn) k (List.mem_of_getElem? hk) hpq
    subst e
    exact nd_inj hi.1 hn hk
  · obtain ⟨n, hn, rfl⟩ := wl_of hk
    exact hA n (List.mem_of_getElem? hn)
theorem wl_set {N : List Nat} {adr : Nat → Nat} {cn : Nat → va_E} (hi : N.Nodup) {k n : Nat} (h : N[k]? = some n) (e : va_E) : (wl N adr cn).set k (adr n, e) = wl N adr (va_up cn n e) := by
  apply List.ext_getElem?
  intro j
  by_cases hj : j = k
  · subst hj
    have hlt : j < (wl N adr cn).length := by simp [wl]; exact (List.getElem?_eq_some_iff.mp h).1
    rw [List.getElem?_set_self hlt, wl_at h, va_up_self]
  · rw [List.getElem?_set_ne (Ne.symm hj)]
    unfold wl
    rw [List.getElem?_map, List.getElem?_map]
    cases hn : N[j]? with
    | none => rfl
    | some n' =>
      have hne : n' ≠ n := fun e => by
        subst e
        exact hj (nd_inj hi hn h)
      simp [va_up_ne _ _ hne]
theorem wA_mem {N : List Nat} {adr : Nat → Nat} : ∀ n ∈ N, wA N adr (adr n) := fun n h => ⟨n, h, rfl⟩
section WR
variable {p : Program} {l : Launch} {e : Env} {R : Room} {s : State} {m : MethodId} {args : Array Value} {below : List Frame} {meth : Method} {c : Code} {H : Heap} {locs : List Loc} {cells slots : Nat} {Q : State → Prop}
variable {cc : ByteArray} {pc : Nat} {ls : Array Slot} {rest : List Value} {D : va_G} {cA : Nat → ClassId} {A : Nat → Prop} {H0 : Heap} {N : List Nat} {adr : Nat → Nat} {cn : Nat → va_E} {n : Nat}
theorem w_gf (hexec : p.tables.exec = Jvm.exec) (hb : c.code = cc) {own ref C : String} {T : u_T} {Nf ci index : Nat} (hK : KE D cA s) (hin : ∀ w ∈ u_ws C T Nf, w ∈ TW) (hown : s.vm.findClass own = some m.cls) (hP : va_P D classes (wl N adr cn) H) (hn : n ∈ N) {fs : List Value} (he : cn n = .inr (ci, fs)) (hc : classes[ci]? = some (C, T, Nf)) (k : Nat) (hk : k < Nf) (hlink : Cond.fieldLink own index ref (T k).2.1 (T k).2.2.1 ∈ TW) (hsame : (T k).1 = ref) {v : Value} (hv : fs[k]? = some v) (hdg : decode cc pc = .ok (.getfield index, 3))
    (kk : W p l e R s m args below meth c H locs cells slots Q (F0 m (pc + 3) ls (v :: rest))) : W p l e R s m args below meth c H locs cells slots Q (F0 m pc ls (.ref (adr n) :: rest)) := by
  obtain ⟨q, hq⟩ := List.getElem?_of_mem hn
  exact va_get (C := C) (T := T) (N := Nf) hexec hb hK.ts hin hown hK.2 hP q (by rw [wl_at hq, he]) hc k hk (hK.w hlink) (fun x h => by rw [← hsame]; exact h) hv hdg kk
theorem w_gfN (hexec : p.tables.exec = Jvm.exec) (hb : c.code = cc) {own ref C host : String} {T : u_T} {Nf ci index : Nat} (hK : KE D cA s) (hin : ∀ w ∈ u_ws C T Nf, w ∈ TW) (hown : s.vm.findClass own = some m.cls) (hP : va_P D classes (wl N adr cn) H) (hn : n ∈ N) {fs : List Value} (he : cn n = .inr (ci, fs)) (hc : classes[ci]? = some (C, T, Nf)) (k : Nat) (hk : k < Nf) (hlink : Cond.fieldLinkNest own index ref (T k).2.1 (T k).2.2.1 host ∈ TW) (hsame : (T k).1 = ref) {v : Value} (hv : fs[k]? = some v) (hdg : decode cc pc = .ok (.getfield index, 3))
    (kk : W p l e R s m args below meth c H locs cells slots Q (F0 m (pc + 3) ls (v :: rest))) : W p l e R s m args below meth c H locs cells slots Q (F0 m pc ls (.ref (adr n) :: rest)) := by
  obtain ⟨q, hq⟩ := List.getElem?_of_mem hn
  exact va_getN (C := C) (T := T) (N := Nf) hexec hb hK.ts hin hown hK.2 hP q (by rw [wl_at hq, he]) hc k hk (hK.w hlink) (fun x h => by rw [← hsame]; exact h) hv hdg kk
theorem w_pf (hexec : p.tables.exec = Jvm.exec) (hb : c.code = cc) {own ref C : String} {T : u_T} {Nf ci index : Nat} (hK : KE D cA s) (hin : ∀ w ∈ u_ws C T Nf, w ∈ TW) (ty0 : Nat → FieldType) (hty : ∀ k, k < Nf → parseFieldDescriptor (T k).2.2.1 = some (ty0 k)) (hnm : ∀ a, a < Nf → ∀ b, b < Nf → a ≠ b → (T a).2.1 ≠ (T b).2.1) (hown : s.vm.findClass own = some m.cls) (hi : wI N adr) (hP : va_P D classes (wl N adr cn) H) (hS : va_S A H0 H locs) (hA : ∀ n ∈ N, A (adr n)) (hn : n ∈ N) {fs : List Value} (he : cn n = .inr (ci, fs)) (hc : classes[ci]? = some (C, T, Nf)) (k : Nat) (hk : k < Nf) (hlink : Cond.fieldLink own index ref (T k).2.1 (T k).2.2.1 ∈ TW) (hsame : (T k).1 = ref) (hfin : (T k).2.2.2 = false) {v : Value} (hna : narrow (ty0 k) v = v) (hfit : fits (ty0 k) v = true) (hl : fs.length = Nf)
    (hdg : decode cc pc = .ok (.putfield index, 3)) (kk : ∀ (H1 : Heap) (locs1 : List Loc), va_P D classes (wl N adr (va_up cn n (.inr (ci, fs.set k v)))) H1 → va_S A H0 H1 locs1 → W p l e R s m args below meth c H1 locs1 cells slots Q (F0 m (pc + 3) ls rest)) : W p l e R s m args below meth c H locs cells slots Q (F0 m pc ls (v :: .ref (adr n) :: rest)) := by
  obtain ⟨q, hq⟩ := List.getElem?_of_mem hn
  exact va_put (C := C) (T := T) (N := Nf) hexec hb hK.ts hin ty0 hty hnm hown hK.2 hP (wl_D hi hA) hS q (by rw [wl_at hq, he]) hc k hk (hK.w hlink) (fun x h => by rw [← hsame]; exact h) hfin (hty k hk) hna hfit (by rw [hl]; exact hk) hdg (fun H1 l1 h1 _ h3 => kk H1 l1 (by rw [wl_set hi.1 hq] at h1; exact h1) h3)
theorem w_pfN (hexec : p.tables.exec = Jvm.exec) (hb : c.code = cc) {own ref C host : String} {T : u_T} {Nf ci index : Nat} (hK : KE D cA s) (hin : ∀ w ∈ u_ws C T Nf, w ∈ TW) (ty0 : Nat → FieldType) (hty : ∀ k, k < Nf → parseFieldDescriptor (T k).2.2.1 = some (ty0 k)) (hnm : ∀ a, a < Nf → ∀ b, b < Nf → a ≠ b → (T a).2.1 ≠ (T b).2.1) (hown : s.vm.findClass own = some m.cls) (hi : wI N adr) (hP : va_P D classes (wl N adr cn) H) (hS : va_S A H0 H locs) (hA : ∀ n ∈ N, A (adr n)) (hn : n ∈ N) {fs : List Value} (he : cn n = .inr (ci, fs)) (hc : classes[ci]? = some (C, T, Nf)) (k : Nat) (hk : k < Nf) (hlink : Cond.fieldLinkNest own index ref (T k).2.1 (T k).2.2.1 host ∈ TW) (hsame : (T k).1 = ref) (hfin : (T k).2.2.2 = false) {v : Value} (hna : narrow (ty0 k) v = v) (hfit : fits (ty0 k) v = true) (hl : fs.length = Nf)
    (hdg : decode cc pc = .ok (.putfield index, 3)) (kk : ∀ (H1 : Heap) (locs1 : List Loc), va_P D classes (wl N adr (va_up cn n (.inr (ci, fs.set k v)))) H1 → va_S A H0 H1 locs1 → W p l e R s m args below meth c H1 locs1 cells slots Q (F0 m (pc + 3) ls rest)) : W p l e R s m args below meth c H locs cells slots Q (F0 m pc ls (v :: .ref (adr n) :: rest)) := by
  obtain ⟨q, hq⟩ := List.getElem?_of_mem hn
  exact va_putN (C := C) (T := T) (N := Nf) hexec hb hK.ts hin ty0 hty hnm hown hK.2 hP (wl_D hi hA) hS q (by rw [wl_at hq, he]) hc k hk (hK.w hlink) (fun x h => by rw [← hsame]; exact h) hfin (hty k hk) hna hfit (by rw [hl]; exact hk) hdg (fun H1 l1 h1 _ h3 => kk H1 l1 (by rw [wl_set hi.1 hq] at h1; exact h1) h3)
theorem w_ld (hexec : p.tables.exec = Jvm.exec) (hb : c.code = cc) (hK : KE D cA s) (hP : va_P D classes (wl N adr cn) H) (hn : n ∈ N) {len : Nat} {f : Nat → Int32} (he : cn n = .inl (cA 0, len, .inl f)) {i : Int32} {a : Int} (j : Nat) (hi : i.toInt = a) (hj : a = (j : Int)) (hlt : j < len) (hdg : decode cc pc = .ok (.iaload, 1))
    (kk : ∀ z : Int32, z = f j → W p l e R s m args below meth c H locs cells slots Q (F0 m (pc + 1) ls (.int z :: rest))) : W p l e R s m args below meth c H locs cells slots Q (F0 m pc ls (.int i :: .ref (adr n) :: rest)) := by
  obtain ⟨q, hq⟩ := List.getElem?_of_mem hn
  exact va_iald hexec hb hK.2 hP q 0 (by rw [wl_at hq, he]) rfl (i_vpin hi (by omega) (by omega)) hdg (kk _ (by rw [i_nat (hi.trans hj)]))
theorem w_zld (hexec : p.tables.exec = Jvm.exec) (hb : c.code = cc) (hK : KE D cA s) (hP : va_P D classes (wl N adr cn) H) (hn : n ∈ N) {len : Nat} {f : Nat → Int32} (he : cn n = .inl (cA 1, len, .inl f)) {i : Int32} {a : Int} (j : Nat) (hi : i.toInt = a) (hj : a = (j : Int)) (hlt : j < len) (hdg : decode cc pc = .ok (.baload, 1))
    (kk : ∀ z : Int32, z = f j → W p l e R s m args below meth c H locs cells slots Q (F0 m (pc + 1) ls (.int z :: rest))) : W p l e R s m args below meth c H locs cells slots Q (F0 m pc ls (.int i :: .ref (adr n) :: rest)) := by
  obtain ⟨q, hq⟩ := List.getElem?_of_mem hn
  exact va_zald hexec hb hK.2 hP q 1 (by rw [wl_at hq, he]) rfl (i_vpin hi (by omega) (by omega)) hdg (kk _ (by rw [i_nat (hi.trans hj)]))
theorem w_st (hexec : p.tables.exec = Jvm.exec) (hb : c.code = cc) (hK : KE D cA s) (hi : wI N adr) (hP : va_P D classes (wl N adr cn) H) (hS : va_S A H0 H locs) (hA : ∀ n ∈ N, A (adr n)) (hn : n ∈ N) {len : Nat} {f : Nat → Int32} (he : cn n = .inl (cA 0, len, .inl f)) {i : Int32} {a : Int} {x : Int32} (j : Nat) (hi2 : i.toInt = a) (hj : a = (j : Int)) (hlt : j < len) (hdg : decode cc pc = .ok (.iastore, 1))
    (kk : ∀ (H1 : Heap) (locs1 : List Loc), va_P D classes (wl N adr (va_up cn n (.inl (cA 0, len, .inl (upd f j x))))) H1 → va_S A H0 H1 locs1 → W p l e R s m args below meth c H1 locs1 cells slots Q (F0 m (pc + 1) ls rest)) : W p l e R s m args below meth c H locs cells slots Q (F0 m pc ls (.int x :: .int i :: .ref (adr n) :: rest)) := by
  obtain ⟨q, hq⟩ := List.getElem?_of_mem hn
  exact va_iast hexec hb hK.2 hP (wl_D hi hA) hS q 0 (by rw [wl_at hq, he]) rfl (i_vpin hi2 (by omega) (by omega)) hdg (fun H1 l1 h1 _ h3 => kk H1 l1 (by rw [wl_set hi.1 hq, i_nat (hi2.trans hj)] at h1; exact h1) h3)
theorem bi_vp (b : Bool) : vp_nar .boolean (bi b) = bi b := by cases b <;> rfl
theorem w_zst (hexec : p.tables.exec = Jvm.exec) (hb : c.code = cc) (hK : KE D cA s) (hi : wI N adr) (hP : va_P D classes (wl N adr cn) H) (hS : va_S A H0 H locs) (hA : ∀ n ∈ N, A (adr n)) (hn : n ∈ N) {len : Nat} {f : Nat → Int32} (he : cn n = .inl (cA 1, len, .inl f)) {i : Int32} {a : Int} {x : Bool} (j : Nat) (hi2 : i.toInt = a) (hj : a = (j : Int)) (hlt : j < len) (hdg : decode cc pc = .ok (.bastore, 1))
    (kk : ∀ (H1 : Heap) (locs1 : List Loc), va_P D classes (wl N adr (va_up cn n (.inl (cA 1, len, .inl (upd f j (bi x)))))) H1 → va_S A H0 H1 locs1 → W p l e R s m args below meth c H1 locs1 cells slots Q (F0 m (pc + 1) ls rest)) : W p l e R s m args below meth c H locs cells slots Q (F0 m pc ls (.int (bi x) :: .int i :: .ref (adr n) :: rest)) := by
  obtain ⟨q, hq⟩ := List.getElem?_of_mem hn
  exact va_zast hexec hb hK.2 hP (wl_D hi hA) hS q 1 (by rw [wl_at hq, he]) rfl (i_vpin hi2 (by omega) (by omega)) hdg (fun H1 l1 h1 _ h3 => kk H1 l1 (by rw [wl_set hi.1 hq, i_nat (hi2.trans hj), bi_vp] at h1; exact h1) h3)
theorem w_rec (hK : KE D cA s) (hP : va_P D classes (wl N adr cn) H) (hn : n ∈ N) {ci : Nat} {fs : List Value} (he : cn n = .inr (ci, fs)) {q : vw_C} (hc : classes[ci]? = some q) : ∃ cell : Cell, H[adr n]? = some cell ∧ cell.vm.isStatics = false ∧ s.vm.findClass q.1 = some cell.cls := by
  obtain ⟨k, hk⟩ := List.getElem?_of_mem hn
  exact va_recv hK.2 hP hc (q0 := k) (by rw [wl_at hk, he])
end WR
/-! the model: an object of 36 fields; the arrays are named by their fields, the object by 0 -/
def mN : List Nat := [0, 2, 3, 5, 6, 7, 8, 9, 10, 11, 12, 14, 15, 16, 18, 19, 27, 29, 30, 33, 34, 35]
def mLen (n : Nat) : Nat := match n with
  | 2 => 10 | 3 => 10 | 5 => 12 | 6 => 12 | 7 => 12 | 8 => 12 | 9 => 12 | 10 => 3 | 11 => 30 | 12 => 30 | 14 => 12 | 15 => 12 | 16 => 12 | 18 => 120 | 19 => 120 | 27 => 10 | 29 => 10 | 30 => 10 | 33 => 10 | 34 => 11 | _ => 11
def mAr (n : Nat) : Bool := n != 0 && mN.contains n
def mTy (n : Nat) : Nat := if n = 9 ∨ n = 27 then 1 else 0
def mo (adr : Nat → Nat) (I : Nat → Int32) : List Value := (List.range 36).map fun k => if mAr k = true then .ref (adr k) else .int (I k)
def cM (cA : Nat → ClassId) (adr : Nat → Nat) (I : Nat → Int32) (F : Nat → Nat → Int32) (n : Nat) : va_E := if n = 0 then .inr (0, mo adr I) else .inl (cA (mTy n), mLen n, .inl (F n))
/-- the heap holds the model -/
def MP (D : va_G) (cA : Nat → ClassId) (adr : Nat → Nat) (I : Nat → Int32) (F : Nat → Nat → Int32) (H : Heap) : Prop := va_P D classes (wl mN adr (cM cA adr I F)) H
theorem mo_set {adr : Nat → Nat} {I : Nat → Int32} {k : Nat} (hk : mAr k = false) (v : Int32) : (mo adr I).set k (.int v) = mo adr (va_up I k v) := by
  apply List.ext_getElem?
  intro j
  by_cases hj : j = k
  · subst hj
    by_cases hl : j < 36
    · rw [List.getElem?_set_self (by simp [mo]; exact hl)]
      simp [mo, hl, hk, va_up]
    · rw [List.getElem?_eq_none (by simp [mo]; omega), List.getElem?_eq_none (by simp [mo]; omega)]
  · rw [List.getElem?_set_ne (Ne.symm hj)]
    by_cases hl : j < 36
    · simp [mo, hl, va_up, hj]
    · rw [List.getElem?_eq_none (by simp [mo]; omega), List.getElem?_eq_none (by simp [mo]; omega)]
theorem cM_I {cA : Nat → ClassId} {adr : Nat → Nat} {I : Nat → Int32} {F : Nat → Nat → Int32} {k : Nat} (hk : mAr k = false) (v : Int32) : va_up (cM cA adr I F) 0 (.inr (0, (mo adr I).set k (.int v))) = cM cA adr (va_up I k v) F := by
  funext n
  by_cases hn : n = 0
  · subst hn; rw [va_up_self, mo_set hk]; rfl
  · rw [va_up_ne _ _ hn]; simp [cM, hn]
theorem cM_F {cA : Nat → ClassId} {adr : Nat → Nat} {I : Nat → Int32} {F : Nat → Nat → Int32} {n : Nat} (hn : n ≠ 0) (g : Nat → Int32) : va_up (cM cA adr I F) n (.inl (cA (mTy n), mLen n, .inl g)) = cM cA adr I (va_up F n g) := by
  funext k
  by_cases hk : k = n
  · subst hk; rw [va_up_self]; simp [cM, hn, va_up]
  · rw [va_up_ne _ _ hk]
    by_cases h0 : k = 0
    · subst h0; simp [cM]
    · simp [cM, h0, va_up, hk]
section MR
variable {p : Program} {l : Launch} {e : Env} {R : Room} {s : State} {m : MethodId} {args : Array Value} {below : List Frame} {meth : Method} {c : Code} {H : Heap} {locs : List Loc} {cells slots : Nat} {Q : State → Prop}
variable {cc : ByteArray} {pc : Nat} {ls : Array Slot} {rest : List Value} {D : va_G} {cA : Nat → ClassId} {A : Nat → Prop} {H0 : Heap} {adr : Nat → Nat} {I : Nat → Int32} {F : Nat → Nat → Int32}
theorem m_gi (hexec : p.tables.exec = Jvm.exec) (hb : c.code = cc) {index : Nat} (hK : KE D cA s) (hown : s.vm.findClass "RangeSheetModel" = some m.cls) (hP : MP D cA adr I F H) (k : Nat) (hk : (k < 36 ∧ mAr k = false) ∧ (F_Mod k).1 = "RangeSheetModel") (hlink : Cond.fieldLink "RangeSheetModel" index "RangeSheetModel" (F_Mod k).2.1 (F_Mod k).2.2.1 ∈ TW) {v : Int32} (hv : I k = v) (hdg : decode cc pc = .ok (.getfield index, 3))
    (kk : W p l e R s m args below meth c H locs cells slots Q (F0 m (pc + 3) ls (.int v :: rest))) : W p l e R s m args below meth c H locs cells slots Q (F0 m pc ls (.ref (adr 0) :: rest)) :=
  w_gf (C := R_Mod) (T := F_Mod) (Nf := 36) hexec hb hK i_Mod hown hP (n := 0) (by decide) (fs := mo adr I) rfl rfl k hk.1.1 hlink hk.2 (v := .int v) (by simp [mo, hk.1.1, hk.1.2, hv]) hdg kk
theorem m_gr (hexec : p.tables.exec = Jvm.exec) (hb : c.code = cc) {index : Nat} (hK : KE D cA s) (hown : s.vm.findClass "RangeSheetModel" = some m.cls) (hP : MP D cA adr I F H) (k : Nat) (hk : (k < 36 ∧ mAr k = true) ∧ (F_Mod k).1 = "RangeSheetModel") (hlink : Cond.fieldLink "RangeSheetModel" index "RangeSheetModel" (F_Mod k).2.1 (F_Mod k).2.2.1 ∈ TW) (hdg : decode cc pc = .ok (.getfield index, 3))
    (kk : W p l e R s m args below meth c H locs cells slots Q (F0 m (pc + 3) ls (.ref (adr k) :: rest))) : W p l e R s m args below meth c H locs cells slots Q (F0 m pc ls (.ref (adr 0) :: rest)) :=
  w_gf (C := R_Mod) (T := F_Mod) (Nf := 36) hexec hb hK i_Mod hown hP (n := 0) (by decide) (fs := mo adr I) rfl rfl k hk.1.1 hlink hk.2 (v := .ref (adr k)) (by simp [mo, hk.1.1, hk.1.2]) hdg kk
theorem m_pi (hexec : p.tables.exec = Jvm.exec) (hb : c.code = cc) {index : Nat} (hK : KE D cA s) (hown : s.vm.findClass "RangeSheetModel" = some m.cls) (hi : wI mN adr) (hP : MP D cA adr I F H) (hS : va_S A H0 H locs) (hA : ∀ n ∈ mN, A (adr n)) (k : Nat) (hk : ((k < 36 ∧ mAr k = false) ∧ (F_Mod k).2.2.2 = false) ∧ (F_Mod k).1 = "RangeSheetModel") (hlink : Cond.fieldLink "RangeSheetModel" index "RangeSheetModel" (F_Mod k).2.1 (F_Mod k).2.2.1 ∈ TW) {v : Int32} (hna : narrow (t_Mod k) (.int v) = .int v) (hfit : fits (t_Mod k) (.int v) = true) (hdg : decode cc pc = .ok (.putfield index, 3))
    (kk : ∀ (H1 : Heap) (locs1 : List Loc), MP D cA adr (va_up I k v) F H1 → va_S A H0 H1 locs1 → W p l e R s m args below meth c H1 locs1 cells slots Q (F0 m (pc + 3) ls rest)) : W p l e R s m args below meth c H locs cells slots Q (F0 m pc ls (.int v :: .ref (adr 0) :: rest)) :=
  w_pf (C := R_Mod) (T := F_Mod) (Nf := 36) hexec hb hK i_Mod t_Mod t_Mod_ok n_Mod hown hi hP hS hA (n := 0) (by decide) (fs := mo adr I) rfl rfl k hk.1.1.1 hlink hk.2 hk.1.2 (v := .int v) hna hfit (by simp [mo]) hdg (fun H1 l1 h1 h3 => kk H1 l1 (by rw [cM_I hk.1.1.2] at h1; exact h1) h3)
theorem m_ld (hexec : p.tables.exec = Jvm.exec) (hb : c.code = cc) (hK : KE D cA s) (hP : MP D cA adr I F H) (n : Nat) (hn : n ∈ mN ∧ n ≠ 0 ∧ mTy n = 0) {i : Int32} {a : Int} (j : Nat) (hi : i.toInt = a) (hj : a = (j : Int)) (hlt : j < mLen n) (hdg : decode cc pc = .ok (.iaload, 1))
    (kk : ∀ z : Int32, z = F n j → W p l e R s m args below meth c H locs cells slots Q (F0 m (pc + 1) ls (.int z :: rest))) : W p l e R s m args below meth c H locs cells slots Q (F0 m pc ls (.int i :: .ref (adr n) :: rest)) :=
  w_ld hexec hb hK hP hn.1 (f := F n) (len := mLen n) (by simp [cM, hn.2.1, hn.2.2]) j hi hj hlt hdg kk
theorem m_zld (hexec : p.tables.exec = Jvm.exec) (hb : c.code = cc) (hK : KE D cA s) (hP : MP D cA adr I F H) (n : Nat) (hn : n ∈ mN ∧ n ≠ 0 ∧ mTy n = 1) {i : Int32} {a : Int} (j : Nat) (hi : i.toInt = a) (hj : a = (j : Int)) (hlt : j < mLen n) (hdg : decode cc pc = .ok (.baload, 1))
    (kk : ∀ z : Int32, z = F n j → W p l e R s m args below meth c H locs cells slots Q (F0 m (pc + 1) ls (.int z :: rest))) : W p l e R s m args below meth c H locs cells slots Q (F0 m pc ls (.int i :: .ref (adr n) :: rest)) :=
  w_zld hexec hb hK hP hn.1 (f := F n) (len := mLen n) (by simp [cM, hn.2.1, hn.2.2]) j hi hj hlt hdg kk
theorem m_st (hexec : p.tables.exec = Jvm.exec) (hb : c.code = cc) (hK : KE D cA s) (hi : wI mN adr) (hP : MP D cA adr I F H) (hS : va_S A H0 H locs) (hA : ∀ n ∈ mN, A (adr n)) (n : Nat) (hn : n ∈ mN ∧ n ≠ 0 ∧ mTy n = 0) {i : Int32} {a : Int} {x : Int32} (j : Nat) (hi2 : i.toInt = a) (hj : a = (j : Int)) (hlt : j < mLen n) (hdg : decode cc pc = .ok (.iastore, 1))
    (kk : ∀ (H1 : Heap) (locs1 : List Loc), MP D cA adr I (va_up F n (upd (F n) j x)) H1 → va_S A H0 H1 locs1 → W p l e R s m args below meth c H1 locs1 cells slots Q (F0 m (pc + 1) ls rest)) : W p l e R s m args below meth c H locs cells slots Q (F0 m pc ls (.int x :: .int i :: .ref (adr n) :: rest)) :=
  w_st hexec hb hK hi hP hS hA hn.1 (f := F n) (len := mLen n) (by simp [cM, hn.2.1, hn.2.2]) j hi2 hj hlt hdg (fun H1 l1 h1 h3 => kk H1 l1 (by rw [← hn.2.2, cM_F hn.2.1] at h1; exact h1) h3)
theorem m_zst (hexec : p.tables.exec = Jvm.exec) (hb : c.code = cc) (hK : KE D cA s) (hi : wI mN adr) (hP : MP D cA adr I F H) (hS : va_S A H0 H locs) (hA : ∀ n ∈ mN, A (adr n)) (n : Nat) (hn : n ∈ mN ∧ n ≠ 0 ∧ mTy n = 1) {i : Int32} {a : Int} {x : Bool} (j : Nat) (hi2 : i.toInt = a) (hj : a = (j : Int)) (hlt : j < mLen n) (hdg : decode cc pc = .ok (.bastore, 1))
    (kk : ∀ (H1 : Heap) (locs1 : List Loc), MP D cA adr I (va_up F n (upd (F n) j (bi x))) H1 → va_S A H0 H1 locs1 → W p l e R s m args below meth c H1 locs1 cells slots Q (F0 m (pc + 1) ls rest)) : W p l e R s m args below meth c H locs cells slots Q (F0 m pc ls (.int (bi x) :: .int i :: .ref (adr n) :: rest)) :=
  w_zst hexec hb hK hi hP hS hA hn.1 (f := F n) (len := mLen n) (by simp [cM, hn.2.1, hn.2.2]) j hi2 hj hlt hdg (fun H1 l1 h1 h3 => kk H1 l1 (by rw [← hn.2.2, cM_F hn.2.1] at h1; exact h1) h3)
theorem m_rec (hK : KE D cA s) (hP : MP D cA adr I F H) : ∃ cell : Cell, H[adr 0]? = some cell ∧ cell.vm.isStatics = false ∧ s.vm.findClass "RangeSheetModel" = some cell.cls :=
  w_rec hK hP (n := 0) (by decide) (ci := 0) (fs := mo adr I) rfl (q := (R_Mod, F_Mod, 36)) rfl
end MR
