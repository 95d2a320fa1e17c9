/-! the law's own walk -/
abbrev b_Law_law : ByteArray := code
theorem arr_of {args : Array Value} {s : State} {ty : FieldType} (h : (Cond.arrayClass ty).before args s = true) : ∃ c, ArrOfT s c ty ∧ s.vm.findClass ("[" ++ ty.toString) = some c := by
  obtain ⟨c, k, comp, h1, h2, h3⟩ := Cond.arrayClass_spec h
  exact ⟨c, fun n z => ⟨fun k h => (by cases h), k, h2, comp, h3⟩, h1⟩
theorem arr_ofO {args : Array Value} {s : State} {C : String} (h : (Cond.arrayOver (.object C)).before args s = true) : ∃ c, ArrOfT s c (.object C) ∧ va_RA s c (.object C) := by
  obtain ⟨comp, c, k, h1, h2, h3, h4, h5⟩ := Cond.arrayOver_spec h
  exact ⟨c, fun n z => ⟨fun k h => (by cases h), k, h3, comp, h4⟩, k, comp, h3, h4, h1, h5⟩
theorem KT.ts {s : State} (h : KT s) {a : Array Value} : ∀ w ∈ TW, w.before a s = true := fun w hw => h w hw a
theorem KT.w {s : State} (h : KT s) {w : Cond} (hw : w ∈ TW) : w.before #[] s = true := h w hw #[]
theorem ke_start {s : State} (hK : KT s) : ∃ (D : va_G) (cA : Nat → ClassId), KE D cA s := by
  obtain ⟨c0, i0, k0⟩ := u_known (C := R_Mod) (T := F_Mod) (N := 36) (n := 36) hK.ts i_Mod (hK.w t_732)
  obtain ⟨c1, i1, k1⟩ := u_known (C := R_Sht) (T := F_Sht) (N := 19) (n := 19) hK.ts i_Sht (hK.w t_24)
  obtain ⟨c2, i2, k2⟩ := u_known (C := R_Box) (T := F_Box) (N := 3) (n := 3) hK.ts i_Box (hK.w t_32)
  obtain ⟨c3, i3, k3⟩ := u_known (C := R_Rows) (T := F_Rows) (N := 3) (n := 3) hK.ts i_Rows (hK.w t_64)
  obtain ⟨c4, i4, k4⟩ := u_known (C := R_AtMost) (T := F_AtMost) (N := 4) (n := 4) hK.ts i_AtMost (hK.w t_612)
  obtain ⟨c5, i5, k5⟩ := u_known (C := R_Different) (T := F_Different) (N := 2) (n := 2) hK.ts i_Different (hK.w t_200)
  obtain ⟨c6, i6, k6⟩ := u_known (C := R_Lookup) (T := F_Lookup) (N := 4) (n := 4) hK.ts i_Lookup (hK.w t_291)
  obtain ⟨c7, i7, k7⟩ := u_known (C := R_Sum) (T := F_Sum) (N := 10) (n := 10) hK.ts i_Sum (hK.w t_500)
  obtain ⟨c8, i8, k8⟩ := u_known (C := R_Product) (T := F_Product) (N := 10) (n := 10) hK.ts i_Product (hK.w t_544)
  obtain ⟨c9, i9, k9⟩ := u_known (C := R_Quotient) (T := F_Quotient) (N := 10) (n := 10) hK.ts i_Quotient (hK.w t_561)
  obtain ⟨c10, i10, k10⟩ := u_known (C := R_Lesser) (T := F_Lesser) (N := 10) (n := 10) hK.ts i_Lesser (hK.w t_578)
  obtain ⟨c11, i11, k11⟩ := u_known (C := R_Greater) (T := F_Greater) (N := 10) (n := 10) hK.ts i_Greater (hK.w t_595)
  obtain ⟨c12, i12, k12⟩ := u_known (C := R_If) (T := F_If) (N := 10) (n := 10) hK.ts i_If (hK.w t_629)
  obtain ⟨a0, h0, f0⟩ := arr_of (hK.w t_59)
  obtain ⟨a1, h1, f1⟩ := arr_of (hK.w t_846)
  obtain ⟨a2, h2, f2⟩ := arr_of (hK.w t_1054)
  obtain ⟨a3, h3, f3⟩ := arr_ofO (hK.w t_61)
  obtain ⟨a4, h4, f4⟩ := arr_ofO (hK.w t_63)
  obtain ⟨a5, h5, f5⟩ := arr_ofO (hK.w t_84)
  refine ⟨(fun k => match k with | 0 => c0 | 1 => c1 | 2 => c2 | 3 => c3 | 4 => c4 | 5 => c5 | 6 => c6 | 7 => c7 | 8 => c8 | 9 => c9 | 10 => c10 | 11 => c11 | _ => c12, fun k => match k with | 0 => i0 | 1 => i1 | 2 => i2 | 3 => i3 | 4 => i4 | 5 => i5 | 6 => i6 | 7 => i7 | 8 => i8 | 9 => i9 | 10 => i10 | 11 => i11 | _ => i12), (fun k => match k with | 0 => a0 | 1 => a1 | 2 => a2 | 3 => a3 | 4 => a4 | _ => a5), hK, ?_, ?_⟩
  · intro k q hq
    match k, hq with
    | 0, hq => cases hq; exact k0
    | 1, hq => cases hq; exact k1
    | 2, hq => cases hq; exact k2
    | 3, hq => cases hq; exact k3
    | 4, hq => cases hq; exact k4
    | 5, hq => cases hq; exact k5
    | 6, hq => cases hq; exact k6
    | 7, hq => cases hq; exact k7
    | 8, hq => cases hq; exact k8
    | 9, hq => cases hq; exact k9
    | 10, hq => cases hq; exact k10
    | 11, hq => cases hq; exact k11
    | 12, hq => cases hq; exact k12
    | k + 13, hq => simp [classes] at hq
  · intro k q hq
    match k, hq with
    | 0, hq => cases hq; exact ⟨h0, f0⟩
    | 1, hq => cases hq; exact ⟨h1, f1⟩
    | 2, hq => cases hq; exact ⟨h2, f2⟩
    | 3, hq => cases hq; exact ⟨h3, f3⟩
    | 4, hq => cases hq; exact ⟨h4, f4⟩
    | 5, hq => cases hq; exact ⟨h5, f5⟩
    | k + 6, hq => simp [tysA] at hq
theorem kpW {D : va_G} {N : List Nat} {adr : Nat → Nat} {cn : Nat → va_E} {H H1 : Heap} {B : Nat → Prop} (hP : va_P D classes (wl N adr cn) H) (hk : ∀ q : Nat, q < H.size → ¬ B q → H1[q]? = H[q]?) (hd : ∀ n ∈ N, adr n < H.size → ¬ B (adr n)) : va_P D classes (wl N adr cn) H1 := hP.kept (fun k q hq => by
  obtain ⟨n, hn, rfl⟩ := wl_of hq
  have hlt := (hP k _ hq).lt
  exact hk _ hlt (hd n (List.mem_of_getElem? hn) hlt))
theorem kpO {D : va_G} {e : Nat × va_E} {H H1 : Heap} {B : Nat → Prop} (hO : va_at D classes e H) (hk : ∀ q : Nat, q < H.size → ¬ B q → H1[q]? = H[q]?) (hd : e.1 < H.size → ¬ B e.1) : va_at D classes e H1 := hO.kept (hk _ hO.lt (hd hO.lt))
/-- between two calls of the script -/
def LInv (D : va_G) (cA : Nat → ClassId) (sz : Nat) (aM : Nat → Nat) (ax ao : Nat) (H : Heap) : Prop := ∃ (I : Nat → Int32) (F : Nat → Nat → Int32) (nn mm en mk : Nat) (ch : Bool) (adr : Nat → Nat) (cn : Nat → va_E) (x : Nat → Int32) (dn : Bool) (g : Nat → Int64), WF I F nn mm en mk ∧ I 20 = bi ch ∧ MP D cA aM I F H ∧ adr 0 = ax ∧ wI (List.range (56 + mm)) adr ∧ CP cA adr cn I F mm x dn ∧ va_P D classes (wl (List.range (56 + mm)) adr cn) H ∧ va_at D classes (ao, OUT cA g) H ∧ (∀ n ∈ List.range (56 + mm), sz ≤ adr n) ∧ (∀ n ∈ List.range (56 + mm), adr n ≠ ao) ∧ ∀ n ∈ List.range (56 + mm), ∀ k ∈ mN, adr n ≠ aM k
theorem li_mk {D : va_G} {cA : Nat → ClassId} {sz : Nat} {aM : Nat → Nat} {ax ao : Nat} {H : Heap} {J I2 : Nat → Int32} {G F2 : Nat → Nat → Int32} {nn mm en mk : Nat} {c2 : Bool} {adr : Nat → Nat} {cn : Nat → va_E} {x : Nat → Int32} {dn : Bool} {g : Nat → Int64} (hWF : WF J G nn mm en mk) (hSm : Sm J G I2 F2) (h20 : I2 20 = bi c2) (hM : MP D cA aM I2 F2 H) (had : adr 0 = ax) (hi : wI (List.range (56 + mm)) adr) (hC : CP cA adr cn J G mm x dn) (hP : va_P D classes (wl (List.range (56 + mm)) adr cn) H) (hO : va_at D classes (ao, OUT cA g) H) (h1 : ∀ n ∈ List.range (56 + mm), sz ≤ adr n) (h2 : ∀ n ∈ List.range (56 + mm), adr n ≠ ao) (h3 : ∀ n ∈ List.range (56 + mm), ∀ k ∈ mN, adr n ≠ aM k) : LInv D cA sz aM ax ao H :=
  ⟨I2, F2, nn, mm, en, mk, c2, adr, cn, x, dn, g, hSm.wf hWF, h20, hM, had, hi, hC.sm hSm, hP, hO, h1, h2, h3⟩
section LWR
variable {p : Program} {l : Launch} {e : Env} {R : Room} {s : State} {m : MethodId} {args : Array Value} {below : List Frame} {meth : Method} {c : Code} {H : Heap} {locs : List Loc} {cells slots : Nat} {Q : State → Prop}
variable {cc : ByteArray} {pc : Nat} {ls : Array Slot} {rest : List Value} {D : va_G} {cA : Nat → ClassId} {A : Nat → Prop} {b L ao : Nat} {xs : Nat → Int32} {g : Nat → Int64}
theorem w_sld (hexec : p.tables.exec = Jvm.exec) (hb : c.code = cc) (hX : va_X b L xs s s.heap) (hbl : b < s.heap.size) (hbA : ¬ A b) (hS : va_S A s.heap H locs) {i : Int32} {a : Int} (j : Nat) (hi : i.toInt = a) (hj : a = (j : Int)) (hlt : j < L) (hdg : decode cc pc = .ok (.iaload, 1))
    (kk : W p l e R s m args below meth c H locs cells slots Q (F0 m (pc + 1) ls (.int (xs j) :: rest))) : W p l e R s m args below meth c H locs cells slots Q (F0 m pc ls (.int i :: .ref b :: rest)) :=
  va_sld hexec hb hX hbl hbA hS (i_vpin hi (by omega) (by omega)) hdg (by rw [i_nat (hi.trans hj)]; exact kk)
theorem w_slen (hexec : p.tables.exec = Jvm.exec) (hb : c.code = cc) (hX : va_X b L xs s s.heap) (hbl : b < s.heap.size) (hbA : ¬ A b) (hS : va_S A s.heap H locs) (hL : L ≤ 2560) (hdg : decode cc pc = .ok (.arraylength, 1))
    (kk : ∀ z : Int32, z.toInt = (L : Int) → W p l e R s m args below meth c H locs cells slots Q (F0 m (pc + 1) ls (.int z :: rest))) : W p l e R s m args below meth c H locs cells slots Q (F0 m pc ls (.ref b :: rest)) :=
  va_slen hexec hb hX hbl hbA hS hdg (kk _ (nI_toInt (n := L) (by omega)))
theorem w_oal (hexec : p.tables.exec = Jvm.exec) (hb : c.code = cc) (hK : KE D cA s) (hO : va_at D classes (ao, OUT cA g) H) (hdg : decode cc pc = .ok (.laload, 1))
    (kk : W p l e R s m args below meth c H locs cells slots Q (F0 m (pc + 1) ls (.long (g 0) :: rest))) : W p l e R s m args below meth c H locs cells slots Q (F0 m pc ls (.int 0 :: .ref ao :: rest)) :=
  va_lald (ws := [(ao, OUT cA g)]) (n := 1) (f := g) (cA := cA 2) hexec hb hK.2 (fun k q hq => by
    have hk : k = 0 := by have := (List.getElem?_eq_some_iff.mp hq).1; simpa using this
    subst hk
    cases hq
    exact hO) 0 2 rfl rfl (i_vpin kc_0 (by omega) (by decide)) hdg kk
theorem lg_self (x : Int64) : lg_cmp x x = 0 := by simp [lg_cmp]
end LWR
