theorem mk_0 : ∀ a, a < 1024 → (∀ j, j < 10 → a.testBit j = false) → a = 0 := by decide +kernel
theorem lst_lt {a k sd : Nat} (ha : a < 1024) (hk : a.testBit k = true) (hj : ∀ j, k < j → j < 10 → a.testBit j = false) : k < sd ↔ a < 2 ^ sd := by
  constructor
  · intro h
    refine Nat.lt_pow_two_of_testBit _ (fun i hi => ?_)
    by_cases q : i < 10
    · exact hj i (by omega) q
    · exact Nat.testBit_lt_two_pow (Nat.lt_of_lt_of_le ha (Nat.pow_le_pow_right (n := 2) (by decide) (show 10 ≤ i by omega)))
  · intro h
    by_cases q : k < sd
    · exact q
    · have := Nat.testBit_lt_two_pow (i := k) (Nat.lt_of_lt_of_le h (Nat.pow_le_pow_right (n := 2) (by decide) (show sd ≤ k by omega)))
      rw [hk] at this
      cases this
/-- pairs so far -/
def DifT (g : Nat → Int32) (a j i : Nat) : Prop := ∀ i' j', i' < j' → (j' < j ∨ (j' = j ∧ i' < i)) → a.testBit i' = true → a.testBit j' = true → ¬ (g j').toInt = (g i').toInt
theorem DifT.z {g : Nat → Int32} {a : Nat} : DifT g a 0 0 := fun i' j' _ h => by omega
theorem DifT.row {g : Nat → Int32} {a j : Nat} : DifT g a j j ↔ DifT g a (j + 1) 0 :=
  ⟨fun h i' j' a1 a2 => h i' j' a1 (by omega), fun h i' j' a1 a2 => h i' j' a1 (by omega)⟩
theorem DifT.st {g : Nat → Int32} {a j i : Nat} (hij : i < j) : DifT g a j (i + 1) ↔ DifT g a j i ∧ (a.testBit i = true → a.testBit j = true → ¬ (g j).toInt = (g i).toInt) := by
  constructor
  · exact fun h => ⟨fun i' j' a1 a2 => h i' j' a1 (by omega), h i j hij (by omega)⟩
  · intro h i' j' a1 a2
    rcases (by omega : (j' < j ∨ (j' = j ∧ i' < i)) ∨ (j' = j ∧ i' = i)) with q | q
    · exact h.1 i' j' a1 q
    · rw [q.1, q.2]; exact h.2
theorem DifT.no {g : Nat → Int32} {a j i : Nat} {fl : Bool} (hij : i < j) (h : fl = true ↔ DifT g a j i) (hq : a.testBit i = true → a.testBit j = true → ¬ (g j).toInt = (g i).toInt) : (fl && true) = true ↔ DifT g a j (i + 1) := by
  rw [Bool.and_true, DifT.st hij, h]
  exact ⟨fun q => ⟨q, hq⟩, fun q => q.1⟩
/-- rows so far -/
theorem rsP.st {cnt : Nat} {fx fy : Nat → Int32} {x y : Int} : rsP (cnt + 1) fx fy x y ↔ rsP cnt fx fy x y ∨ (x = (fx cnt).toInt ∧ y = (fy cnt).toInt) := by
  constructor
  · rintro ⟨k, hk, e1, e2⟩
    by_cases q : k = cnt
    · subst q; exact Or.inr ⟨e1, e2⟩
    · exact Or.inl ⟨k, by omega, e1, e2⟩
  · rintro (⟨k, hk, e1, e2⟩ | ⟨e1, e2⟩)
    · exact ⟨k, by omega, e1, e2⟩
    · exact ⟨cnt, by omega, e1, e2⟩
def LastOk (sd : Nat) (F : Nat → Nat → Int32) (r : Nat) : Prop := if (F 5 r).toInt = 7 then (F 6 r).toInt.toNat < 2 ^ sd else (F 6 r).toInt < sd ∧ (F 7 r).toInt < sd ∧ ((F 5 r).toInt ≠ 5 → (F 5 r).toInt ≠ 8 → (F 8 r).toInt < sd)
def AccP (F : Nat → Nat → Int32) (r : Nat) : Prop := if (F 5 r).toInt = 7 then Dif F (F 6 r).toInt.toNat else
    (if (F 5 r).toInt = 8 then rsA F (F 8 r).toInt.toNat (F 33 (F 6 r).toInt.toNat).toInt (F 33 (F 7 r).toInt.toNat).toInt
     else if (F 5 r).toInt = 5 then (F 33 (F 6 r).toInt.toNat).toInt + (F 8 r).toInt ≤ (F 33 (F 7 r).toInt.toNat).toInt
     else R3 (F 5 r).toInt.toNat (F 33 (F 6 r).toInt.toNat).toInt (F 33 (F 7 r).toInt.toNat).toInt (F 33 (F 8 r).toInt.toNat).toInt)
theorem SatR_iff {sd : Nat} {F : Nat → Nat → Int32} {r : Nat} : SatR (sd : Int) F r ↔ LastOk sd F r ∧ AccP F r := by
  unfold SatR LastOk AccP
  split
  · rw [Int.toNat_natCast]
  · rfl
theorem d_Sum_holds_0 : decode b_Sum_holds 0 = .ok (.iload_n 1, 1) := by decide +kernel
theorem d_Sum_holds_1 : decode b_Sum_holds 1 = .ok (.iload_n 2, 1) := by decide +kernel
theorem d_Sum_holds_2 : decode b_Sum_holds 2 = .ok (.iadd, 1) := by decide +kernel
theorem d_Sum_holds_3 : decode b_Sum_holds 3 = .ok (.iload_n 3, 1) := by decide +kernel
theorem d_Sum_holds_4 : decode b_Sum_holds 4 = .ok (.if_icmp .ne 7, 3) := by decide +kernel
theorem d_Sum_holds_7 : decode b_Sum_holds 7 = .ok (.iconst 1, 1) := by decide +kernel
theorem d_Sum_holds_8 : decode b_Sum_holds 8 = .ok (.goto 4, 3) := by decide +kernel
theorem d_Sum_holds_11 : decode b_Sum_holds 11 = .ok (.iconst 0, 1) := by decide +kernel
theorem d_Sum_holds_12 : decode b_Sum_holds 12 = .ok (.ireturn, 1) := by decide +kernel
set_option maxHeartbeats 4000000 in
set_option maxRecDepth 20000 in
theorem k_Sum_holds (l : Launch) (D : va_G) (cA : Nat → ClassId) (adr : Nat → Nat) (N : List Nat) (hi : wI N adr) (cn : Nat → va_E) (t : Nat) (va vb vc : Int32) (hra : -100 ≤ va.toInt ∧ va.toInt ≤ 100) (hrb : -100 ≤ vb.toInt ∧ vb.toInt ≤ 100) (hrc : -100 ≤ vc.toInt ∧ vc.toInt ≤ 100) : Ct l y_Sum_holds b_Sum_holds 4 (some .boolean) 3 D cA [.ref (adr t), .int va, .int vb, .int vc] (fun H => va_P D classes (wl N adr cn) H) (fun r H => ∃ q : Bool, r = some (.int (bi q)) ∧ (q = true ↔ R3 0 va.toInt vb.toInt vc.toInt) ∧ va_P D classes (wl N adr cn) H) (wA N adr) := by
  refine Ct.mk (by decide) (Nat.le_of_ble_eq_true rfl) ?_
  intro p e s m args below meth c Q H locs ls hx hb hr hml hlk hown hin hK hQ hS hP hl
  have hl : lv_has ls 4 [(0, .ref (adr t)), (1, .int va), (2, .int vb), (3, .int vc)] := hl
  have hown : s.vm.findClass "RangeSheet$Sum" = some m.cls := hown
  refine lv_iload_n hx hb d_Sum_holds_0 rfl (lv_at hl 1 rfl) ?_
  refine lv_iload_n hx hb d_Sum_holds_1 rfl (lv_at hl 2 rfl) ?_
  refine x_add hx hb d_Sum_holds_2 rfl rfl (by omega) (fun z_1 tz_1 => ?_)
  refine lv_iload_n hx hb d_Sum_holds_3 rfl (lv_at hl 3 rfl) ?_
  refine b_icmp_ne (tgt := 11) hx hb d_Sum_holds_4 (by decide) tz_1 rfl (fun c_2 => ?_) (fun c_2 => ?_)
  · refine lv_iconst (v := 0) hx hb d_Sum_holds_11 (by decide) ?_
    refine W.eq (g2 := F0 m 12 ls [.int (bi false)]) rfl ?_
    refine e_z hx hb hr hlk hQ hS d_Sum_holds_12 ?_
    exact ⟨false, rfl, ⟨fun h => absurd h (by decide), fun h => absurd (show va.toInt + vb.toInt = vc.toInt from h) (by omega)⟩, hP⟩
  · refine lv_iconst (v := 1) hx hb d_Sum_holds_7 (by decide) ?_
    refine lv_goto (tgt := 12) hx hb d_Sum_holds_8 (by decide) ?_
    refine W.eq (g2 := F0 m 12 ls [.int (bi true)]) rfl ?_
    refine e_z hx hb hr hlk hQ hS d_Sum_holds_12 ?_
    exact ⟨true, rfl, ⟨fun _ => (show va.toInt + vb.toInt = vc.toInt from by omega), fun _ => rfl⟩, hP⟩
theorem d_Product_holds_0 : decode b_Product_holds 0 = .ok (.iload_n 1, 1) := by decide +kernel
theorem d_Product_holds_1 : decode b_Product_holds 1 = .ok (.iload_n 2, 1) := by decide +kernel
theorem d_Product_holds_2 : decode b_Product_holds 2 = .ok (.imul, 1) := by decide +kernel
theorem d_Product_holds_3 : decode b_Product_holds 3 = .ok (.iload_n 3, 1) := by decide +kernel
theorem d_Product_holds_4 : decode b_Product_holds 4 = .ok (.if_icmp .ne 7, 3) := by decide +kernel
theorem d_Product_holds_7 : decode b_Product_holds 7 = .ok (.iconst 1, 1) := by decide +kernel
theorem d_Product_holds_8 : decode b_Product_holds 8 = .ok (.goto 4, 3) := by decide +kernel
theorem d_Product_holds_11 : decode b_Product_holds 11 = .ok (.iconst 0, 1) := by decide +kernel
theorem d_Product_holds_12 : decode b_Product_holds 12 = .ok (.ireturn, 1) := by decide +kernel
set_option maxHeartbeats 4000000 in
set_option maxRecDepth 20000 in
theorem k_Product_holds (l : Launch) (D : va_G) (cA : Nat → ClassId) (adr : Nat → Nat) (N : List Nat) (hi : wI N adr) (cn : Nat → va_E) (t : Nat) (va vb vc : Int32) (hra : -100 ≤ va.toInt ∧ va.toInt ≤ 100) (hrb : -100 ≤ vb.toInt ∧ vb.toInt ≤ 100) (hrc : -100 ≤ vc.toInt ∧ vc.toInt ≤ 100) : Ct l y_Product_holds b_Product_holds 4 (some .boolean) 3 D cA [.ref (adr t), .int va, .int vb, .int vc] (fun H => va_P D classes (wl N adr cn) H) (fun r H => ∃ q : Bool, r = some (.int (bi q)) ∧ (q = true ↔ R3 1 va.toInt vb.toInt vc.toInt) ∧ va_P D classes (wl N adr cn) H) (wA N adr) := by
  refine Ct.mk (by decide) (Nat.le_of_ble_eq_true rfl) ?_
  intro p e s m args below meth c Q H locs ls hx hb hr hml hlk hown hin hK hQ hS hP hl
  have hl : lv_has ls 4 [(0, .ref (adr t)), (1, .int va), (2, .int vb), (3, .int vc)] := hl
  have hown : s.vm.findClass "RangeSheet$Product" = some m.cls := hown
  refine lv_iload_n hx hb d_Product_holds_0 rfl (lv_at hl 1 rfl) ?_
  refine lv_iload_n hx hb d_Product_holds_1 rfl (lv_at hl 2 rfl) ?_
  refine x_mul hx hb d_Product_holds_2 rfl rfl (by have := mul_bd (x := va.toInt) (y := vb.toInt) (by omega) (by omega); omega) (fun z_1 tz_1 => ?_)
  refine lv_iload_n hx hb d_Product_holds_3 rfl (lv_at hl 3 rfl) ?_
  refine b_icmp_ne (tgt := 11) hx hb d_Product_holds_4 (by decide) tz_1 rfl (fun c_2 => ?_) (fun c_2 => ?_)
  · refine lv_iconst (v := 0) hx hb d_Product_holds_11 (by decide) ?_
    refine W.eq (g2 := F0 m 12 ls [.int (bi false)]) rfl ?_
    refine e_z hx hb hr hlk hQ hS d_Product_holds_12 ?_
    exact ⟨false, rfl, ⟨fun h => absurd h (by decide), fun h => absurd (show va.toInt * vb.toInt = vc.toInt from h) (by omega)⟩, hP⟩
  · refine lv_iconst (v := 1) hx hb d_Product_holds_7 (by decide) ?_
    refine lv_goto (tgt := 12) hx hb d_Product_holds_8 (by decide) ?_
    refine W.eq (g2 := F0 m 12 ls [.int (bi true)]) rfl ?_
    refine e_z hx hb hr hlk hQ hS d_Product_holds_12 ?_
    exact ⟨true, rfl, ⟨fun _ => (show va.toInt * vb.toInt = vc.toInt from by omega), fun _ => rfl⟩, hP⟩
theorem d_Quotient_holds_0 : decode b_Quotient_holds 0 = .ok (.iload_n 1, 1) := by decide +kernel
theorem d_Quotient_holds_1 : decode b_Quotient_holds 1 = .ok (.ifCond .eq 16, 3) := by decide +kernel
theorem d_Quotient_holds_4 : decode b_Quotient_holds 4 = .ok (.iload_n 2, 1) := by decide +kernel
theorem d_Quotient_holds_5 : decode b_Quotient_holds 5 = .ok (.iload_n 1, 1) := by decide +kernel
theorem d_Quotient_holds_6 : decode b_Quotient_holds 6 = .ok (.invokestatic 7, 3) := by decide +kernel
theorem d_Quotient_holds_9 : decode b_Quotient_holds 9 = .ok (.iload_n 3, 1) := by decide +kernel
theorem d_Quotient_holds_10 : decode b_Quotient_holds 10 = .ok (.if_icmp .ne 7, 3) := by decide +kernel
theorem d_Quotient_holds_13 : decode b_Quotient_holds 13 = .ok (.iconst 1, 1) := by decide +kernel
theorem d_Quotient_holds_14 : decode b_Quotient_holds 14 = .ok (.goto 4, 3) := by decide +kernel
theorem d_Quotient_holds_17 : decode b_Quotient_holds 17 = .ok (.iconst 0, 1) := by decide +kernel
theorem d_Quotient_holds_18 : decode b_Quotient_holds 18 = .ok (.ireturn, 1) := by decide +kernel
set_option maxHeartbeats 4000000 in
set_option maxRecDepth 20000 in
theorem k_Quotient_holds (l : Launch) (D : va_G) (cA : Nat → ClassId) (adr : Nat → Nat) (N : List Nat) (hi : wI N adr) (cn : Nat → va_E) (t : Nat) (va vb vc : Int32) (hra : -100 ≤ va.toInt ∧ va.toInt ≤ 100) (hrb : -100 ≤ vb.toInt ∧ vb.toInt ≤ 100) (hrc : -100 ≤ vc.toInt ∧ vc.toInt ≤ 100) : Ct l y_Quotient_holds b_Quotient_holds 4 (some .boolean) 3 D cA [.ref (adr t), .int va, .int vb, .int vc] (fun H => va_P D classes (wl N adr cn) H) (fun r H => ∃ q : Bool, r = some (.int (bi q)) ∧ (q = true ↔ R3 2 vb.toInt va.toInt vc.toInt) ∧ va_P D classes (wl N adr cn) H) (wA N adr) := by
  refine Ct.mk (by decide) (Nat.le_of_ble_eq_true rfl) ?_
  intro p e s m args below meth c Q H locs ls hx hb hr hml hlk hown hin hK hQ hS hP hl
  have hl : lv_has ls 4 [(0, .ref (adr t)), (1, .int va), (2, .int vb), (3, .int vc)] := hl
  have hown : s.vm.findClass "RangeSheet$Quotient" = some m.cls := hown
  refine lv_iload_n hx hb d_Quotient_holds_0 rfl (lv_at hl 1 rfl) ?_
  refine b_if_eq (tgt := 17) hx hb d_Quotient_holds_1 (by decide) rfl (fun c_1 => ?_) (fun c_1 => ?_)
  · refine lv_iconst (v := 0) hx hb d_Quotient_holds_17 (by decide) ?_
    refine W.eq (g2 := F0 m 18 ls [.int (bi false)]) rfl ?_
    refine e_z hx hb hr hlk hQ hS d_Quotient_holds_18 ?_
    exact ⟨false, rfl, ⟨fun h => absurd h (by decide), fun h => absurd (show va.toInt ≠ 0 ∧ fl vb.toInt va.toInt = vc.toInt from h) (by omega)⟩, hP⟩
  · refine lv_iload_n hx hb d_Quotient_holds_4 rfl (lv_at hl 2 rfl) ?_
    refine lv_iload_n hx hb d_Quotient_holds_5 rfl (lv_at hl 1 rfl) ?_
    refine x_fdiv hx hb hml hown hK hl.1 t_268 (Nat.le_of_ble_eq_true rfl) (Nat.le_of_ble_eq_true rfl) ⟨Nat.le_of_ble_eq_true rfl, Nat.le_of_ble_eq_true rfl⟩ (Nat.le_of_ble_eq_true rfl) rfl rfl (by omega) (by omega) d_Quotient_holds_6 (fun z_2 tz_2 => ?_)
    refine lv_iload_n hx hb d_Quotient_holds_9 rfl (lv_at hl 3 rfl) ?_
    refine b_icmp_ne (tgt := 17) hx hb d_Quotient_holds_10 (by decide) tz_2 rfl (fun c_3 => ?_) (fun c_3 => ?_)
    · refine lv_iconst (v := 0) hx hb d_Quotient_holds_17 (by decide) ?_
      refine W.eq (g2 := F0 m 18 ls [.int (bi false)]) rfl ?_
      refine e_z hx hb hr hlk hQ hS d_Quotient_holds_18 ?_
      exact ⟨false, rfl, ⟨fun h => absurd h (by decide), fun h => absurd (show va.toInt ≠ 0 ∧ fl vb.toInt va.toInt = vc.toInt from h) (by omega)⟩, hP⟩
    · refine lv_iconst (v := 1) hx hb d_Quotient_holds_13 (by decide) ?_
      refine lv_goto (tgt := 18) hx hb d_Quotient_holds_14 (by decide) ?_
      refine W.eq (g2 := F0 m 18 ls [.int (bi true)]) rfl ?_
      refine e_z hx hb hr hlk hQ hS d_Quotient_holds_18 ?_
      exact ⟨true, rfl, ⟨fun _ => (show va.toInt ≠ 0 ∧ fl vb.toInt va.toInt = vc.toInt from ⟨by omega, by omega⟩), fun _ => rfl⟩, hP⟩
theorem d_Lesser_holds_0 : decode b_Lesser_holds 0 = .ok (.iload_n 1, 1) := by decide +kernel
theorem d_Lesser_holds_1 : decode b_Lesser_holds 1 = .ok (.iload_n 2, 1) := by decide +kernel
theorem d_Lesser_holds_2 : decode b_Lesser_holds 2 = .ok (.invokestatic 7, 3) := by decide +kernel
theorem d_Lesser_holds_5 : decode b_Lesser_holds 5 = .ok (.iload_n 3, 1) := by decide +kernel
theorem d_Lesser_holds_6 : decode b_Lesser_holds 6 = .ok (.if_icmp .ne 7, 3) := by decide +kernel
theorem d_Lesser_holds_9 : decode b_Lesser_holds 9 = .ok (.iconst 1, 1) := by decide +kernel
theorem d_Lesser_holds_10 : decode b_Lesser_holds 10 = .ok (.goto 4, 3) := by decide +kernel
theorem d_Lesser_holds_13 : decode b_Lesser_holds 13 = .ok (.iconst 0, 1) := by decide +kernel
theorem d_Lesser_holds_14 : decode b_Lesser_holds 14 = .ok (.ireturn, 1) := by decide +kernel
set_option maxHeartbeats 4000000 in
set_option maxRecDepth 20000 in
theorem k_Lesser_holds (l : Launch) (D : va_G) (cA : Nat → ClassId) (adr : Nat → Nat) (N : List Nat) (hi : wI N adr) (cn : Nat → va_E) (t : Nat) (va vb vc : Int32) (hra : -100 ≤ va.toInt ∧ va.toInt ≤ 100) (hrb : -100 ≤ vb.toInt ∧ vb.toInt ≤ 100) (hrc : -100 ≤ vc.toInt ∧ vc.toInt ≤ 100) : Ct l y_Lesser_holds b_Lesser_holds 4 (some .boolean) 3 D cA [.ref (adr t), .int va, .int vb, .int vc] (fun H => va_P D classes (wl N adr cn) H) (fun r H => ∃ q : Bool, r = some (.int (bi q)) ∧ (q = true ↔ R3 3 va.toInt vb.toInt vc.toInt) ∧ va_P D classes (wl N adr cn) H) (wA N adr) := by
  refine Ct.mk (by decide) (Nat.le_of_ble_eq_true rfl) ?_
  intro p e s m args below meth c Q H locs ls hx hb hr hml hlk hown hin hK hQ hS hP hl
  have hl : lv_has ls 4 [(0, .ref (adr t)), (1, .int va), (2, .int vb), (3, .int vc)] := hl
  have hown : s.vm.findClass "RangeSheet$Lesser" = some m.cls := hown
  refine lv_iload_n hx hb d_Lesser_holds_0 rfl (lv_at hl 1 rfl) ?_
  refine lv_iload_n hx hb d_Lesser_holds_1 rfl (lv_at hl 2 rfl) ?_
  refine x_min hx hb hml hown hK hl.1 t_245 (Nat.le_of_ble_eq_true rfl) (Nat.le_of_ble_eq_true rfl) ⟨Nat.le_of_ble_eq_true rfl, Nat.le_of_ble_eq_true rfl⟩ (Nat.le_of_ble_eq_true rfl) rfl rfl  d_Lesser_holds_2 (fun z_1 tz_1 => ?_)
  refine lv_iload_n hx hb d_Lesser_holds_5 rfl (lv_at hl 3 rfl) ?_
  refine b_icmp_ne (tgt := 13) hx hb d_Lesser_holds_6 (by decide) tz_1 rfl (fun c_2 => ?_) (fun c_2 => ?_)
  · refine lv_iconst (v := 0) hx hb d_Lesser_holds_13 (by decide) ?_
    refine W.eq (g2 := F0 m 14 ls [.int (bi false)]) rfl ?_
    refine e_z hx hb hr hlk hQ hS d_Lesser_holds_14 ?_
    exact ⟨false, rfl, ⟨fun h => absurd h (by decide), fun h => absurd (show min va.toInt vb.toInt = vc.toInt from h) (by omega)⟩, hP⟩
  · refine lv_iconst (v := 1) hx hb d_Lesser_holds_9 (by decide) ?_
    refine lv_goto (tgt := 14) hx hb d_Lesser_holds_10 (by decide) ?_
    refine W.eq (g2 := F0 m 14 ls [.int (bi true)]) rfl ?_
    refine e_z hx hb hr hlk hQ hS d_Lesser_holds_14 ?_
    exact ⟨true, rfl, ⟨fun _ => (show min va.toInt vb.toInt = vc.toInt from by omega), fun _ => rfl⟩, hP⟩
theorem d_Greater_holds_0 : decode b_Greater_holds 0 = .ok (.iload_n 1, 1) := by decide +kernel
theorem d_Greater_holds_1 : decode b_Greater_holds 1 = .ok (.iload_n 2, 1) := by decide +kernel
theorem d_Greater_holds_2 : decode b_Greater_holds 2 = .ok (.invokestatic 7, 3) := by decide +kernel
theorem d_Greater_holds_5 : decode b_Greater_holds 5 = .ok (.iload_n 3, 1) := by decide +kernel
theorem d_Greater_holds_6 : decode b_Greater_holds 6 = .ok (.if_icmp .ne 7, 3) := by decide +kernel
theorem d_Greater_holds_9 : decode b_Greater_holds 9 = .ok (.iconst 1, 1) := by decide +kernel
theorem d_Greater_holds_10 : decode b_Greater_holds 10 = .ok (.goto 4, 3) := by decide +kernel
theorem d_Greater_holds_13 : decode b_Greater_holds 13 = .ok (.iconst 0, 1) := by decide +kernel
theorem d_Greater_holds_14 : decode b_Greater_holds 14 = .ok (.ireturn, 1) := by decide +kernel
set_option maxHeartbeats 4000000 in
set_option maxRecDepth 20000 in
theorem k_Greater_holds (l : Launch) (D : va_G) (cA : Nat → ClassId) (adr : Nat → Nat) (N : List Nat) (hi : wI N adr) (cn : Nat → va_E) (t : Nat) (va vb vc : Int32) (hra : -100 ≤ va.toInt ∧ va.toInt ≤ 100) (hrb : -100 ≤ vb.toInt ∧ vb.toInt ≤ 100) (hrc : -100 ≤ vc.toInt ∧ vc.toInt ≤ 100) : Ct l y_Greater_holds b_Greater_holds 4 (some .boolean) 3 D cA [.ref (adr t), .int va, .int vb, .int vc] (fun H => va_P D classes (wl N adr cn) H) (fun r H => ∃ q : Bool, r = some (.int (bi q)) ∧ (q = true ↔ R3 4 va.toInt vb.toInt vc.toInt) ∧ va_P D classes (wl N adr cn) H) (wA N adr) := by
  refine Ct.mk (by decide) (Nat.le_of_ble_eq_true rfl) ?_
  intro p e s m args below meth c Q H locs ls hx hb hr hml hlk hown hin hK hQ hS hP hl
  have hl : lv_has ls 4 [(0, .ref (adr t)), (1, .int va), (2, .int vb), (3, .int vc)] := hl
  have hown : s.vm.findClass "RangeSheet$Greater" = some m.cls := hown
  refine lv_iload_n hx hb d_Greater_holds_0 rfl (lv_at hl 1 rfl) ?_
  refine lv_iload_n hx hb d_Greater_holds_1 rfl (lv_at hl 2 rfl) ?_
  refine x_max hx hb hml hown hK hl.1 t_224 (Nat.le_of_ble_eq_true rfl) (Nat.le_of_ble_eq_true rfl) ⟨Nat.le_of_ble_eq_true rfl, Nat.le_of_ble_eq_true rfl⟩ (Nat.le_of_ble_eq_true rfl) rfl rfl  d_Greater_holds_2 (fun z_1 tz_1 => ?_)
  refine lv_iload_n hx hb d_Greater_holds_5 rfl (lv_at hl 3 rfl) ?_
  refine b_icmp_ne (tgt := 13) hx hb d_Greater_holds_6 (by decide) tz_1 rfl (fun c_2 => ?_) (fun c_2 => ?_)
  · refine lv_iconst (v := 0) hx hb d_Greater_holds_13 (by decide) ?_
    refine W.eq (g2 := F0 m 14 ls [.int (bi false)]) rfl ?_
    refine e_z hx hb hr hlk hQ hS d_Greater_holds_14 ?_
    exact ⟨false, rfl, ⟨fun h => absurd h (by decide), fun h => absurd (show max va.toInt vb.toInt = vc.toInt from h) (by omega)⟩, hP⟩
  · refine lv_iconst (v := 1) hx hb d_Greater_holds_9 (by decide) ?_
    refine lv_goto (tgt := 14) hx hb d_Greater_holds_10 (by decide) ?_
    refine W.eq (g2 := F0 m 14 ls [.int (bi true)]) rfl ?_
    refine e_z hx hb hr hlk hQ hS d_Greater_holds_14 ?_
    exact ⟨true, rfl, ⟨fun _ => (show max va.toInt vb.toInt = vc.toInt from by omega), fun _ => rfl⟩, hP⟩
theorem d_If_holds_0 : decode b_If_holds 0 = .ok (.iload_n 1, 1) := by decide +kernel
theorem d_If_holds_1 : decode b_If_holds 1 = .ok (.iconst 1, 1) := by decide +kernel
theorem d_If_holds_2 : decode b_If_holds 2 = .ok (.if_icmp .lt 8, 3) := by decide +kernel
theorem d_If_holds_5 : decode b_If_holds 5 = .ok (.iload_n 2, 1) := by decide +kernel
theorem d_If_holds_6 : decode b_If_holds 6 = .ok (.iload_n 3, 1) := by decide +kernel
theorem d_If_holds_7 : decode b_If_holds 7 = .ok (.if_icmp .gt 7, 3) := by decide +kernel
theorem d_If_holds_10 : decode b_If_holds 10 = .ok (.iconst 1, 1) := by decide +kernel
theorem d_If_holds_11 : decode b_If_holds 11 = .ok (.goto 4, 3) := by decide +kernel
theorem d_If_holds_14 : decode b_If_holds 14 = .ok (.iconst 0, 1) := by decide +kernel
theorem d_If_holds_15 : decode b_If_holds 15 = .ok (.ireturn, 1) := by decide +kernel
set_option maxHeartbeats 4000000 in
set_option maxRecDepth 20000 in
theorem k_If_holds (l : Launch) (D : va_G) (cA : Nat → ClassId) (adr : Nat → Nat) (N : List Nat) (hi : wI N adr) (cn : Nat → va_E) (t : Nat) (va vb vc : Int32) (hra : -100 ≤ va.toInt ∧ va.toInt ≤ 100) (hrb : -100 ≤ vb.toInt ∧ vb.toInt ≤ 100) (hrc : -100 ≤ vc.toInt ∧ vc.toInt ≤ 100) : Ct l y_If_holds b_If_holds 4 (some .boolean) 3 D cA [.ref (adr t), .int va, .int vb, .int vc] (fun H => va_P D classes (wl N adr cn) H) (fun r H => ∃ q : Bool, r = some (.int (bi q)) ∧ (q = true ↔ R3 6 va.toInt vb.toInt vc.toInt) ∧ va_P D classes (wl N adr cn) H) (wA N adr) := by
  refine Ct.mk (by decide) (Nat.le_of_ble_eq_true rfl) ?_
  intro p e s m args below meth c Q H locs ls hx hb hr hml hlk hown hin hK hQ hS hP hl
  have hl : lv_has ls 4 [(0, .ref (adr t)), (1, .int va), (2, .int vb), (3, .int vc)] := hl
  have hown : s.vm.findClass "RangeSheet$If" = some m.cls := hown
  refine lv_iload_n hx hb d_If_holds_0 rfl (lv_at hl 1 rfl) ?_
  refine lv_iconst (v := 1) hx hb d_If_holds_1 (by decide) ?_
  refine b_icmp_lt (tgt := 10) hx hb d_If_holds_2 (by decide) rfl kc_1 (fun c_1 => ?_) (fun c_1 => ?_)
  · refine lv_iconst (v := 1) hx hb d_If_holds_10 (by decide) ?_
    refine lv_goto (tgt := 15) hx hb d_If_holds_11 (by decide) ?_
    refine W.eq (g2 := F0 m 15 ls [.int (bi true)]) rfl ?_
    refine e_z hx hb hr hlk hQ hS d_If_holds_15 ?_
    exact ⟨true, rfl, ⟨fun _ => (show va.toInt < 1 ∨ vb.toInt ≤ vc.toInt from by omega), fun _ => rfl⟩, hP⟩
  · refine lv_iload_n hx hb d_If_holds_5 rfl (lv_at hl 2 rfl) ?_
    refine lv_iload_n hx hb d_If_holds_6 rfl (lv_at hl 3 rfl) ?_
    refine b_icmp_gt (tgt := 14) hx hb d_If_holds_7 (by decide) rfl rfl (fun c_2 => ?_) (fun c_2 => ?_)
    · refine lv_iconst (v := 0) hx hb d_If_holds_14 (by decide) ?_
      refine W.eq (g2 := F0 m 15 ls [.int (bi false)]) rfl ?_
      refine e_z hx hb hr hlk hQ hS d_If_holds_15 ?_
      exact ⟨false, rfl, ⟨fun h => absurd h (by decide), fun h => absurd (show va.toInt < 1 ∨ vb.toInt ≤ vc.toInt from h) (by omega)⟩, hP⟩
    · refine lv_iconst (v := 1) hx hb d_If_holds_10 (by decide) ?_
      refine lv_goto (tgt := 15) hx hb d_If_holds_11 (by decide) ?_
      refine W.eq (g2 := F0 m 15 ls [.int (bi true)]) rfl ?_
      refine e_z hx hb hr hlk hQ hS d_If_holds_15 ?_
      exact ⟨true, rfl, ⟨fun _ => (show va.toInt < 1 ∨ vb.toInt ≤ vc.toInt from by omega), fun _ => rfl⟩, hP⟩
theorem d_Three_accepts_0 : decode b_Three_accepts 0 = .ok (.aload_n 0, 1) := by decide +kernel
theorem d_Three_accepts_1 : decode b_Three_accepts 1 = .ok (.aload_n 1, 1) := by decide +kernel
theorem d_Three_accepts_2 : decode b_Three_accepts 2 = .ok (.aload_n 0, 1) := by decide +kernel
theorem d_Three_accepts_3 : decode b_Three_accepts 3 = .ok (.getfield 9, 3) := by decide +kernel
theorem d_Three_accepts_6 : decode b_Three_accepts 6 = .ok (.iaload, 1) := by decide +kernel
theorem d_Three_accepts_7 : decode b_Three_accepts 7 = .ok (.aload_n 1, 1) := by decide +kernel
theorem d_Three_accepts_8 : decode b_Three_accepts 8 = .ok (.aload_n 0, 1) := by decide +kernel
theorem d_Three_accepts_9 : decode b_Three_accepts 9 = .ok (.getfield 15, 3) := by decide +kernel
theorem d_Three_accepts_12 : decode b_Three_accepts 12 = .ok (.iaload, 1) := by decide +kernel
theorem d_Three_accepts_13 : decode b_Three_accepts 13 = .ok (.aload_n 1, 1) := by decide +kernel
theorem d_Three_accepts_14 : decode b_Three_accepts 14 = .ok (.aload_n 0, 1) := by decide +kernel
theorem d_Three_accepts_15 : decode b_Three_accepts 15 = .ok (.getfield 18, 3) := by decide +kernel
theorem d_Three_accepts_18 : decode b_Three_accepts 18 = .ok (.iaload, 1) := by decide +kernel
theorem d_Three_accepts_19 : decode b_Three_accepts 19 = .ok (.invokevirtual 27, 3) := by decide +kernel
theorem d_Three_accepts_22 : decode b_Three_accepts 22 = .ok (.ireturn, 1) := by decide +kernel
set_option maxHeartbeats 4000000 in
set_option maxRecDepth 20000 in
theorem k_acc_Sum (l : Launch) (D : va_G) (cA : Nat → ClassId) (adr : Nat → Nat) (N : List Nat) (hi : wI N adr) (cn : Nat → va_E) (t : Nat) (xa xb xc : Int32) (e0 : Nat → Int32) (gd : Bool) (hT : TP cn t 7 xa xb xc e0 gd) (hN : t ∈ N) (b : Nat) (g : Nat → Int32) (hG : cn b = .inl (cA 0, 10, .inl g)) (hNb : b ∈ N) (hrg : ∀ k, k < 10 → -100 ≤ (g k).toInt ∧ (g k).toInt ≤ 100) (ca cb cd : Nat) (hxa : xa.toInt = (ca : Int)) (hxb : xb.toInt = (cb : Int)) (hxc : xc.toInt = (cd : Int)) (hca : ca < 10) (hcb : cb < 10) (hcd : cd < 10) : Ct l y_Three_accepts b_Three_accepts 2 (some .boolean) 5 D cA [.ref (adr t), .ref (adr b)] (fun H => va_P D classes (wl N adr cn) H) (fun r H => ∃ q : Bool, r = some (.int (bi q)) ∧ (q = true ↔ R3 0 (g ca).toInt (g cb).toInt (g cd).toInt) ∧ va_P D classes (wl N adr cn) H) (wA N adr) := by
  refine Ct.mk (by decide) (Nat.le_of_ble_eq_true rfl) ?_
  intro p e s m args below meth c Q H locs ls hx hb hr hml hlk hown hin hK hQ hS hP hl
  have hl : lv_has ls 2 [(0, .ref (adr t)), (1, .ref (adr b))] := hl
  have hown : s.vm.findClass "RangeSheet$Three" = some m.cls := hown
  refine lv_aload_n hx hb d_Three_accepts_0 rfl (lv_at hl 0 rfl) ?_
  refine lv_aload_n hx hb d_Three_accepts_1 rfl (lv_at hl 1 rfl) ?_
  refine lv_aload_n hx hb d_Three_accepts_2 rfl (lv_at hl 0 rfl) ?_
  refine w_gf hx hb hK i_Sum hown hP hN hT rfl 0 (by decide) t_511 rfl rfl d_Three_accepts_3 ?_
  refine w_ld hx hb hK hP hNb hG (ca) hxa (by omega) (show ca < 10 by omega) d_Three_accepts_6 (fun z_1 ez_1 => ?_)
  subst ez_1
  refine lv_aload_n hx hb d_Three_accepts_7 rfl (lv_at hl 1 rfl) ?_
  refine lv_aload_n hx hb d_Three_accepts_8 rfl (lv_at hl 0 rfl) ?_
  refine w_gf hx hb hK i_Sum hown hP hN hT rfl 1 (by decide) t_512 rfl rfl d_Three_accepts_9 ?_
  refine w_ld hx hb hK hP hNb hG (cb) hxb (by omega) (show cb < 10 by omega) d_Three_accepts_12 (fun z_2 ez_2 => ?_)
  subst ez_2
  refine lv_aload_n hx hb d_Three_accepts_13 rfl (lv_at hl 1 rfl) ?_
  refine lv_aload_n hx hb d_Three_accepts_14 rfl (lv_at hl 0 rfl) ?_
  refine w_gf hx hb hK i_Sum hown hP hN hT rfl 2 (by decide) t_513 rfl rfl d_Three_accepts_15 ?_
  refine w_ld hx hb hK hP hNb hG (cd) hxc (by omega) (show cd < 10 by omega) d_Three_accepts_18 (fun z_3 ez_3 => ?_)
  subst ez_3
  refine x_A (As := [.int (g ca), .int (g cb), .int (g cd)]) (rest := []) hx hb hml hown hK (k_Sum_holds l D cA adr N hi cn t (g ca) (g cb) (g cd) (hrg _ (by omega)) (hrg _ (by omega)) (hrg _ (by omega))) t_376 t_12 t_356 t_358 t_357 t_374 t_375 ⟨by decide, by decide, yk_Sum_holds.2.2⟩ ⟨Nat.le_of_ble_eq_true rfl, Nat.le_of_ble_eq_true rfl⟩ (w_rec hK hP hN hT rfl) hP rfl hl.1 rfl (Nat.le_of_ble_eq_true rfl) d_Three_accepts_19 ⟨Nat.le_of_ble_eq_true rfl, Nat.le_of_ble_eq_true rfl⟩ hS (fun q h => h) (fun r H locs hq _ hS => ?_)
  obtain ⟨q9, rfl, hq9, hP⟩ := hq
  refine W.eq (g2 := F0 m 22 ls [.int (bi q9)]) rfl ?_
  refine e_z hx hb hr hlk hQ hS d_Three_accepts_22 ?_
  exact ⟨q9, rfl, hq9, hP⟩
theorem d_Three_last_0 : decode b_Three_last 0 = .ok (.aload_n 0, 1) := by decide +kernel
theorem d_Three_last_1 : decode b_Three_last 1 = .ok (.getfield 9, 3) := by decide +kernel
theorem d_Three_last_4 : decode b_Three_last 4 = .ok (.aload_n 0, 1) := by decide +kernel
theorem d_Three_last_5 : decode b_Three_last 5 = .ok (.getfield 15, 3) := by decide +kernel
theorem d_Three_last_8 : decode b_Three_last 8 = .ok (.aload_n 0, 1) := by decide +kernel
theorem d_Three_last_9 : decode b_Three_last 9 = .ok (.getfield 18, 3) := by decide +kernel
theorem d_Three_last_12 : decode b_Three_last 12 = .ok (.invokestatic 21, 3) := by decide +kernel
theorem d_Three_last_15 : decode b_Three_last 15 = .ok (.invokestatic 21, 3) := by decide +kernel
theorem d_Three_last_18 : decode b_Three_last 18 = .ok (.ireturn, 1) := by decide +kernel
set_option maxHeartbeats 4000000 in
set_option maxRecDepth 20000 in
theorem k_last_Sum (l : Launch) (D : va_G) (cA : Nat → ClassId) (adr : Nat → Nat) (N : List Nat) (hi : wI N adr) (cn : Nat → va_E) (t : Nat) (xa xb xc : Int32) (e0 : Nat → Int32) (gd : Bool) (hT : TP cn t 7 xa xb xc e0 gd) (hN : t ∈ N) : Ct l y_Three_last b_Three_last 1 (some .int) 3 D cA [.ref (adr t)] (fun H => va_P D classes (wl N adr cn) H) (fun r H => ∃ z : Int32, r = some (.int z) ∧ z.toInt = max xa.toInt (max xb.toInt xc.toInt) ∧ va_P D classes (wl N adr cn) H) (wA N adr) := by
  refine Ct.mk (by decide) (Nat.le_of_ble_eq_true rfl) ?_
  intro p e s m args below meth c Q H locs ls hx hb hr hml hlk hown hin hK hQ hS hP hl
  have hl : lv_has ls 1 [(0, .ref (adr t))] := hl
  have hown : s.vm.findClass "RangeSheet$Three" = some m.cls := hown
  refine lv_aload_n hx hb d_Three_last_0 rfl (lv_at hl 0 rfl) ?_
  refine w_gf hx hb hK i_Sum hown hP hN hT rfl 0 (by decide) t_511 rfl rfl d_Three_last_1 ?_
  refine lv_aload_n hx hb d_Three_last_4 rfl (lv_at hl 0 rfl) ?_
  refine w_gf hx hb hK i_Sum hown hP hN hT rfl 1 (by decide) t_512 rfl rfl d_Three_last_5 ?_
  refine lv_aload_n hx hb d_Three_last_8 rfl (lv_at hl 0 rfl) ?_
  refine w_gf hx hb hK i_Sum hown hP hN hT rfl 2 (by decide) t_513 rfl rfl d_Three_last_9 ?_
  refine x_max hx hb hml hown hK hl.1 t_232 (Nat.le_of_ble_eq_true rfl) (Nat.le_of_ble_eq_true rfl) ⟨Nat.le_of_ble_eq_true rfl, Nat.le_of_ble_eq_true rfl⟩ (Nat.le_of_ble_eq_true rfl) rfl rfl  d_Three_last_12 (fun z_1 tz_1 => ?_)
  refine x_max hx hb hml hown hK hl.1 t_232 (Nat.le_of_ble_eq_true rfl) (Nat.le_of_ble_eq_true rfl) ⟨Nat.le_of_ble_eq_true rfl, Nat.le_of_ble_eq_true rfl⟩ (Nat.le_of_ble_eq_true rfl) rfl tz_1  d_Three_last_15 (fun z_2 tz_2 => ?_)
  refine e_i hx hb hr hlk hQ hS d_Three_last_18 ?_
  exact ⟨_, rfl, tz_2, hP⟩
set_option maxHeartbeats 4000000 in
set_option maxRecDepth 20000 in
theorem k_acc_Product (l : Launch) (D : va_G) (cA : Nat → ClassId) (adr : Nat → Nat) (N : List Nat) (hi : wI N adr) (cn : Nat → va_E) (t : Nat) (xa xb xc : Int32) (e0 : Nat → Int32) (gd : Bool) (hT : TP cn t 8 xa xb xc e0 gd) (hN : t ∈ N) (b : Nat) (g : Nat → Int32) (hG : cn b = .inl (cA 0, 10, .inl g)) (hNb : b ∈ N) (hrg : ∀ k, k < 10 → -100 ≤ (g k).toInt ∧ (g k).toInt ≤ 100) (ca cb cd : Nat) (hxa : xa.toInt = (ca : Int)) (hxb : xb.toInt = (cb : Int)) (hxc : xc.toInt = (cd : Int)) (hca : ca < 10) (hcb : cb < 10) (hcd : cd < 10) : Ct l y_Three_accepts b_Three_accepts 2 (some .boolean) 5 D cA [.ref (adr t), .ref (adr b)] (fun H => va_P D classes (wl N adr cn) H) (fun r H => ∃ q : Bool, r = some (.int (bi q)) ∧ (q = true ↔ R3 1 (g ca).toInt (g cb).toInt (g cd).toInt) ∧ va_P D classes (wl N adr cn) H) (wA N adr) := by
  refine Ct.mk (by decide) (Nat.le_of_ble_eq_true rfl) ?_
  intro p e s m args below meth c Q H locs ls hx hb hr hml hlk hown hin hK hQ hS hP hl
  have hl : lv_has ls 2 [(0, .ref (adr t)), (1, .ref (adr b))] := hl
  have hown : s.vm.findClass "RangeSheet$Three" = some m.cls := hown
  refine lv_aload_n hx hb d_Three_accepts_0 rfl (lv_at hl 0 rfl) ?_
  refine lv_aload_n hx hb d_Three_accepts_1 rfl (lv_at hl 1 rfl) ?_
  refine lv_aload_n hx hb d_Three_accepts_2 rfl (lv_at hl 0 rfl) ?_
  refine w_gf hx hb hK i_Product hown hP hN hT rfl 0 (by decide) t_511 rfl rfl d_Three_accepts_3 ?_
  refine w_ld hx hb hK hP hNb hG (ca) hxa (by omega) (show ca < 10 by omega) d_Three_accepts_6 (fun z_1 ez_1 => ?_)
  subst ez_1
  refine lv_aload_n hx hb d_Three_accepts_7 rfl (lv_at hl 1 rfl) ?_
  refine lv_aload_n hx hb d_Three_accepts_8 rfl (lv_at hl 0 rfl) ?_
  refine w_gf hx hb hK i_Product hown hP hN hT rfl 1 (by decide) t_512 rfl rfl d_Three_accepts_9 ?_
  refine w_ld hx hb hK hP hNb hG (cb) hxb (by omega) (show cb < 10 by omega) d_Three_accepts_12 (fun z_2 ez_2 => ?_)
  subst ez_2
  refine lv_aload_n hx hb d_Three_accepts_13 rfl (lv_at hl 1 rfl) ?_
  refine lv_aload_n hx hb d_Three_accepts_14 rfl (lv_at hl 0 rfl) ?_
  refine w_gf hx hb hK i_Product hown hP hN hT rfl 2 (by decide) t_513 rfl rfl d_Three_accepts_15 ?_
  refine w_ld hx hb hK hP hNb hG (cd) hxc (by omega) (show cd < 10 by omega) d_Three_accepts_18 (fun z_3 ez_3 => ?_)
  subst ez_3
  refine x_A (As := [.int (g ca), .int (g cb), .int (g cd)]) (rest := []) hx hb hml hown hK (k_Product_holds l D cA adr N hi cn t (g ca) (g cb) (g cd) (hrg _ (by omega)) (hrg _ (by omega)) (hrg _ (by omega))) t_370 t_13 t_356 t_358 t_357 t_368 t_369 ⟨by decide, by decide, yk_Product_holds.2.2⟩ ⟨Nat.le_of_ble_eq_true rfl, Nat.le_of_ble_eq_true rfl⟩ (w_rec hK hP hN hT rfl) hP rfl hl.1 rfl (Nat.le_of_ble_eq_true rfl) d_Three_accepts_19 ⟨Nat.le_of_ble_eq_true rfl, Nat.le_of_ble_eq_true rfl⟩ hS (fun q h => h) (fun r H locs hq _ hS => ?_)
  obtain ⟨q9, rfl, hq9, hP⟩ := hq
  refine W.eq (g2 := F0 m 22 ls [.int (bi q9)]) rfl ?_
  refine e_z hx hb hr hlk hQ hS d_Three_accepts_22 ?_
  exact ⟨q9, rfl, hq9, hP⟩
set_option maxHeartbeats 4000000 in
set_option maxRecDepth 20000 in
theorem k_last_Product (l : Launch) (D : va_G) (cA : Nat → ClassId) (adr : Nat → Nat) (N : List Nat) (hi : wI N adr) (cn : Nat → va_E) (t : Nat) (xa xb xc : Int32) (e0 : Nat → Int32) (gd : Bool) (hT : TP cn t 8 xa xb xc e0 gd) (hN : t ∈ N) : Ct l y_Three_last b_Three_last 1 (some .int) 3 D cA [.ref (adr t)] (fun H => va_P D classes (wl N adr cn) H) (fun r H => ∃ z : Int32, r = some (.int z) ∧ z.toInt = max xa.toInt (max xb.toInt xc.toInt) ∧ va_P D classes (wl N adr cn) H) (wA N adr) := by
  refine Ct.mk (by decide) (Nat.le_of_ble_eq_true rfl) ?_
  intro p e s m args below meth c Q H locs ls hx hb hr hml hlk hown hin hK hQ hS hP hl
  have hl : lv_has ls 1 [(0, .ref (adr t))] := hl
  have hown : s.vm.findClass "RangeSheet$Three" = some m.cls := hown
  refine lv_aload_n hx hb d_Three_last_0 rfl (lv_at hl 0 rfl) ?_
  refine w_gf hx hb hK i_Product hown hP hN hT rfl 0 (by decide) t_511 rfl rfl d_Three_last_1 ?_
  refine lv_aload_n hx hb d_Three_last_4 rfl (lv_at hl 0 rfl) ?_
  refine w_gf hx hb hK i_Product hown hP hN hT rfl 1 (by decide) t_512 rfl rfl d_Three_last_5 ?_
  refine lv_aload_n hx hb d_Three_last_8 rfl (lv_at hl 0 rfl) ?_
  refine w_gf hx hb hK i_Product hown hP hN hT rfl 2 (by decide) t_513 rfl rfl d_Three_last_9 ?_
  refine x_max hx hb hml hown hK hl.1 t_232 (Nat.le_of_ble_eq_true rfl) (Nat.le_of_ble_eq_true rfl) ⟨Nat.le_of_ble_eq_true rfl, Nat.le_of_ble_eq_true rfl⟩ (Nat.le_of_ble_eq_true rfl) rfl rfl  d_Three_last_12 (fun z_1 tz_1 => ?_)
  refine x_max hx hb hml hown hK hl.1 t_232 (Nat.le_of_ble_eq_true rfl) (Nat.le_of_ble_eq_true rfl) ⟨Nat.le_of_ble_eq_true rfl, Nat.le_of_ble_eq_true rfl⟩ (Nat.le_of_ble_eq_true rfl) rfl tz_1  d_Three_last_15 (fun z_2 tz_2 => ?_)
  refine e_i hx hb hr hlk hQ hS d_Three_last_18 ?_
  exact ⟨_, rfl, tz_2, hP⟩
set_option maxHeartbeats 4000000 in
set_option maxRecDepth 20000 in
theorem k_acc_Quotient (l : Launch) (D : va_G) (cA : Nat → ClassId) (adr : Nat → Nat) (N : List Nat) (hi : wI N adr) (cn : Nat → va_E) (t : Nat) (xa xb xc : Int32) (e0 : Nat → Int32) (gd : Bool) (hT : TP cn t 9 xa xb xc e0 gd) (hN : t ∈ N) (b : Nat) (g : Nat → Int32) (hG : cn b = .inl (cA 0, 10, .inl g)) (hNb : b ∈ N) (hrg : ∀ k, k < 10 → -100 ≤ (g k).toInt ∧ (g k).toInt ≤ 100) (ca cb cd : Nat) (hxa : xa.toInt = (ca : Int)) (hxb : xb.toInt = (cb : Int)) (hxc : xc.toInt = (cd : Int)) (hca : ca < 10) (hcb : cb < 10) (hcd : cd < 10) : Ct l y_Three_accepts b_Three_accepts 2 (some .boolean) 5 D cA [.ref (adr t), .ref (adr b)] (fun H => va_P D classes (wl N adr cn) H) (fun r H => ∃ q : Bool, r = some (.int (bi q)) ∧ (q = true ↔ R3 2 (g cb).toInt (g ca).toInt (g cd).toInt) ∧ va_P D classes (wl N adr cn) H) (wA N adr) := by
  refine Ct.mk (by decide) (Nat.le_of_ble_eq_true rfl) ?_
  intro p e s m args below meth c Q H locs ls hx hb hr hml hlk hown hin hK hQ hS hP hl
  have hl : lv_has ls 2 [(0, .ref (adr t)), (1, .ref (adr b))] := hl
  have hown : s.vm.findClass "RangeSheet$Three" = some m.cls := hown
  refine lv_aload_n hx hb d_Three_accepts_0 rfl (lv_at hl 0 rfl) ?_
  refine lv_aload_n hx hb d_Three_accepts_1 rfl (lv_at hl 1 rfl) ?_
  refine lv_aload_n hx hb d_Three_accepts_2 rfl (lv_at hl 0 rfl) ?_
  refine w_gf hx hb hK i_Quotient hown hP hN hT rfl 0 (by decide) t_511 rfl rfl d_Three_accepts_3 ?_
  refine w_ld hx hb hK hP hNb hG (ca) hxa (by omega) (show ca < 10 by omega) d_Three_accepts_6 (fun z_1 ez_1 => ?_)
  subst ez_1
  refine lv_aload_n hx hb d_Three_accepts_7 rfl (lv_at hl 1 rfl) ?_
  refine lv_aload_n hx hb d_Three_accepts_8 rfl (lv_at hl 0 rfl) ?_
  refine w_gf hx hb hK i_Quotient hown hP hN hT rfl 1 (by decide) t_512 rfl rfl d_Three_accepts_9 ?_
  refine w_ld hx hb hK hP hNb hG (cb) hxb (by omega) (show cb < 10 by omega) d_Three_accepts_12 (fun z_2 ez_2 => ?_)
  subst ez_2
  refine lv_aload_n hx hb d_Three_accepts_13 rfl (lv_at hl 1 rfl) ?_
  refine lv_aload_n hx hb d_Three_accepts_14 rfl (lv_at hl 0 rfl) ?_
  refine w_gf hx hb hK i_Quotient hown hP hN hT rfl 2 (by decide) t_513 rfl rfl d_Three_accepts_15 ?_
  refine w_ld hx hb hK hP hNb hG (cd) hxc (by omega) (show cd < 10 by omega) d_Three_accepts_18 (fun z_3 ez_3 => ?_)
  subst ez_3
  refine x_A (As := [.int (g ca), .int (g cb), .int (g cd)]) (rest := []) hx hb hml hown hK (k_Quotient_holds l D cA adr N hi cn t (g ca) (g cb) (g cd) (hrg _ (by omega)) (hrg _ (by omega)) (hrg _ (by omega))) t_373 t_14 t_356 t_358 t_357 t_371 t_372 ⟨by decide, by decide, yk_Quotient_holds.2.2⟩ ⟨Nat.le_of_ble_eq_true rfl, Nat.le_of_ble_eq_true rfl⟩ (w_rec hK hP hN hT rfl) hP rfl hl.1 rfl (Nat.le_of_ble_eq_true rfl) d_Three_accepts_19 ⟨Nat.le_of_ble_eq_true rfl, Nat.le_of_ble_eq_true rfl⟩ hS (fun q h => h) (fun r H locs hq _ hS => ?_)
  obtain ⟨q9, rfl, hq9, hP⟩ := hq
  refine W.eq (g2 := F0 m 22 ls [.int (bi q9)]) rfl ?_
  refine e_z hx hb hr hlk hQ hS d_Three_accepts_22 ?_
  exact ⟨q9, rfl, hq9, hP⟩
set_option maxHeartbeats 4000000 in
set_option maxRecDepth 20000 in
theorem k_last_Quotient (l : Launch) (D : va_G) (cA : Nat → ClassId) (adr : Nat → Nat) (N : List Nat) (hi : wI N adr) (cn : Nat → va_E) (t : Nat) (xa xb xc : Int32) (e0 : Nat → Int32) (gd : Bool) (hT : TP cn t 9 xa xb xc e0 gd) (hN : t ∈ N) : Ct l y_Three_last b_Three_last 1 (some .int) 3 D cA [.ref (adr t)] (fun H => va_P D classes (wl N adr cn) H) (fun r H => ∃ z : Int32, r = some (.int z) ∧ z.toInt = max xa.toInt (max xb.toInt xc.toInt) ∧ va_P D classes (wl N adr cn) H) (wA N adr) := by
  refine Ct.mk (by decide) (Nat.le_of_ble_eq_true rfl) ?_
  intro p e s m args below meth c Q H locs ls hx hb hr hml hlk hown hin hK hQ hS hP hl
  have hl : lv_has ls 1 [(0, .ref (adr t))] := hl
  have hown : s.vm.findClass "RangeSheet$Three" = some m.cls := hown
  refine lv_aload_n hx hb d_Three_last_0 rfl (lv_at hl 0 rfl) ?_
  refine w_gf hx hb hK i_Quotient hown hP hN hT rfl 0 (by decide) t_511 rfl rfl d_Three_last_1 ?_
  refine lv_aload_n hx hb d_Three_last_4 rfl (lv_at hl 0 rfl) ?_
  refine w_gf hx hb hK i_Quotient hown hP hN hT rfl 1 (by decide) t_512 rfl rfl d_Three_last_5 ?_
  refine lv_aload_n hx hb d_Three_last_8 rfl (lv_at hl 0 rfl) ?_
  refine w_gf hx hb hK i_Quotient hown hP hN hT rfl 2 (by decide) t_513 rfl rfl d_Three_last_9 ?_
  refine x_max hx hb hml hown hK hl.1 t_232 (Nat.le_of_ble_eq_true rfl) (Nat.le_of_ble_eq_true rfl) ⟨Nat.le_of_ble_eq_true rfl, Nat.le_of_ble_eq_true rfl⟩ (Nat.le_of_ble_eq_true rfl) rfl rfl  d_Three_last_12 (fun z_1 tz_1 => ?_)
  refine x_max hx hb hml hown hK hl.1 t_232 (Nat.le_of_ble_eq_true rfl) (Nat.le_of_ble_eq_true rfl) ⟨Nat.le_of_ble_eq_true rfl, Nat.le_of_ble_eq_true rfl⟩ (Nat.le_of_ble_eq_true rfl) rfl tz_1  d_Three_last_15 (fun z_2 tz_2 => ?_)
  refine e_i hx hb hr hlk hQ hS d_Three_last_18 ?_
  exact ⟨_, rfl, tz_2, hP⟩
set_option maxHeartbeats 4000000 in
set_option maxRecDepth 20000 in
theorem k_acc_Lesser (l : Launch) (D : va_G) (cA : Nat → ClassId) (adr : Nat → Nat) (N : List Nat) (hi : wI N adr) (cn : Nat → va_E) (t : Nat) (xa xb xc : Int32) (e0 : Nat → Int32) (gd : Bool) (hT : TP cn t 10 xa xb xc e0 gd) (hN : t ∈ N) (b : Nat) (g : Nat → Int32) (hG : cn b = .inl (cA 0, 10, .inl g)) (hNb : b ∈ N) (hrg : ∀ k, k < 10 → -100 ≤ (g k).toInt ∧ (g k).toInt ≤ 100) (ca cb cd : Nat) (hxa : xa.toInt = (ca : Int)) (hxb : xb.toInt = (cb : Int)) (hxc : xc.toInt = (cd : Int)) (hca : ca < 10) (hcb : cb < 10) (hcd : cd < 10) : Ct l y_Three_accepts b_Three_accepts 2 (some .boolean) 5 D cA [.ref (adr t), .ref (adr b)] (fun H => va_P D classes (wl N adr cn) H) (fun r H => ∃ q : Bool, r = some (.int (bi q)) ∧ (q = true ↔ R3 3 (g ca).toInt (g cb).toInt (g cd).toInt) ∧ va_P D classes (wl N adr cn) H) (wA N adr) := by
  refine Ct.mk (by decide) (Nat.le_of_ble_eq_true rfl) ?_
  intro p e s m args below meth c Q H locs ls hx hb hr hml hlk hown hin hK hQ hS hP hl
  have hl : lv_has ls 2 [(0, .ref (adr t)), (1, .ref (adr b))] := hl
  have hown : s.vm.findClass "RangeSheet$Three" = some m.cls := hown
  refine lv_aload_n hx hb d_Three_accepts_0 rfl (lv_at hl 0 rfl) ?_
  refine lv_aload_n hx hb d_Three_accepts_1 rfl (lv_at hl 1 rfl) ?_
  refine lv_aload_n hx hb d_Three_accepts_2 rfl (lv_at hl 0 rfl) ?_
  refine w_gf hx hb hK i_Lesser hown hP hN hT rfl 0 (by decide) t_511 rfl rfl d_Three_accepts_3 ?_
  refine w_ld hx hb hK hP hNb hG (ca) hxa (by omega) (show ca < 10 by omega) d_Three_accepts_6 (fun z_1 ez_1 => ?_)
  subst ez_1
  refine lv_aload_n hx hb d_Three_accepts_7 rfl (lv_at hl 1 rfl) ?_
  refine lv_aload_n hx hb d_Three_accepts_8 rfl (lv_at hl 0 rfl) ?_
  refine w_gf hx hb hK i_Lesser hown hP hN hT rfl 1 (by decide) t_512 rfl rfl d_Three_accepts_9 ?_
  refine w_ld hx hb hK hP hNb hG (cb) hxb (by omega) (show cb < 10 by omega) d_Three_accepts_12 (fun z_2 ez_2 => ?_)
  subst ez_2
  refine lv_aload_n hx hb d_Three_accepts_13 rfl (lv_at hl 1 rfl) ?_
  refine lv_aload_n hx hb d_Three_accepts_14 rfl (lv_at hl 0 rfl) ?_
  refine w_gf hx hb hK i_Lesser hown hP hN hT rfl 2 (by decide) t_513 rfl rfl d_Three_accepts_15 ?_
  refine w_ld hx hb hK hP hNb hG (cd) hxc (by omega) (show cd < 10 by omega) d_Three_accepts_18 (fun z_3 ez_3 => ?_)
  subst ez_3
  refine x_A (As := [.int (g ca), .int (g cb), .int (g cd)]) (rest := []) hx hb hml hown hK (k_Lesser_holds l D cA adr N hi cn t (g ca) (g cb) (g cd) (hrg _ (by omega)) (hrg _ (by omega)) (hrg _ (by omega))) t_367 t_15 t_356 t_358 t_357 t_365 t_366 ⟨by decide, by decide, yk_Lesser_holds.2.2⟩ ⟨Nat.le_of_ble_eq_true rfl, Nat.le_of_ble_eq_true rfl⟩ (w_rec hK hP hN hT rfl) hP rfl hl.1 rfl (Nat.le_of_ble_eq_true rfl) d_Three_accepts_19 ⟨Nat.le_of_ble_eq_true rfl, Nat.le_of_ble_eq_true rfl⟩ hS (fun q h => h) (fun r H locs hq _ hS => ?_)
  obtain ⟨q9, rfl, hq9, hP⟩ := hq
  refine W.eq (g2 := F0 m 22 ls [.int (bi q9)]) rfl ?_
  refine e_z hx hb hr hlk hQ hS d_Three_accepts_22 ?_
  exact ⟨q9, rfl, hq9, hP⟩
set_option maxHeartbeats 4000000 in
set_option maxRecDepth 20000 in
theorem k_last_Lesser (l : Launch) (D : va_G) (cA : Nat → ClassId) (adr : Nat → Nat) (N : List Nat) (hi : wI N adr) (cn : Nat → va_E) (t : Nat) (xa xb xc : Int32) (e0 : Nat → Int32) (gd : Bool) (hT : TP cn t 10 xa xb xc e0 gd) (hN : t ∈ N) : Ct l y_Three_last b_Three_last 1 (some .int) 3 D cA [.ref (adr t)] (fun H => va_P D classes (wl N adr cn) H) (fun r H => ∃ z : Int32, r = some (.int z) ∧ z.toInt = max xa.toInt (max xb.toInt xc.toInt) ∧ va_P D classes (wl N adr cn) H) (wA N adr) := by
  refine Ct.mk (by decide) (Nat.le_of_ble_eq_true rfl) ?_
  intro p e s m args below meth c Q H locs ls hx hb hr hml hlk hown hin hK hQ hS hP hl
  have hl : lv_has ls 1 [(0, .ref (adr t))] := hl
  have hown : s.vm.findClass "RangeSheet$Three" = some m.cls := hown
  refine lv_aload_n hx hb d_Three_last_0 rfl (lv_at hl 0 rfl) ?_
  refine w_gf hx hb hK i_Lesser hown hP hN hT rfl 0 (by decide) t_511 rfl rfl d_Three_last_1 ?_
  refine lv_aload_n hx hb d_Three_last_4 rfl (lv_at hl 0 rfl) ?_
  refine w_gf hx hb hK i_Lesser hown hP hN hT rfl 1 (by decide) t_512 rfl rfl d_Three_last_5 ?_
  refine lv_aload_n hx hb d_Three_last_8 rfl (lv_at hl 0 rfl) ?_
  refine w_gf hx hb hK i_Lesser hown hP hN hT rfl 2 (by decide) t_513 rfl rfl d_Three_last_9 ?_
  refine x_max hx hb hml hown hK hl.1 t_232 (Nat.le_of_ble_eq_true rfl) (Nat.le_of_ble_eq_true rfl) ⟨Nat.le_of_ble_eq_true rfl, Nat.le_of_ble_eq_true rfl⟩ (Nat.le_of_ble_eq_true rfl) rfl rfl  d_Three_last_12 (fun z_1 tz_1 => ?_)
  refine x_max hx hb hml hown hK hl.1 t_232 (Nat.le_of_ble_eq_true rfl) (Nat.le_of_ble_eq_true rfl) ⟨Nat.le_of_ble_eq_true rfl, Nat.le_of_ble_eq_true rfl⟩ (Nat.le_of_ble_eq_true rfl) rfl tz_1  d_Three_last_15 (fun z_2 tz_2 => ?_)
  refine e_i hx hb hr hlk hQ hS d_Three_last_18 ?_
  exact ⟨_, rfl, tz_2, hP⟩
set_option maxHeartbeats 4000000 in
set_option maxRecDepth 20000 in
theorem k_acc_Greater (l : Launch) (D : va_G) (cA : Nat → ClassId) (adr : Nat → Nat) (N : List Nat) (hi : wI N adr) (cn : Nat → va_E) (t : Nat) (xa xb xc : Int32) (e0 : Nat → Int32) (gd : Bool) (hT : TP cn t 11 xa xb xc e0 gd) (hN : t ∈ N) (b : Nat) (g : Nat → Int32) (hG : cn b = .inl (cA 0, 10, .inl g)) (hNb : b ∈ N) (hrg : ∀ k, k < 10 → -100 ≤ (g k).toInt ∧ (g k).toInt ≤ 100) (ca cb cd : Nat) (hxa : xa.toInt = (ca : Int)) (hxb : xb.toInt = (cb : Int)) (hxc : xc.toInt = (cd : Int)) (hca : ca < 10) (hcb : cb < 10) (hcd : cd < 10) : Ct l y_Three_accepts b_Three_accepts 2 (some .boolean) 5 D cA [.ref (adr t), .ref (adr b)] (fun H => va_P D classes (wl N adr cn) H) (fun r H => ∃ q : Bool, r = some (.int (bi q)) ∧ (q = true ↔ R3 4 (g ca).toInt (g cb).toInt (g cd).toInt) ∧ va_P D classes (wl N adr cn) H) (wA N adr) := by
  refine Ct.mk (by decide) (Nat.le_of_ble_eq_true rfl) ?_
  intro p e s m args below meth c Q H locs ls hx hb hr hml hlk hown hin hK hQ hS hP hl
  have hl : lv_has ls 2 [(0, .ref (adr t)), (1, .ref (adr b))] := hl
  have hown : s.vm.findClass "RangeSheet$Three" = some m.cls := hown
  refine lv_aload_n hx hb d_Three_accepts_0 rfl (lv_at hl 0 rfl) ?_
  refine lv_aload_n hx hb d_Three_accepts_1 rfl (lv_at hl 1 rfl) ?_
  refine lv_aload_n hx hb d_Three_accepts_2 rfl (lv_at hl 0 rfl) ?_
  refine w_gf hx hb hK i_Greater hown hP hN hT rfl 0 (by decide) t_511 rfl rfl d_Three_accepts_3 ?_
  refine w_ld hx hb hK hP hNb hG (ca) hxa (by omega) (show ca < 10 by omega) d_Three_accepts_6 (fun z_1 ez_1 => ?_)
  subst ez_1
  refine lv_aload_n hx hb d_Three_accepts_7 rfl (lv_at hl 1 rfl) ?_
  refine lv_aload_n hx hb d_Three_accepts_8 rfl (lv_at hl 0 rfl) ?_
  refine w_gf hx hb hK i_Greater hown hP hN hT rfl 1 (by decide) t_512 rfl rfl d_Three_accepts_9 ?_
  refine w_ld hx hb hK hP hNb hG (cb) hxb (by omega) (show cb < 10 by omega) d_Three_accepts_12 (fun z_2 ez_2 => ?_)
  subst ez_2
  refine lv_aload_n hx hb d_Three_accepts_13 rfl (lv_at hl 1 rfl) ?_
  refine lv_aload_n hx hb d_Three_accepts_14 rfl (lv_at hl 0 rfl) ?_
  refine w_gf hx hb hK i_Greater hown hP hN hT rfl 2 (by decide) t_513 rfl rfl d_Three_accepts_15 ?_
  refine w_ld hx hb hK hP hNb hG (cd) hxc (by omega) (show cd < 10 by omega) d_Three_accepts_18 (fun z_3 ez_3 => ?_)
  subst ez_3
  refine x_A (As := [.int (g ca), .int (g cb), .int (g cd)]) (rest := []) hx hb hml hown hK (k_Greater_holds l D cA adr N hi cn t (g ca) (g cb) (g cd) (hrg _ (by omega)) (hrg _ (by omega)) (hrg _ (by omega))) t_361 t_16 t_356 t_358 t_357 t_359 t_360 ⟨by decide, by decide, yk_Greater_holds.2.2⟩ ⟨Nat.le_of_ble_eq_true rfl, Nat.le_of_ble_eq_true rfl⟩ (w_rec hK hP hN hT rfl) hP rfl hl.1 rfl (Nat.le_of_ble_eq_true rfl) d_Three_accepts_19 ⟨Nat.le_of_ble_eq_true rfl, Nat.le_of_ble_eq_true rfl⟩ hS (fun q h => h) (fun r H locs hq _ hS => ?_)
  obtain ⟨q9, rfl, hq9, hP⟩ := hq
  refine W.eq (g2 := F0 m 22 ls [.int (bi q9)]) rfl ?_
  refine e_z hx hb hr hlk hQ hS d_Three_accepts_22 ?_
  exact ⟨q9, rfl, hq9, hP⟩
set_option maxHeartbeats 4000000 in
set_option maxRecDepth 20000 in
theorem k_last_Greater (l : Launch) (D : va_G) (cA : Nat → ClassId) (adr : Nat → Nat) (N : List Nat) (hi : wI N adr) (cn : Nat → va_E) (t : Nat) (xa xb xc : Int32) (e0 : Nat → Int32) (gd : Bool) (hT : TP cn t 11 xa xb xc e0 gd) (hN : t ∈ N) : Ct l y_Three_last b_Three_last 1 (some .int) 3 D cA [.ref (adr t)] (fun H => va_P D classes (wl N adr cn) H) (fun r H => ∃ z : Int32, r = some (.int z) ∧ z.toInt = max xa.toInt (max xb.toInt xc.toInt) ∧ va_P D classes (wl N adr cn) H) (wA N adr) := by
  refine Ct.mk (by decide) (Nat.le_of_ble_eq_true rfl) ?_
  intro p e s m args below meth c Q H locs ls hx hb hr hml hlk hown hin hK hQ hS hP hl
  have hl : lv_has ls 1 [(0, .ref (adr t))] := hl
  have hown : s.vm.findClass "RangeSheet$Three" = some m.cls := hown
  refine lv_aload_n hx hb d_Three_last_0 rfl (lv_at hl 0 rfl) ?_
  refine w_gf hx hb hK i_Greater hown hP hN hT rfl 0 (by decide) t_511 rfl rfl d_Three_last_1 ?_
  refine lv_aload_n hx hb d_Three_last_4 rfl (lv_at hl 0 rfl) ?_
  refine w_gf hx hb hK i_Greater hown hP hN hT rfl 1 (by decide) t_512 rfl rfl d_Three_last_5 ?_
  refine lv_aload_n hx hb d_Three_last_8 rfl (lv_at hl 0 rfl) ?_
  refine w_gf hx hb hK i_Greater hown hP hN hT rfl 2 (by decide) t_513 rfl rfl d_Three_last_9 ?_
  refine x_max hx hb hml hown hK hl.1 t_232 (Nat.le_of_ble_eq_true rfl) (Nat.le_of_ble_eq_true rfl) ⟨Nat.le_of_ble_eq_true rfl, Nat.le_of_ble_eq_true rfl⟩ (Nat.le_of_ble_eq_true rfl) rfl rfl  d_Three_last_12 (fun z_1 tz_1 => ?_)
  refine x_max hx hb hml hown hK hl.1 t_232 (Nat.le_of_ble_eq_true rfl) (Nat.le_of_ble_eq_true rfl) ⟨Nat.le_of_ble_eq_true rfl, Nat.le_of_ble_eq_true rfl⟩ (Nat.le_of_ble_eq_true rfl) rfl tz_1  d_Three_last_15 (fun z_2 tz_2 => ?_)
  refine e_i hx hb hr hlk hQ hS d_Three_last_18 ?_
  exact ⟨_, rfl, tz_2, hP⟩
set_option maxHeartbeats 4000000 in
set_option maxRecDepth 20000 in
theorem k_acc_If (l : Launch) (D : va_G) (cA : Nat → ClassId) (adr : Nat → Nat) (N : List Nat) (hi : wI N adr) (cn : Nat → va_E) (t : Nat) (xa xb xc : Int32) (e0 : Nat → Int32) (gd : Bool) (hT : TP cn t 12 xa xb xc e0 gd) (hN : t ∈ N) (b : Nat) (g : Nat → Int32) (hG : cn b = .inl (cA 0, 10, .inl g)) (hNb : b ∈ N) (hrg : ∀ k, k < 10 → -100 ≤ (g k).toInt ∧ (g k).toInt ≤ 100) (ca cb cd : Nat) (hxa : xa.toInt = (ca : Int)) (hxb : xb.toInt = (cb : Int)) (hxc : xc.toInt = (cd : Int)) (hca : ca < 10) (hcb : cb < 10) (hcd : cd < 10) : Ct l y_Three_accepts b_Three_accepts 2 (some .boolean) 5 D cA [.ref (adr t), .ref (adr b)] (fun H => va_P D classes (wl N adr cn) H) (fun r H => ∃ q : Bool, r = some (.int (bi q)) ∧ (q = true ↔ R3 6 (g ca).toInt (g cb).toInt (g cd).toInt) ∧ va_P D classes (wl N adr cn) H) (wA N adr) := by
  refine Ct.mk (by decide) (Nat.le_of_ble_eq_true rfl) ?_
  intro p e s m args below meth c Q H locs ls hx hb hr hml hlk hown hin hK hQ hS hP hl
  have hl : lv_has ls 2 [(0, .ref (adr t)), (1, .ref (adr b))] := hl
  have hown : s.vm.findClass "RangeSheet$Three" = some m.cls := hown
  refine lv_aload_n hx hb d_Three_accepts_0 rfl (lv_at hl 0 rfl) ?_
  refine lv_aload_n hx hb d_Three_accepts_1 rfl (lv_at hl 1 rfl) ?_
  refine lv_aload_n hx hb d_Three_accepts_2 rfl (lv_at hl 0 rfl) ?_
  refine w_gf hx hb hK i_If hown hP hN hT rfl 0 (by decide) t_511 rfl rfl d_Three_accepts_3 ?_
  refine w_ld hx hb hK hP hNb hG (ca) hxa (by omega) (show ca < 10 by omega) d_Three_accepts_6 (fun z_1 ez_1 => ?_)
  subst ez_1
  refine lv_aload_n hx hb d_Three_accepts_7 rfl (lv_at hl 1 rfl) ?_
  refine lv_aload_n hx hb d_Three_accepts_8 rfl (lv_at hl 0 rfl) ?_
  refine w_gf hx hb hK i_If hown hP hN hT rfl 1 (by decide) t_512 rfl rfl d_Three_accepts_9 ?_
  refine w_ld hx hb hK hP hNb hG (cb) hxb (by omega) (show cb < 10 by omega) d_Three_accepts_12 (fun z_2 ez_2 => ?_)
  subst ez_2
  refine lv_aload_n hx hb d_Three_accepts_13 rfl (lv_at hl 1 rfl) ?_
  refine lv_aload_n hx hb d_Three_accepts_14 rfl (lv_at hl 0 rfl) ?_
  refine w_gf hx hb hK i_If hown hP hN hT rfl 2 (by decide) t_513 rfl rfl d_Three_accepts_15 ?_
  refine w_ld hx hb hK hP hNb hG (cd) hxc (by omega) (show cd < 10 by omega) d_Three_accepts_18 (fun z_3 ez_3 => ?_)
  subst ez_3
  refine x_A (As := [.int (g ca), .int (g cb), .int (g cd)]) (rest := []) hx hb hml hown hK (k_If_holds l D cA adr N hi cn t (g ca) (g cb) (g cd) (hrg _ (by omega)) (hrg _ (by omega)) (hrg _ (by omega))) t_364 t_18 t_356 t_358 t_357 t_362 t_363 ⟨by decide, by decide, yk_If_holds.2.2⟩ ⟨Nat.le_of_ble_eq_true rfl, Nat.le_of_ble_eq_true rfl⟩ (w_rec hK hP hN hT rfl) hP rfl hl.1 rfl (Nat.le_of_ble_eq_true rfl) d_Three_accepts_19 ⟨Nat.le_of_ble_eq_true rfl, Nat.le_of_ble_eq_true rfl⟩ hS (fun q h => h) (fun r H locs hq _ hS => ?_)
  obtain ⟨q9, rfl, hq9, hP⟩ := hq
  refine W.eq (g2 := F0 m 22 ls [.int (bi q9)]) rfl ?_
  refine e_z hx hb hr hlk hQ hS d_Three_accepts_22 ?_
  exact ⟨q9, rfl, hq9, hP⟩
set_option maxHeartbeats 4000000 in
set_option maxRecDepth 20000 in
theorem k_last_If (l : Launch) (D : va_G) (cA : Nat → ClassId) (adr : Nat → Nat) (N : List Nat) (hi : wI N adr) (cn : Nat → va_E) (t : Nat) (xa xb xc : Int32) (e0 : Nat → Int32) (gd : Bool) (hT : TP cn t 12 xa xb xc e0 gd) (hN : t ∈ N) : Ct l y_Three_last b_Three_last 1 (some .int) 3 D cA [.ref (adr t)] (fun H => va_P D classes (wl N adr cn) H) (fun r H => ∃ z : Int32, r = some (.int z) ∧ z.toInt = max xa.toInt (max xb.toInt xc.toInt) ∧ va_P D classes (wl N adr cn) H) (wA N adr) := by
  refine Ct.mk (by decide) (Nat.le_of_ble_eq_true rfl) ?_
  intro p e s m args below meth c Q H locs ls hx hb hr hml hlk hown hin hK hQ hS hP hl
  have hl : lv_has ls 1 [(0, .ref (adr t))] := hl
  have hown : s.vm.findClass "RangeSheet$Three" = some m.cls := hown
  refine lv_aload_n hx hb d_Three_last_0 rfl (lv_at hl 0 rfl) ?_
  refine w_gf hx hb hK i_If hown hP hN hT rfl 0 (by decide) t_511 rfl rfl d_Three_last_1 ?_
  refine lv_aload_n hx hb d_Three_last_4 rfl (lv_at hl 0 rfl) ?_
  refine w_gf hx hb hK i_If hown hP hN hT rfl 1 (by decide) t_512 rfl rfl d_Three_last_5 ?_
  refine lv_aload_n hx hb d_Three_last_8 rfl (lv_at hl 0 rfl) ?_
  refine w_gf hx hb hK i_If hown hP hN hT rfl 2 (by decide) t_513 rfl rfl d_Three_last_9 ?_
  refine x_max hx hb hml hown hK hl.1 t_232 (Nat.le_of_ble_eq_true rfl) (Nat.le_of_ble_eq_true rfl) ⟨Nat.le_of_ble_eq_true rfl, Nat.le_of_ble_eq_true rfl⟩ (Nat.le_of_ble_eq_true rfl) rfl rfl  d_Three_last_12 (fun z_1 tz_1 => ?_)
  refine x_max hx hb hml hown hK hl.1 t_232 (Nat.le_of_ble_eq_true rfl) (Nat.le_of_ble_eq_true rfl) ⟨Nat.le_of_ble_eq_true rfl, Nat.le_of_ble_eq_true rfl⟩ (Nat.le_of_ble_eq_true rfl) rfl tz_1  d_Three_last_15 (fun z_2 tz_2 => ?_)
  refine e_i hx hb hr hlk hQ hS d_Three_last_18 ?_
  exact ⟨_, rfl, tz_2, hP⟩
theorem d_AtMost_last_0 : decode b_AtMost_last 0 = .ok (.aload_n 0, 1) := by decide +kernel
theorem d_AtMost_last_1 : decode b_AtMost_last 1 = .ok (.getfield 7, 3) := by decide +kernel
theorem d_AtMost_last_4 : decode b_AtMost_last 4 = .ok (.aload_n 0, 1) := by decide +kernel
theorem d_AtMost_last_5 : decode b_AtMost_last 5 = .ok (.getfield 13, 3) := by decide +kernel
theorem d_AtMost_last_8 : decode b_AtMost_last 8 = .ok (.invokestatic 19, 3) := by decide +kernel
theorem d_AtMost_last_11 : decode b_AtMost_last 11 = .ok (.ireturn, 1) := by decide +kernel
set_option maxHeartbeats 4000000 in
set_option maxRecDepth 20000 in
theorem k_AtMost_last (l : Launch) (D : va_G) (cA : Nat → ClassId) (adr : Nat → Nat) (N : List Nat) (hi : wI N adr) (cn : Nat → va_E) (t : Nat) (xa xb xc : Int32) (gd : Bool) (hT : cn t = .inr (4, [.int xa, .int xb, .int xc, .int (bi gd)])) (hN : t ∈ N) (ca cb : Nat) (hxa : xa.toInt = (ca : Int)) (hxb : xb.toInt = (cb : Int)) (hca : ca < 10) (hcb : cb < 10) : Ct l y_AtMost_last b_AtMost_last 1 (some .int) 3 D cA [.ref (adr t)] (fun H => va_P D classes (wl N adr cn) H) (fun r H => ∃ z : Int32, r = some (.int z) ∧ z.toInt = max (ca : Int) (cb : Int) ∧ va_P D classes (wl N adr cn) H) (wA N adr) := by
  refine Ct.mk (by decide) (Nat.le_of_ble_eq_true rfl) ?_
  intro p e s m args below meth c Q H locs ls hx hb hr hml hlk hown hin hK hQ hS hP hl
  have hl : lv_has ls 1 [(0, .ref (adr t))] := hl
  have hown : s.vm.findClass "RangeSheet$AtMost" = some m.cls := hown
  refine lv_aload_n hx hb d_AtMost_last_0 rfl (lv_at hl 0 rfl) ?_
  refine w_gf hx hb hK i_AtMost hown hP hN hT rfl 0 (by decide) t_617 rfl rfl d_AtMost_last_1 ?_
  refine lv_aload_n hx hb d_AtMost_last_4 rfl (lv_at hl 0 rfl) ?_
  refine w_gf hx hb hK i_AtMost hown hP hN hT rfl 1 (by decide) t_618 rfl rfl d_AtMost_last_5 ?_
  refine x_max hx hb hml hown hK hl.1 t_329 (Nat.le_of_ble_eq_true rfl) (Nat.le_of_ble_eq_true rfl) ⟨Nat.le_of_ble_eq_true rfl, Nat.le_of_ble_eq_true rfl⟩ (Nat.le_of_ble_eq_true rfl) hxa hxb  d_AtMost_last_8 (fun z_1 tz_1 => ?_)
  refine e_i hx hb hr hlk hQ hS d_AtMost_last_11 ?_
  exact ⟨_, rfl, tz_1, hP⟩
theorem d_Lookup_last_0 : decode b_Lookup_last 0 = .ok (.aload_n 0, 1) := by decide +kernel
theorem d_Lookup_last_1 : decode b_Lookup_last 1 = .ok (.getfield 9, 3) := by decide +kernel
theorem d_Lookup_last_4 : decode b_Lookup_last 4 = .ok (.aload_n 0, 1) := by decide +kernel
theorem d_Lookup_last_5 : decode b_Lookup_last 5 = .ok (.getfield 15, 3) := by decide +kernel
theorem d_Lookup_last_8 : decode b_Lookup_last 8 = .ok (.invokestatic 22, 3) := by decide +kernel
theorem d_Lookup_last_11 : decode b_Lookup_last 11 = .ok (.ireturn, 1) := by decide +kernel
set_option maxHeartbeats 4000000 in
set_option maxRecDepth 20000 in
theorem k_Lookup_last (l : Launch) (D : va_G) (cA : Nat → ClassId) (adr : Nat → Nat) (N : List Nat) (hi : wI N adr) (cn : Nat → va_E) (t : Nat) (xa xb : Int32) (w : Nat) (gd : Bool) (hT : cn t = .inr (6, [.int xa, .int xb, .ref (adr w), .int (bi gd)])) (hN : t ∈ N) (ca cb : Nat) (hxa : xa.toInt = (ca : Int)) (hxb : xb.toInt = (cb : Int)) (hca : ca < 10) (hcb : cb < 10) : Ct l y_Lookup_last b_Lookup_last 1 (some .int) 3 D cA [.ref (adr t)] (fun H => va_P D classes (wl N adr cn) H) (fun r H => ∃ z : Int32, r = some (.int z) ∧ z.toInt = max (ca : Int) (cb : Int) ∧ va_P D classes (wl N adr cn) H) (wA N adr) := by
  refine Ct.mk (by decide) (Nat.le_of_ble_eq_true rfl) ?_
  intro p e s m args below meth c Q H locs ls hx hb hr hml hlk hown hin hK hQ hS hP hl
  have hl : lv_has ls 1 [(0, .ref (adr t))] := hl
  have hown : s.vm.findClass "RangeSheet$Lookup" = some m.cls := hown
  refine lv_aload_n hx hb d_Lookup_last_0 rfl (lv_at hl 0 rfl) ?_
  refine w_gf hx hb hK i_Lookup hown hP hN hT rfl 0 (by decide) t_660 rfl rfl d_Lookup_last_1 ?_
  refine lv_aload_n hx hb d_Lookup_last_4 rfl (lv_at hl 0 rfl) ?_
  refine w_gf hx hb hK i_Lookup hown hP hN hT rfl 1 (by decide) t_661 rfl rfl d_Lookup_last_5 ?_
  refine x_max hx hb hml hown hK hl.1 t_294 (Nat.le_of_ble_eq_true rfl) (Nat.le_of_ble_eq_true rfl) ⟨Nat.le_of_ble_eq_true rfl, Nat.le_of_ble_eq_true rfl⟩ (Nat.le_of_ble_eq_true rfl) hxa hxb  d_Lookup_last_8 (fun z_1 tz_1 => ?_)
  refine e_i hx hb hr hlk hQ hS d_Lookup_last_11 ?_
  exact ⟨_, rfl, tz_1, hP⟩
theorem d_AtMost_accepts_0 : decode b_AtMost_accepts 0 = .ok (.aload_n 1, 1) := by decide +kernel
theorem d_AtMost_accepts_1 : decode b_AtMost_accepts 1 = .ok (.aload_n 0, 1) := by decide +kernel
theorem d_AtMost_accepts_2 : decode b_AtMost_accepts 2 = .ok (.getfield 7, 3) := by decide +kernel
theorem d_AtMost_accepts_5 : decode b_AtMost_accepts 5 = .ok (.iaload, 1) := by decide +kernel
theorem d_AtMost_accepts_6 : decode b_AtMost_accepts 6 = .ok (.aload_n 0, 1) := by decide +kernel
theorem d_AtMost_accepts_7 : decode b_AtMost_accepts 7 = .ok (.getfield 16, 3) := by decide +kernel
theorem d_AtMost_accepts_10 : decode b_AtMost_accepts 10 = .ok (.iadd, 1) := by decide +kernel
theorem d_AtMost_accepts_11 : decode b_AtMost_accepts 11 = .ok (.aload_n 1, 1) := by decide +kernel
theorem d_AtMost_accepts_12 : decode b_AtMost_accepts 12 = .ok (.aload_n 0, 1) := by decide +kernel
theorem d_AtMost_accepts_13 : decode b_AtMost_accepts 13 = .ok (.getfield 13, 3) := by decide +kernel
theorem d_AtMost_accepts_16 : decode b_AtMost_accepts 16 = .ok (.iaload, 1) := by decide +kernel
theorem d_AtMost_accepts_17 : decode b_AtMost_accepts 17 = .ok (.if_icmp .gt 7, 3) := by decide +kernel
theorem d_AtMost_accepts_20 : decode b_AtMost_accepts 20 = .ok (.iconst 1, 1) := by decide +kernel
theorem d_AtMost_accepts_21 : decode b_AtMost_accepts 21 = .ok (.goto 4, 3) := by decide +kernel
theorem d_AtMost_accepts_24 : decode b_AtMost_accepts 24 = .ok (.iconst 0, 1) := by decide +kernel
theorem d_AtMost_accepts_25 : decode b_AtMost_accepts 25 = .ok (.ireturn, 1) := by decide +kernel
set_option maxHeartbeats 4000000 in
set_option maxRecDepth 20000 in
theorem k_AtMost_accepts (l : Launch) (D : va_G) (cA : Nat → ClassId) (adr : Nat → Nat) (N : List Nat) (hi : wI N adr) (cn : Nat → va_E) (t : Nat) (xa xb xc : Int32) (gd : Bool) (hT : cn t = .inr (4, [.int xa, .int xb, .int xc, .int (bi gd)])) (hN : t ∈ N) (b : Nat) (g : Nat → Int32) (hG : cn b = .inl (cA 0, 10, .inl g)) (hNb : b ∈ N) (hrg : ∀ k, k < 10 → -100 ≤ (g k).toInt ∧ (g k).toInt ≤ 100) (ca cb : Nat) (hxa : xa.toInt = (ca : Int)) (hxb : xb.toInt = (cb : Int)) (hca : ca < 10) (hcb : cb < 10) (hxc : -200 ≤ xc.toInt ∧ xc.toInt ≤ 200) : Ct l y_AtMost_accepts b_AtMost_accepts 2 (some .boolean) 2 D cA [.ref (adr t), .ref (adr b)] (fun H => va_P D classes (wl N adr cn) H) (fun r H => ∃ q : Bool, r = some (.int (bi q)) ∧ (q = true ↔ (g ca).toInt + xc.toInt ≤ (g cb).toInt) ∧ va_P D classes (wl N adr cn) H) (wA N adr) := by
  refine Ct.mk (by decide) (Nat.le_of_ble_eq_true rfl) ?_
  intro p e s m args below meth c Q H locs ls hx hb hr hml hlk hown hin hK hQ hS hP hl
  have hl : lv_has ls 2 [(0, .ref (adr t)), (1, .ref (adr b))] := hl
  have hown : s.vm.findClass "RangeSheet$AtMost" = some m.cls := hown
  have hg1 := hrg ca hca; have hg2 := hrg cb hcb
  refine lv_aload_n hx hb d_AtMost_accepts_0 rfl (lv_at hl 1 rfl) ?_
  refine lv_aload_n hx hb d_AtMost_accepts_1 rfl (lv_at hl 0 rfl) ?_
  refine w_gf hx hb hK i_AtMost hown hP hN hT rfl 0 (by decide) t_617 rfl rfl d_AtMost_accepts_2 ?_
  refine w_ld hx hb hK hP hNb hG (ca) hxa (by omega) (show ca < 10 by omega) d_AtMost_accepts_5 (fun z_1 ez_1 => ?_)
  subst ez_1
  refine lv_aload_n hx hb d_AtMost_accepts_6 rfl (lv_at hl 0 rfl) ?_
  refine w_gf hx hb hK i_AtMost hown hP hN hT rfl 2 (by decide) t_619 rfl rfl d_AtMost_accepts_7 ?_
  refine x_add hx hb d_AtMost_accepts_10 rfl rfl (by omega) (fun z_2 tz_2 => ?_)
  refine lv_aload_n hx hb d_AtMost_accepts_11 rfl (lv_at hl 1 rfl) ?_
  refine lv_aload_n hx hb d_AtMost_accepts_12 rfl (lv_at hl 0 rfl) ?_
  refine w_gf hx hb hK i_AtMost hown hP hN hT rfl 1 (by decide) t_618 rfl rfl d_AtMost_accepts_13 ?_
  refine w_ld hx hb hK hP hNb hG (cb) hxb (by omega) (show cb < 10 by omega) d_AtMost_accepts_16 (fun z_3 ez_3 => ?_)
  subst ez_3
  refine b_icmp_gt (tgt := 24) hx hb d_AtMost_accepts_17 (by decide) tz_2 rfl (fun c_4 => ?_) (fun c_4 => ?_)
  · refine lv_iconst (v := 0) hx hb d_AtMost_accepts_24 (by decide) ?_
    refine W.eq (g2 := F0 m 25 ls [.int (bi false)]) rfl ?_
    refine e_z hx hb hr hlk hQ hS d_AtMost_accepts_25 ?_
    exact ⟨false, rfl, ⟨fun h => absurd h (by decide), fun h => absurd (show (g ca).toInt + xc.toInt ≤ (g cb).toInt from h) (by omega)⟩, hP⟩
  · refine lv_iconst (v := 1) hx hb d_AtMost_accepts_20 (by decide) ?_
    refine lv_goto (tgt := 25) hx hb d_AtMost_accepts_21 (by decide) ?_
    refine W.eq (g2 := F0 m 25 ls [.int (bi true)]) rfl ?_
    refine e_z hx hb hr hlk hQ hS d_AtMost_accepts_25 ?_
    exact ⟨true, rfl, ⟨fun _ => (show (g ca).toInt + xc.toInt ≤ (g cb).toInt from by omega), fun _ => rfl⟩, hP⟩
theorem d_Lookup_accepts_0 : decode b_Lookup_accepts 0 = .ok (.iconst 0, 1) := by decide +kernel
theorem d_Lookup_accepts_1 : decode b_Lookup_accepts 1 = .ok (.istore_n 2, 1) := by decide +kernel
theorem d_Lookup_accepts_2 : decode b_Lookup_accepts 2 = .ok (.iconst 0, 1) := by decide +kernel
theorem d_Lookup_accepts_3 : decode b_Lookup_accepts 3 = .ok (.istore_n 3, 1) := by decide +kernel
theorem d_Lookup_accepts_4 : decode b_Lookup_accepts 4 = .ok (.iload_n 3, 1) := by decide +kernel
theorem d_Lookup_accepts_5 : decode b_Lookup_accepts 5 = .ok (.aload_n 0, 1) := by decide +kernel
theorem d_Lookup_accepts_6 : decode b_Lookup_accepts 6 = .ok (.getfield 18, 3) := by decide +kernel
theorem d_Lookup_accepts_9 : decode b_Lookup_accepts 9 = .ok (.getfield 28, 3) := by decide +kernel
theorem d_Lookup_accepts_12 : decode b_Lookup_accepts 12 = .ok (.if_icmp .ge 53, 3) := by decide +kernel
theorem d_Lookup_accepts_15 : decode b_Lookup_accepts 15 = .ok (.iload_n 2, 1) := by decide +kernel
theorem d_Lookup_accepts_16 : decode b_Lookup_accepts 16 = .ok (.aload_n 0, 1) := by decide +kernel
theorem d_Lookup_accepts_17 : decode b_Lookup_accepts 17 = .ok (.getfield 18, 3) := by decide +kernel
theorem d_Lookup_accepts_20 : decode b_Lookup_accepts 20 = .ok (.getfield 33, 3) := by decide +kernel
theorem d_Lookup_accepts_23 : decode b_Lookup_accepts 23 = .ok (.iload_n 3, 1) := by decide +kernel
theorem d_Lookup_accepts_24 : decode b_Lookup_accepts 24 = .ok (.iaload, 1) := by decide +kernel
theorem d_Lookup_accepts_25 : decode b_Lookup_accepts 25 = .ok (.aload_n 1, 1) := by decide +kernel
theorem d_Lookup_accepts_26 : decode b_Lookup_accepts 26 = .ok (.aload_n 0, 1) := by decide +kernel
theorem d_Lookup_accepts_27 : decode b_Lookup_accepts 27 = .ok (.getfield 9, 3) := by decide +kernel
theorem d_Lookup_accepts_30 : decode b_Lookup_accepts 30 = .ok (.iaload, 1) := by decide +kernel
theorem d_Lookup_accepts_31 : decode b_Lookup_accepts 31 = .ok (.if_icmp .ne 25, 3) := by decide +kernel
theorem d_Lookup_accepts_34 : decode b_Lookup_accepts 34 = .ok (.aload_n 0, 1) := by decide +kernel
theorem d_Lookup_accepts_35 : decode b_Lookup_accepts 35 = .ok (.getfield 18, 3) := by decide +kernel
theorem d_Lookup_accepts_38 : decode b_Lookup_accepts 38 = .ok (.getfield 37, 3) := by decide +kernel
theorem d_Lookup_accepts_41 : decode b_Lookup_accepts 41 = .ok (.iload_n 3, 1) := by decide +kernel
theorem d_Lookup_accepts_42 : decode b_Lookup_accepts 42 = .ok (.iaload, 1) := by decide +kernel
theorem d_Lookup_accepts_43 : decode b_Lookup_accepts 43 = .ok (.aload_n 1, 1) := by decide +kernel
theorem d_Lookup_accepts_44 : decode b_Lookup_accepts 44 = .ok (.aload_n 0, 1) := by decide +kernel
theorem d_Lookup_accepts_45 : decode b_Lookup_accepts 45 = .ok (.getfield 15, 3) := by decide +kernel
theorem d_Lookup_accepts_48 : decode b_Lookup_accepts 48 = .ok (.iaload, 1) := by decide +kernel
theorem d_Lookup_accepts_49 : decode b_Lookup_accepts 49 = .ok (.if_icmp .ne 7, 3) := by decide +kernel
theorem d_Lookup_accepts_52 : decode b_Lookup_accepts 52 = .ok (.iconst 1, 1) := by decide +kernel
theorem d_Lookup_accepts_53 : decode b_Lookup_accepts 53 = .ok (.goto 4, 3) := by decide +kernel
theorem d_Lookup_accepts_56 : decode b_Lookup_accepts 56 = .ok (.iconst 0, 1) := by decide +kernel
theorem d_Lookup_accepts_57 : decode b_Lookup_accepts 57 = .ok (.ior, 1) := by decide +kernel
theorem d_Lookup_accepts_58 : decode b_Lookup_accepts 58 = .ok (.istore_n 2, 1) := by decide +kernel
theorem d_Lookup_accepts_59 : decode b_Lookup_accepts 59 = .ok (.iinc 3 1, 3) := by decide +kernel
theorem d_Lookup_accepts_62 : decode b_Lookup_accepts 62 = .ok (.goto (-58), 3) := by decide +kernel
theorem d_Lookup_accepts_65 : decode b_Lookup_accepts 65 = .ok (.iload_n 2, 1) := by decide +kernel
theorem d_Lookup_accepts_66 : decode b_Lookup_accepts 66 = .ok (.ireturn, 1) := by decide +kernel
set_option maxHeartbeats 4000000 in
set_option maxRecDepth 20000 in
theorem k_Lookup_accepts (l : Launch) (D : va_G) (cA : Nat → ClassId) (adr : Nat → Nat) (N : List Nat) (hi : wI N adr) (cn : Nat → va_E) (t : Nat) (xa xb : Int32) (w : Nat) (gd : Bool) (hT : cn t = .inr (6, [.int xa, .int xb, .ref (adr w), .int (bi gd)])) (hN : t ∈ N) (fx fy : Nat → Int32) (xn : Int32) (hR : RP cA adr cn w fx fy xn) (hMw : BM N w) (cnt : Nat) (hxn : xn.toInt = (cnt : Int)) (hcn : cnt ≤ 10) (b : Nat) (g : Nat → Int32) (hG : cn b = .inl (cA 0, 10, .inl g)) (hNb : b ∈ N) (hrg : ∀ k, k < 10 → -100 ≤ (g k).toInt ∧ (g k).toInt ≤ 100) (ca cb : Nat) (hxa : xa.toInt = (ca : Int)) (hxb : xb.toInt = (cb : Int)) (hca : ca < 10) (hcb : cb < 10) : Ct l y_Lookup_accepts b_Lookup_accepts 4 (some .boolean) 2 D cA [.ref (adr t), .ref (adr b)] (fun H => va_P D classes (wl N adr cn) H) (fun r H => ∃ q : Bool, r = some (.int (bi q)) ∧ (q = true ↔ rsP cnt fx fy (g ca).toInt (g cb).toInt) ∧ va_P D classes (wl N adr cn) H) (wA N adr) := by
  refine Ct.mk (by decide) (Nat.le_of_ble_eq_true rfl) ?_
  intro p e s m args below meth c Q H locs ls hx hb hr hml hlk hown hin hK hQ hS hP hl
  have hl : lv_has ls 4 [(0, .ref (adr t)), (1, .ref (adr b))] := hl
  have hown : s.vm.findClass "RangeSheet$Lookup" = some m.cls := hown
  refine lv_iconst (v := 0) hx hb d_Lookup_accepts_0 (by decide) ?_
  refine lv_istore_n (lv' := [(2, .int (0 : Int32)), (0, .ref (adr t)), (1, .ref (adr b))]) hx hb d_Lookup_accepts_1 rfl hl (by decide) rfl (fun ls hl => ?_)
  refine lv_iconst (v := 0) hx hb d_Lookup_accepts_2 (by decide) ?_
  refine lv_istore_n (lv' := [(3, .int (0 : Int32)), (2, .int (0 : Int32)), (0, .ref (adr t)), (1, .ref (adr b))]) hx hb d_Lookup_accepts_3 rfl hl (by decide) rfl (fun ls hl => ?_)
  have L_1 : ∀ (n : Nat) (kx : Nat) (x3 : Int32) (fd : Bool) (H : Heap) (locs : List Loc) (ls : Array Slot), (cnt - kx) < n → (kx ≤ cnt) → (x3.toInt = (kx : Int)) → (fd = true ↔ rsP kx fx fy (g ca).toInt (g cb).toInt) → va_P D classes (wl N adr cn) H → va_S (wA N adr) s.heap H locs → lv_has ls 4 [(0, .ref (adr t)), (1, .ref (adr b)), (2, .int (bi fd)), (3, .int x3)] → W p l e (rl 2) s m args below meth c H locs 0 0 Q (F0 m 4 ls []) := by
    intro n
    induction n with
    | zero => intro kx x3 fd H locs ls hmu; exact absurd hmu (Nat.not_lt_zero _)
    | succ n ih_1 =>
      intro kx x3 fd H locs ls hmu hkx h3 hfd hP hS hl
      refine lv_iload_n hx hb d_Lookup_accepts_4 rfl (lv_at hl 3 rfl) ?_
      refine lv_aload_n hx hb d_Lookup_accepts_5 rfl (lv_at hl 0 rfl) ?_
      refine w_gf hx hb hK i_Lookup hown hP hN hT rfl 2 (by decide) t_662 rfl rfl d_Lookup_accepts_6 ?_
      refine w_gfN hx hb hK i_Rows hown hP hMw.1 hR.1 rfl 2 (by decide) t_75 rfl rfl d_Lookup_accepts_9 ?_
      refine b_icmp_ge (tgt := 65) hx hb d_Lookup_accepts_12 (by decide) h3 hxn (fun c_2 => ?_) (fun c_2 => ?_)
      · refine lv_iload_n hx hb d_Lookup_accepts_65 rfl (lv_at hl 2 rfl) ?_
        refine e_z hx hb hr hlk hQ hS d_Lookup_accepts_66 ?_
        exact ⟨_, rfl, by rw [hfd, show kx = cnt by omega], hP⟩
      · refine lv_iload_n hx hb d_Lookup_accepts_15 rfl (lv_at hl 2 rfl) ?_
        refine lv_aload_n hx hb d_Lookup_accepts_16 rfl (lv_at hl 0 rfl) ?_
        refine w_gf hx hb hK i_Lookup hown hP hN hT rfl 2 (by decide) t_662 rfl rfl d_Lookup_accepts_17 ?_
        refine w_gfN hx hb hK i_Rows hown hP hMw.1 hR.1 rfl 0 (by decide) t_70 rfl rfl d_Lookup_accepts_20 ?_
        refine lv_iload_n hx hb d_Lookup_accepts_23 rfl (lv_at hl 3 rfl) ?_
        refine w_ld hx hb hK hP hMw.2.1 hR.2.1 (kx) h3 (by omega) (show kx < 10 by omega) d_Lookup_accepts_24 (fun z_3 ez_3 => ?_)
        subst ez_3
        refine lv_aload_n hx hb d_Lookup_accepts_25 rfl (lv_at hl 1 rfl) ?_
        refine lv_aload_n hx hb d_Lookup_accepts_26 rfl (lv_at hl 0 rfl) ?_
        refine w_gf hx hb hK i_Lookup hown hP hN hT rfl 0 (by decide) t_660 rfl rfl d_Lookup_accepts_27 ?_
        refine w_ld hx hb hK hP hNb hG (ca) hxa (by omega) (show ca < 10 by omega) d_Lookup_accepts_30 (fun z_4 ez_4 => ?_)
        subst ez_4
        refine b_icmp_ne (tgt := 56) hx hb d_Lookup_accepts_31 (by decide) rfl rfl (fun c_5 => ?_) (fun c_5 => ?_)
        · refine lv_iconst (v := 0) hx hb d_Lookup_accepts_56 (by decide) ?_
          refine W.eq (g2 := F0 m 57 ls [.int (bi false), .int (bi fd)]) rfl ?_
          refine x_or hx hb d_Lookup_accepts_57 ?_
          refine lv_istore_n (lv' := [(2, .int (bi (fd || false))), (0, .ref (adr t)), (1, .ref (adr b)), (3, .int x3)]) hx hb d_Lookup_accepts_58 rfl hl (by decide) rfl (fun ls hl => ?_)
          refine x_iinc (k := 3) (lv' := fun v_ => [(3, .int v_), (2, .int (bi (fd || false))), (0, .ref (adr t)), (1, .ref (adr b))]) hx hb d_Lookup_accepts_59 hl rfl h3 (by decide) (by omega) (by decide) (fun v_ => rfl) (fun z_6 tz_6 ls hl => ?_)
          refine lv_goto (tgt := 4) hx hb d_Lookup_accepts_62 (by decide) ?_
          exact ih_1 (kx + 1) z_6 (fd || false) _ _ _ (by omega) (by omega) (by omega) (by rw [Bool.or_false, rsP.st, hfd]; exact ⟨fun h => Or.inl h, fun h => h.elim id (fun h2 => by exfalso; omega)⟩) hP hS (lv_sub hl [2, 3, 1, 0] rfl)
        · refine lv_aload_n hx hb d_Lookup_accepts_34 rfl (lv_at hl 0 rfl) ?_
          refine w_gf hx hb hK i_Lookup hown hP hN hT rfl 2 (by decide) t_662 rfl rfl d_Lookup_accepts_35 ?_
          refine w_gfN hx hb hK i_Rows hown hP hMw.1 hR.1 rfl 1 (by decide) t_73 rfl rfl d_Lookup_accepts_38 ?_
          refine lv_iload_n hx hb d_Lookup_accepts_41 rfl (lv_at hl 3 rfl) ?_
          refine w_ld hx hb hK hP hMw.2.2 hR.2.2 (kx) h3 (by omega) (show kx < 10 by omega) d_Lookup_accepts_42 (fun z_7 ez_7 => ?_)
          subst ez_7
          refine lv_aload_n hx hb d_Lookup_accepts_43 rfl (lv_at hl 1 rfl) ?_
          refine lv_aload_n hx hb d_Lookup_accepts_44 rfl (lv_at hl 0 rfl) ?_
          refine w_gf hx hb hK i_Lookup hown hP hN hT rfl 1 (by decide) t_661 rfl rfl d_Lookup_accepts_45 ?_
          refine w_ld hx hb hK hP hNb hG (cb) hxb (by omega) (show cb < 10 by omega) d_Lookup_accepts_48 (fun z_8 ez_8 => ?_)
          subst ez_8
          refine b_icmp_ne (tgt := 56) hx hb d_Lookup_accepts_49 (by decide) rfl rfl (fun c_9 => ?_) (fun c_9 => ?_)
          · refine lv_iconst (v := 0) hx hb d_Lookup_accepts_56 (by decide) ?_
            refine W.eq (g2 := F0 m 57 ls [.int (bi false), .int (bi fd)]) rfl ?_
            refine x_or hx hb d_Lookup_accepts_57 ?_
            refine lv_istore_n (lv' := [(2, .int (bi (fd || false))), (0, .ref (adr t)), (1, .ref (adr b)), (3, .int x3)]) hx hb d_Lookup_accepts_58 rfl hl (by decide) rfl (fun ls hl => ?_)
            refine x_iinc (k := 3) (lv' := fun v_ => [(3, .int v_), (2, .int (bi (fd || false))), (0, .ref (adr t)), (1, .ref (adr b))]) hx hb d_Lookup_accepts_59 hl rfl h3 (by decide) (by omega) (by decide) (fun v_ => rfl) (fun z_10 tz_10 ls hl => ?_)
            refine lv_goto (tgt := 4) hx hb d_Lookup_accepts_62 (by decide) ?_
            exact ih_1 (kx + 1) z_10 (fd || false) _ _ _ (by omega) (by omega) (by omega) (by rw [Bool.or_false, rsP.st, hfd]; exact ⟨fun h => Or.inl h, fun h => h.elim id (fun h2 => by exfalso; omega)⟩) hP hS (lv_sub hl [2, 3, 1, 0] rfl)
          · refine lv_iconst (v := 1) hx hb d_Lookup_accepts_52 (by decide) ?_
            refine lv_goto (tgt := 57) hx hb d_Lookup_accepts_53 (by decide) ?_
            refine W.eq (g2 := F0 m 57 ls [.int (bi true), .int (bi fd)]) rfl ?_
            refine x_or hx hb d_Lookup_accepts_57 ?_
            refine lv_istore_n (lv' := [(2, .int (bi (fd || true))), (0, .ref (adr t)), (1, .ref (adr b)), (3, .int x3)]) hx hb d_Lookup_accepts_58 rfl hl (by decide) rfl (fun ls hl => ?_)
            refine x_iinc (k := 3) (lv' := fun v_ => [(3, .int v_), (2, .int (bi (fd || true))), (0, .ref (adr t)), (1, .ref (adr b))]) hx hb d_Lookup_accepts_59 hl rfl h3 (by decide) (by omega) (by decide) (fun v_ => rfl) (fun z_11 tz_11 ls hl => ?_)
            refine lv_goto (tgt := 4) hx hb d_Lookup_accepts_62 (by decide) ?_
            exact ih_1 (kx + 1) z_11 (fd || true) _ _ _ (by omega) (by omega) (by omega) (by rw [Bool.or_true, rsP.st]; exact ⟨fun _ => Or.inr ⟨by omega, by omega⟩, fun _ => rfl⟩) hP hS (lv_sub hl [2, 3, 1, 0] rfl)
  exact L_1 (_ + 1) 0 (0 : Int32) false _ _ _ (Nat.lt_succ_self _) (by omega) kc_0 ⟨fun h => absurd h (by decide), fun ⟨k, hk, _⟩ => absurd hk (by omega)⟩ hP hS (lv_sub hl [2, 3, 1, 0] rfl)
theorem d_Different_last_0 : decode b_Different_last 0 = .ok (.bipush 9, 2) := by decide +kernel
theorem d_Different_last_2 : decode b_Different_last 2 = .ok (.istore_n 1, 1) := by decide +kernel
theorem d_Different_last_3 : decode b_Different_last 3 = .ok (.aload_n 0, 1) := by decide +kernel
theorem d_Different_last_4 : decode b_Different_last 4 = .ok (.iload_n 1, 1) := by decide +kernel
theorem d_Different_last_5 : decode b_Different_last 5 = .ok (.invokevirtual 15, 3) := by decide +kernel
theorem d_Different_last_8 : decode b_Different_last 8 = .ok (.ifCond .ne 9, 3) := by decide +kernel
theorem d_Different_last_11 : decode b_Different_last 11 = .ok (.iinc 1 (-1), 3) := by decide +kernel
theorem d_Different_last_14 : decode b_Different_last 14 = .ok (.goto (-11), 3) := by decide +kernel
theorem d_Different_last_17 : decode b_Different_last 17 = .ok (.iload_n 1, 1) := by decide +kernel
theorem d_Different_last_18 : decode b_Different_last 18 = .ok (.ireturn, 1) := by decide +kernel
set_option maxHeartbeats 4000000 in
set_option maxRecDepth 20000 in
theorem k_Different_last (l : Launch) (D : va_G) (cA : Nat → ClassId) (adr : Nat → Nat) (N : List Nat) (hi : wI N adr) (cn : Nat → va_E) (t : Nat) (xm : Int32) (gd : Bool) (hT : cn t = .inr (5, [.int xm, .int (bi gd)])) (hN : t ∈ N) (mk : Nat) (hxm : xm.toInt = (mk : Int)) (hm0 : 0 < mk ∧ mk < 1024) : Ct l y_Different_last b_Different_last 2 (some .int) 3 D cA [.ref (adr t)] (fun H => va_P D classes (wl N adr cn) H) (fun r H => ∃ (z : Int32) (k : Nat), r = some (.int z) ∧ z.toInt = (k : Int) ∧ mk.testBit k = true ∧ (∀ j, k < j → j < 10 → mk.testBit j = false) ∧ va_P D classes (wl N adr cn) H) (wA N adr) := by
  refine Ct.mk (by decide) (Nat.le_of_ble_eq_true rfl) ?_
  intro p e s m args below meth c Q H locs ls hx hb hr hml hlk hown hin hK hQ hS hP hl
  have hl : lv_has ls 2 [(0, .ref (adr t))] := hl
  have hown : s.vm.findClass "RangeSheet$Different" = some m.cls := hown
  refine lv_bipush (v := 9) hx hb d_Different_last_0 (by decide) ?_
  refine lv_istore_n (lv' := [(1, .int (9 : Int32)), (0, .ref (adr t))]) hx hb d_Different_last_2 rfl hl (by decide) rfl (fun ls hl => ?_)
  have L_1 : ∀ (n : Nat) (kx : Nat) (x1 : Int32) (H : Heap) (locs : List Loc) (ls : Array Slot), kx < n → (kx ≤ 9) → (x1.toInt = (kx : Int)) → (∀ j, kx < j → j < 10 → mk.testBit j = false) → va_P D classes (wl N adr cn) H → va_S (wA N adr) s.heap H locs → lv_has ls 2 [(0, .ref (adr t)), (1, .int x1)] → W p l e (rl 3) s m args below meth c H locs 0 0 Q (F0 m 3 ls []) := by
    intro n
    induction n with
    | zero => intro kx x1 H locs ls hmu; exact absurd hmu (Nat.not_lt_zero _)
    | succ n ih_1 =>
      intro kx x1 H locs ls hmu hkx h1 hno hP hS hl
      refine lv_aload_n hx hb d_Different_last_3 rfl (lv_at hl 0 rfl) ?_
      refine lv_iload_n hx hb d_Different_last_4 rfl (lv_at hl 1 rfl) ?_
      refine x_V (As := [.int x1]) (rest := []) hx hb hml hown hK (k_Different_has l D cA adr N hi cn t xm gd hT hN mk hxm kx x1 h1 (by omega)) t_205 t_19 t_202 t_204 ts_3 yk_Different_has ⟨Nat.le_of_ble_eq_true rfl, Nat.le_of_ble_eq_true rfl⟩ (w_rec hK hP hN hT rfl) hP rfl hl.1 rfl (Nat.le_of_ble_eq_true rfl) d_Different_last_5 ⟨Nat.le_of_ble_eq_true rfl, Nat.le_of_ble_eq_true rfl⟩ hS (fun q h => h) (fun r H locs hq _ hS => ?_)
      obtain ⟨rfl, hP⟩ := hq
      refine W.eq (g2 := F0 m 8 ls [.int (bi (mk.testBit kx))]) rfl ?_
      refine b_bool_ne (tgt := 17) hx hb d_Different_last_8 (by decide) (fun c_2 => ?_) (fun c_2 => ?_)
      · refine lv_iload_n hx hb d_Different_last_17 rfl (lv_at hl 1 rfl) ?_
        refine e_i hx hb hr hlk hQ hS d_Different_last_18 ?_
        exact ⟨_, kx, rfl, h1, c_2, hno, hP⟩
      · have hk0 : 0 < kx := by rcases Nat.eq_zero_or_pos kx with z | z; (exfalso; have := mk_0 mk hm0.2 (fun j hj => by rcases (by omega : kx < j ∨ j = kx) with q | q; exact hno j q hj; (rw [q]; exact c_2)); omega); exact z
        refine x_iinc (k := 1) (lv' := fun v_ => [(1, .int v_), (0, .ref (adr t))]) hx hb d_Different_last_11 hl rfl h1 (by decide) (by omega) (by decide) (fun v_ => rfl) (fun z_3 tz_3 ls hl => ?_)
        refine lv_goto (tgt := 3) hx hb d_Different_last_14 (by decide) ?_
        exact ih_1 (kx - 1) z_3 _ _ _ (by omega) (by omega) (by omega) (fun j h1 h2 => by rcases (by omega : kx < j ∨ j = kx) with z | z; exact hno j z h2; (rw [z]; exact c_2)) hP hS (lv_sub hl [1, 0] rfl)
  exact L_1 (_ + 1) 9 (9 : Int32) _ _ _ (Nat.lt_succ_self _) (by omega) kc_9 (fun j h1 h2 => by omega) hP hS (lv_sub hl [1, 0] rfl)
theorem d_Different_accepts_0 : decode b_Different_accepts 0 = .ok (.iconst 1, 1) := by decide +kernel
theorem d_Different_accepts_1 : decode b_Different_accepts 1 = .ok (.istore_n 2, 1) := by decide +kernel
theorem d_Different_accepts_2 : decode b_Different_accepts 2 = .ok (.iconst 0, 1) := by decide +kernel
theorem d_Different_accepts_3 : decode b_Different_accepts 3 = .ok (.istore_n 3, 1) := by decide +kernel
theorem d_Different_accepts_4 : decode b_Different_accepts 4 = .ok (.iload_n 3, 1) := by decide +kernel
theorem d_Different_accepts_5 : decode b_Different_accepts 5 = .ok (.bipush 10, 2) := by decide +kernel
theorem d_Different_accepts_7 : decode b_Different_accepts 7 = .ok (.if_icmp .ge 59, 3) := by decide +kernel
theorem d_Different_accepts_10 : decode b_Different_accepts 10 = .ok (.iconst 0, 1) := by decide +kernel
theorem d_Different_accepts_11 : decode b_Different_accepts 11 = .ok (.istore 4, 2) := by decide +kernel
theorem d_Different_accepts_13 : decode b_Different_accepts 13 = .ok (.iload 4, 2) := by decide +kernel
theorem d_Different_accepts_15 : decode b_Different_accepts 15 = .ok (.iload_n 3, 1) := by decide +kernel
theorem d_Different_accepts_16 : decode b_Different_accepts 16 = .ok (.if_icmp .ge 44, 3) := by decide +kernel
theorem d_Different_accepts_19 : decode b_Different_accepts 19 = .ok (.iload_n 2, 1) := by decide +kernel
theorem d_Different_accepts_20 : decode b_Different_accepts 20 = .ok (.aload_n 0, 1) := by decide +kernel
theorem d_Different_accepts_21 : decode b_Different_accepts 21 = .ok (.iload_n 3, 1) := by decide +kernel
theorem d_Different_accepts_22 : decode b_Different_accepts 22 = .ok (.invokevirtual 15, 3) := by decide +kernel
theorem d_Different_accepts_25 : decode b_Different_accepts 25 = .ok (.ifCond .eq 22, 3) := by decide +kernel
theorem d_Different_accepts_28 : decode b_Different_accepts 28 = .ok (.aload_n 0, 1) := by decide +kernel
theorem d_Different_accepts_29 : decode b_Different_accepts 29 = .ok (.iload 4, 2) := by decide +kernel
theorem d_Different_accepts_31 : decode b_Different_accepts 31 = .ok (.invokevirtual 15, 3) := by decide +kernel
theorem d_Different_accepts_34 : decode b_Different_accepts 34 = .ok (.ifCond .eq 13, 3) := by decide +kernel
theorem d_Different_accepts_37 : decode b_Different_accepts 37 = .ok (.aload_n 1, 1) := by decide +kernel
theorem d_Different_accepts_38 : decode b_Different_accepts 38 = .ok (.iload_n 3, 1) := by decide +kernel
theorem d_Different_accepts_39 : decode b_Different_accepts 39 = .ok (.iaload, 1) := by decide +kernel
theorem d_Different_accepts_40 : decode b_Different_accepts 40 = .ok (.aload_n 1, 1) := by decide +kernel
theorem d_Different_accepts_41 : decode b_Different_accepts 41 = .ok (.iload 4, 2) := by decide +kernel
theorem d_Different_accepts_43 : decode b_Different_accepts 43 = .ok (.iaload, 1) := by decide +kernel
theorem d_Different_accepts_44 : decode b_Different_accepts 44 = .ok (.if_icmp .eq 7, 3) := by decide +kernel
theorem d_Different_accepts_47 : decode b_Different_accepts 47 = .ok (.iconst 1, 1) := by decide +kernel
theorem d_Different_accepts_48 : decode b_Different_accepts 48 = .ok (.goto 4, 3) := by decide +kernel
theorem d_Different_accepts_51 : decode b_Different_accepts 51 = .ok (.iconst 0, 1) := by decide +kernel
theorem d_Different_accepts_52 : decode b_Different_accepts 52 = .ok (.iand, 1) := by decide +kernel
theorem d_Different_accepts_53 : decode b_Different_accepts 53 = .ok (.istore_n 2, 1) := by decide +kernel
theorem d_Different_accepts_54 : decode b_Different_accepts 54 = .ok (.iinc 4 1, 3) := by decide +kernel
theorem d_Different_accepts_57 : decode b_Different_accepts 57 = .ok (.goto (-44), 3) := by decide +kernel
theorem d_Different_accepts_60 : decode b_Different_accepts 60 = .ok (.iinc 3 1, 3) := by decide +kernel
theorem d_Different_accepts_63 : decode b_Different_accepts 63 = .ok (.goto (-59), 3) := by decide +kernel
theorem d_Different_accepts_66 : decode b_Different_accepts 66 = .ok (.iload_n 2, 1) := by decide +kernel
theorem d_Different_accepts_67 : decode b_Different_accepts 67 = .ok (.ireturn, 1) := by decide +kernel
set_option maxHeartbeats 4000000 in
set_option maxRecDepth 20000 in
theorem k_Different_accepts (l : Launch) (D : va_G) (cA : Nat → ClassId) (adr : Nat → Nat) (N : List Nat) (hi : wI N adr) (cn : Nat → va_E) (t : Nat) (xm : Int32) (gd : Bool) (hT : cn t = .inr (5, [.int xm, .int (bi gd)])) (hN : t ∈ N) (mk : Nat) (hxm : xm.toInt = (mk : Int)) (b : Nat) (g : Nat → Int32) (hG : cn b = .inl (cA 0, 10, .inl g)) (hNb : b ∈ N) (hrg : ∀ k, k < 10 → -100 ≤ (g k).toInt ∧ (g k).toInt ≤ 100) : Ct l y_Different_accepts b_Different_accepts 5 (some .boolean) 3 D cA [.ref (adr t), .ref (adr b)] (fun H => va_P D classes (wl N adr cn) H) (fun r H => ∃ q : Bool, r = some (.int (bi q)) ∧ (q = true ↔ DifT g mk 10 0) ∧ va_P D classes (wl N adr cn) H) (wA N adr) := by
  refine Ct.mk (by decide) (Nat.le_of_ble_eq_true rfl) ?_
  intro p e s m args below meth c Q H locs ls hx hb hr hml hlk hown hin hK hQ hS hP hl
  have hl : lv_has ls 5 [(0, .ref (adr t)), (1, .ref (adr b))] := hl
  have hown : s.vm.findClass "RangeSheet$Different" = some m.cls := hown
  refine lv_iconst (v := 1) hx hb d_Different_accepts_0 (by decide) ?_
  refine lv_istore_n (lv' := [(2, .int (1 : Int32)), (0, .ref (adr t)), (1, .ref (adr b))]) hx hb d_Different_accepts_1 rfl hl (by decide) rfl (fun ls hl => ?_)
  refine lv_iconst (v := 0) hx hb d_Different_accepts_2 (by decide) ?_
  refine lv_istore_n (lv' := [(3, .int (0 : Int32)), (2, .int (1 : Int32)), (0, .ref (adr t)), (1, .ref (adr b))]) hx hb d_Different_accepts_3 rfl hl (by decide) rfl (fun ls hl => ?_)
  have L_1 : ∀ (n : Nat) (jx : Nat) (x3 : Int32) (fd : Bool) (H : Heap) (locs : List Loc) (ls : Array Slot), (10 - jx) < n → (jx ≤ 10) → (x3.toInt = (jx : Int)) → (fd = true ↔ DifT g mk jx 0) → va_P D classes (wl N adr cn) H → va_S (wA N adr) s.heap H locs → lv_has ls 5 [(0, .ref (adr t)), (1, .ref (adr b)), (2, .int (bi fd)), (3, .int x3)] → W p l e (rl 3) s m args below meth c H locs 0 0 Q (F0 m 4 ls []) := by
    intro n
    induction n with
    | zero => intro jx x3 fd H locs ls hmu; exact absurd hmu (Nat.not_lt_zero _)
    | succ n ih_1 =>
      intro jx x3 fd H locs ls hmu hjx h3 hfd hP hS hl
      refine lv_iload_n hx hb d_Different_accepts_4 rfl (lv_at hl 3 rfl) ?_
      refine lv_bipush (v := 10) hx hb d_Different_accepts_5 (by decide) ?_
      refine b_icmp_ge (tgt := 66) hx hb d_Different_accepts_7 (by decide) h3 kc_10 (fun c_2 => ?_) (fun c_2 => ?_)
      · refine lv_iload_n hx hb d_Different_accepts_66 rfl (lv_at hl 2 rfl) ?_
        refine e_z hx hb hr hlk hQ hS d_Different_accepts_67 ?_
        exact ⟨_, rfl, by rw [hfd, show jx = 10 by omega], hP⟩
      · refine lv_iconst (v := 0) hx hb d_Different_accepts_10 (by decide) ?_
        refine lv_istore (lv' := [(4, .int (0 : Int32)), (0, .ref (adr t)), (1, .ref (adr b)), (2, .int (bi fd)), (3, .int x3)]) hx hb d_Different_accepts_11 hl (by decide) rfl (fun ls hl => ?_)
        have L_3 : ∀ (n : Nat) (ix : Nat) (x4 : Int32) (fe : Bool) (H : Heap) (locs : List Loc) (ls : Array Slot), (jx - ix) < n → (ix ≤ jx) → (x4.toInt = (ix : Int)) → (fe = true ↔ DifT g mk jx ix) → va_P D classes (wl N adr cn) H → va_S (wA N adr) s.heap H locs → lv_has ls 5 [(0, .ref (adr t)), (1, .ref (adr b)), (2, .int (bi fe)), (3, .int x3), (4, .int x4)] → W p l e (rl 3) s m args below meth c H locs 0 0 Q (F0 m 13 ls []) := by
          intro n
          induction n with
          | zero => intro ix x4 fe H locs ls hmu; exact absurd hmu (Nat.not_lt_zero _)
          | succ n ih_3 =>
            intro ix x4 fe H locs ls hmu hix h4 hfe hP hS hl
            refine lv_iload hx hb d_Different_accepts_13 (lv_at hl 4 rfl) ?_
            refine lv_iload_n hx hb d_Different_accepts_15 rfl (lv_at hl 3 rfl) ?_
            refine b_icmp_ge (tgt := 60) hx hb d_Different_accepts_16 (by decide) h4 h3 (fun c_4 => ?_) (fun c_4 => ?_)
            · refine x_iinc (k := 3) (lv' := fun v_ => [(3, .int v_), (0, .ref (adr t)), (1, .ref (adr b)), (2, .int (bi fe)), (4, .int x4)]) hx hb d_Different_accepts_60 hl rfl h3 (by decide) (by omega) (by decide) (fun v_ => rfl) (fun z_5 tz_5 ls hl => ?_)
              refine lv_goto (tgt := 4) hx hb d_Different_accepts_63 (by decide) ?_
              exact ih_1 (jx + 1) z_5 fe _ _ _ (by omega) (by omega) (by omega) (by rw [hfe, show ix = jx by omega]; exact DifT.row) hP hS (lv_sub hl [1, 2, 3, 0] rfl)
            · refine lv_iload_n hx hb d_Different_accepts_19 rfl (lv_at hl 2 rfl) ?_
              refine lv_aload_n hx hb d_Different_accepts_20 rfl (lv_at hl 0 rfl) ?_
              refine lv_iload_n hx hb d_Different_accepts_21 rfl (lv_at hl 3 rfl) ?_
              refine x_V (As := [.int x3]) (rest := [.int (bi fe)]) hx hb hml hown hK (k_Different_has l D cA adr N hi cn t xm gd hT hN mk hxm jx x3 h3 (by omega)) t_205 t_19 t_202 t_204 ts_3 yk_Different_has ⟨Nat.le_of_ble_eq_true rfl, Nat.le_of_ble_eq_true rfl⟩ (w_rec hK hP hN hT rfl) hP rfl hl.1 rfl (Nat.le_of_ble_eq_true rfl) d_Different_accepts_22 ⟨Nat.le_of_ble_eq_true rfl, Nat.le_of_ble_eq_true rfl⟩ hS (fun q h => h) (fun r H locs hq _ hS => ?_)
              obtain ⟨rfl, hP⟩ := hq
              refine W.eq (g2 := F0 m 25 ls [.int (bi (mk.testBit jx)), .int (bi fe)]) rfl ?_
              refine b_bool_eq (tgt := 47) hx hb d_Different_accepts_25 (by decide) (fun c_6 => ?_) (fun c_6 => ?_)
              · refine lv_iconst (v := 1) hx hb d_Different_accepts_47 (by decide) ?_
                refine lv_goto (tgt := 52) hx hb d_Different_accepts_48 (by decide) ?_
                refine W.eq (g2 := F0 m 52 ls [.int (bi true), .int (bi fe)]) rfl ?_
                refine x_and hx hb d_Different_accepts_52 ?_
                refine lv_istore_n (lv' := [(2, .int (bi (fe && true))), (0, .ref (adr t)), (1, .ref (adr b)), (3, .int x3), (4, .int x4)]) hx hb d_Different_accepts_53 rfl hl (by decide) rfl (fun ls hl => ?_)
                refine x_iinc (k := 4) (lv' := fun v_ => [(4, .int v_), (2, .int (bi (fe && true))), (0, .ref (adr t)), (1, .ref (adr b)), (3, .int x3)]) hx hb d_Different_accepts_54 hl rfl h4 (by decide) (by omega) (by decide) (fun v_ => rfl) (fun z_7 tz_7 ls hl => ?_)
                refine lv_goto (tgt := 13) hx hb d_Different_accepts_57 (by decide) ?_
                exact ih_3 (ix + 1) z_7 (fe && true) _ _ _ (by omega) (by omega) (by omega) (DifT.no (by omega) hfe (fun h1 h2 => by rw [c_6] at h2; cases h2)) hP hS (lv_sub hl [2, 3, 1, 4, 0] rfl)
              · refine lv_aload_n hx hb d_Different_accepts_28 rfl (lv_at hl 0 rfl) ?_
                refine lv_iload hx hb d_Different_accepts_29 (lv_at hl 4 rfl) ?_
                refine x_V (As := [.int x4]) (rest := [.int (bi fe)]) hx hb hml hown hK (k_Different_has l D cA adr N hi cn t xm gd hT hN mk hxm ix x4 h4 (by omega)) t_205 t_19 t_202 t_204 ts_3 yk_Different_has ⟨Nat.le_of_ble_eq_true rfl, Nat.le_of_ble_eq_true rfl⟩ (w_rec hK hP hN hT rfl) hP rfl hl.1 rfl (Nat.le_of_ble_eq_true rfl) d_Different_accepts_31 ⟨Nat.le_of_ble_eq_true rfl, Nat.le_of_ble_eq_true rfl⟩ hS (fun q h => h) (fun r H locs hq _ hS => ?_)
                obtain ⟨rfl, hP⟩ := hq
                refine W.eq (g2 := F0 m 34 ls [.int (bi (mk.testBit ix)), .int (bi fe)]) rfl ?_
                refine b_bool_eq (tgt := 47) hx hb d_Different_accepts_34 (by decide) (fun c_8 => ?_) (fun c_8 => ?_)
                · refine lv_iconst (v := 1) hx hb d_Different_accepts_47 (by decide) ?_
                  refine lv_goto (tgt := 52) hx hb d_Different_accepts_48 (by decide) ?_
                  refine W.eq (g2 := F0 m 52 ls [.int (bi true), .int (bi fe)]) rfl ?_
                  refine x_and hx hb d_Different_accepts_52 ?_
                  refine lv_istore_n (lv' := [(2, .int (bi (fe && true))), (0, .ref (adr t)), (1, .ref (adr b)), (3, .int x3), (4, .int x4)]) hx hb d_Different_accepts_53 rfl hl (by decide) rfl (fun ls hl => ?_)
                  refine x_iinc (k := 4) (lv' := fun v_ => [(4, .int v_), (2, .int (bi (fe && true))), (0, .ref (adr t)), (1, .ref (adr b)), (3, .int x3)]) hx hb d_Different_accepts_54 hl rfl h4 (by decide) (by omega) (by decide) (fun v_ => rfl) (fun z_9 tz_9 ls hl => ?_)
                  refine lv_goto (tgt := 13) hx hb d_Different_accepts_57 (by decide) ?_
                  exact ih_3 (ix + 1) z_9 (fe && true) _ _ _ (by omega) (by omega) (by omega) (DifT.no (by omega) hfe (fun h1 h2 => by rw [c_8] at h1; cases h1)) hP hS (lv_sub hl [2, 3, 1, 4, 0] rfl)
                · refine lv_aload_n hx hb d_Different_accepts_37 rfl (lv_at hl 1 rfl) ?_
                  refine lv_iload_n hx hb d_Different_accepts_38 rfl (lv_at hl 3 rfl) ?_
                  refine w_ld hx hb hK hP hNb hG (jx) h3 (by omega) (show jx < 10 by omega) d_Different_accepts_39 (fun z_10 ez_10 => ?_)
                  subst ez_10
                  refine lv_aload_n hx hb d_Different_accepts_40 rfl (lv_at hl 1 rfl) ?_
                  refine lv_iload hx hb d_Different_accepts_41 (lv_at hl 4 rfl) ?_
                  refine w_ld hx hb hK hP hNb hG (ix) h4 (by omega) (show ix < 10 by omega) d_Different_accepts_43 (fun z_11 ez_11 => ?_)
                  subst ez_11
                  refine b_icmp_eq (tgt := 51) hx hb d_Different_accepts_44 (by decide) rfl rfl (fun c_12 => ?_) (fun c_12 => ?_)
                  · refine lv_iconst (v := 0) hx hb d_Different_accepts_51 (by decide) ?_
                    refine W.eq (g2 := F0 m 52 ls [.int (bi false), .int (bi fe)]) rfl ?_
                    refine x_and hx hb d_Different_accepts_52 ?_
                    refine lv_istore_n (lv' := [(2, .int (bi (fe && false))), (0, .ref (adr t)), (1, .ref (adr b)), (3, .int x3), (4, .int x4)]) hx hb d_Different_accepts_53 rfl hl (by decide) rfl (fun ls hl => ?_)
                    refine x_iinc (k := 4) (lv' := fun v_ => [(4, .int v_), (2, .int (bi (fe && false))), (0, .ref (adr t)), (1, .ref (adr b)), (3, .int x3)]) hx hb d_Different_accepts_54 hl rfl h4 (by decide) (by omega) (by decide) (fun v_ => rfl) (fun z_13 tz_13 ls hl => ?_)
                    refine lv_goto (tgt := 13) hx hb d_Different_accepts_57 (by decide) ?_
                    exact ih_3 (ix + 1) z_13 (fe && false) _ _ _ (by omega) (by omega) (by omega) (by rw [Bool.and_false, DifT.st (by omega)]; exact ⟨fun h => absurd h (by decide), fun h => absurd (by omega) (h.2 c_8 c_6)⟩) hP hS (lv_sub hl [2, 3, 1, 4, 0] rfl)
                  · refine lv_iconst (v := 1) hx hb d_Different_accepts_47 (by decide) ?_
                    refine lv_goto (tgt := 52) hx hb d_Different_accepts_48 (by decide) ?_
                    refine W.eq (g2 := F0 m 52 ls [.int (bi true), .int (bi fe)]) rfl ?_
                    refine x_and hx hb d_Different_accepts_52 ?_
                    refine lv_istore_n (lv' := [(2, .int (bi (fe && true))), (0, .ref (adr t)), (1, .ref (adr b)), (3, .int x3), (4, .int x4)]) hx hb d_Different_accepts_53 rfl hl (by decide) rfl (fun ls hl => ?_)
                    refine x_iinc (k := 4) (lv' := fun v_ => [(4, .int v_), (2, .int (bi (fe && true))), (0, .ref (adr t)), (1, .ref (adr b)), (3, .int x3)]) hx hb d_Different_accepts_54 hl rfl h4 (by decide) (by omega) (by decide) (fun v_ => rfl) (fun z_14 tz_14 ls hl => ?_)
                    refine lv_goto (tgt := 13) hx hb d_Different_accepts_57 (by decide) ?_
                    exact ih_3 (ix + 1) z_14 (fe && true) _ _ _ (by omega) (by omega) (by omega) (DifT.no (by omega) hfe (fun _ _ => by omega)) hP hS (lv_sub hl [2, 3, 1, 4, 0] rfl)
        exact L_3 (_ + 1) 0 (0 : Int32) fd _ _ _ (Nat.lt_succ_self _) (by omega) kc_0 hfd hP hS (lv_sub hl [1, 2, 3, 4, 0] rfl)
  exact L_1 (_ + 1) 0 (0 : Int32) true _ _ _ (Nat.lt_succ_self _) (by omega) kc_0 ⟨fun _ => DifT.z, fun _ => rfl⟩ hP hS (lv_sub hl [2, 3, 1, 0] rfl)
section XLA
variable {p : Program} {l : Launch} {e : Env} {R : Room} {s : State} {m : MethodId} {args : Array Value} {below : List Frame} {meth : Method} {c : Code} {H : Heap} {locs : List Loc} {cells slots : Nat} {Q : State → Prop}
variable {cc : ByteArray} {pc : Nat} {ls : Array Slot} {rest : List Value} {D : va_G} {cA : Nat → ClassId} {H0 : Heap} {N : List Nat} {adr : Nat → Nat} {cn : Nat → va_E} {F : Nat → Nat → Int32} {r nL : Nat}
theorem x_last (hexec : p.tables.exec = Jvm.exec) (hb : c.code = cc) (hml : c.maxLocals = nL) (hown : s.vm.findClass "RangeSheet" = some m.cls) (hK : KE D cA s) (hsize : ls.size = nL) (hi : wI N adr) (hP : va_P D classes (wl N adr cn) H) (hS : va_S (wA N adr) H0 H locs) (hN : 56 + r ∈ N) (hMr : ∀ t, t < 3 → BM N (47 + 3 * t)) (hRel : RelAt adr cn F r) (hRP : RPs cA adr cn F) {nn : Nat} (hRV : RV nn (F 5 r).toInt (F 6 r).toInt (F 7 r).toInt (F 8 r).toInt) (hRW : RW F) (hn10 : nn ≤ 10)  (hR : 10 ≤ R.frames ∧ 600 ≤ R.locals) (hc : cells ≤ R.cells ∧ slots ≤ R.slots) (hW : (rest.map fun v => v.category).sum ≤ 8) (hdg : decode cc pc = .ok (.invokevirtual 219, 3))
    (kk : ∀ (H1 : Heap) (locs1 : List Loc) (z : Int32), (∀ sd : Nat, z.toInt < (sd : Int) ↔ LastOk sd F r) → va_P D classes (wl N adr cn) H1 → va_S (wA N adr) H0 H1 locs1 → W p l e R s m args below meth c H1 locs1 cells slots Q (F0 m (pc + 3) ls (.int z :: rest))) : W p l e R s m args below meth c H locs cells slots Q (F0 m pc ls (.ref (adr (56 + r)) :: rest)) := by
  obtain ⟨hk0, hV7, hV1, hV5, hV8, hV3⟩ := hRV
  rcases (by omega : (F 5 r).toInt = 0 ∨ (F 5 r).toInt = 1 ∨ (F 5 r).toInt = 2 ∨ (F 5 r).toInt = 3 ∨ (F 5 r).toInt = 4 ∨ (F 5 r).toInt = 5 ∨ (F 5 r).toInt = 6 ∨ (F 5 r).toInt = 7 ∨ (F 5 r).toInt = 8) with hk | hk | hk | hk | hk | hk | hk | hk | hk
  · obtain ⟨e0, hT⟩ := hRel.2.2.2.2 (by omega) (by omega) (by omega) (by omega); rw [show kci (F 5 r).toInt = 7 from by rw [hk]; rfl] at hT
    have hV1 := hV1 (by omega)
    have hV3 := hV3 (by omega) (by omega) (by omega)
    refine x_A (As := []) (rest := rest) hexec hb hml hown hK (k_last_Sum l D cA adr N hi cn (56 + r) (F 6 r) (F 7 r) (F 8 r) e0 (gB F r) hT hN) t_335 t_11 t_323 t_325 t_324 t_343 t_334 ⟨by decide, by decide, yk_Three_last.2.2⟩ ⟨Nat.le_trans (Nat.le_of_ble_eq_true rfl) hR.1, Nat.le_trans (Nat.le_of_ble_eq_true rfl) hR.2⟩ (w_rec hK hP hN hT rfl) hP rfl hsize rfl hW hdg hc hS (fun q h => h) (fun rr H1 l1 hq _ hS1 => ?_)
    obtain ⟨z, rfl, hz, hP1⟩ := hq
    exact kk H1 l1 z (fun sd => by unfold LastOk; rw [if_neg (by omega)]; exact ⟨fun h => ⟨by omega, by omega, fun _ _ => by omega⟩, fun h => by have := h.2.2 (by omega) (by omega); omega⟩) hP1 hS1
  · obtain ⟨e0, hT⟩ := hRel.2.2.2.2 (by omega) (by omega) (by omega) (by omega); rw [show kci (F 5 r).toInt = 8 from by rw [hk]; rfl] at hT
    have hV1 := hV1 (by omega)
    have hV3 := hV3 (by omega) (by omega) (by omega)
    refine x_A (As := []) (rest := rest) hexec hb hml hown hK (k_last_Product l D cA adr N hi cn (56 + r) (F 6 r) (F 7 r) (F 8 r) e0 (gB F r) hT hN) t_335 t_11 t_323 t_325 t_324 t_341 t_334 ⟨by decide, by decide, yk_Three_last.2.2⟩ ⟨Nat.le_trans (Nat.le_of_ble_eq_true rfl) hR.1, Nat.le_trans (Nat.le_of_ble_eq_true rfl) hR.2⟩ (w_rec hK hP hN hT rfl) hP rfl hsize rfl hW hdg hc hS (fun q h => h) (fun rr H1 l1 hq _ hS1 => ?_)
    obtain ⟨z, rfl, hz, hP1⟩ := hq
    exact kk H1 l1 z (fun sd => by unfold LastOk; rw [if_neg (by omega)]; exact ⟨fun h => ⟨by omega, by omega, fun _ _ => by omega⟩, fun h => by have := h.2.2 (by omega) (by omega); omega⟩) hP1 hS1
  · obtain ⟨e0, hT⟩ := hRel.2.2.2.1 hk
    have hV1 := hV1 (by omega)
    have hV3 := hV3 (by omega) (by omega) (by omega)
    refine x_A (As := []) (rest := rest) hexec hb hml hown hK (k_last_Quotient l D cA adr N hi cn (56 + r) (F 7 r) (F 6 r) (F 8 r) e0 (gB F r) hT hN) t_335 t_11 t_323 t_325 t_324 t_342 t_334 ⟨by decide, by decide, yk_Three_last.2.2⟩ ⟨Nat.le_trans (Nat.le_of_ble_eq_true rfl) hR.1, Nat.le_trans (Nat.le_of_ble_eq_true rfl) hR.2⟩ (w_rec hK hP hN hT rfl) hP rfl hsize rfl hW hdg hc hS (fun q h => h) (fun rr H1 l1 hq _ hS1 => ?_)
    obtain ⟨z, rfl, hz, hP1⟩ := hq
    exact kk H1 l1 z (fun sd => by unfold LastOk; rw [if_neg (by omega)]; exact ⟨fun h => ⟨by omega, by omega, fun _ _ => by omega⟩, fun h => by have := h.2.2 (by omega) (by omega); omega⟩) hP1 hS1
  · obtain ⟨e0, hT⟩ := hRel.2.2.2.2 (by omega) (by omega) (by omega) (by omega); rw [show kci (F 5 r).toInt = 10 from by rw [hk]; rfl] at hT
    have hV1 := hV1 (by omega)
    have hV3 := hV3 (by omega) (by omega) (by omega)
    refine x_A (As := []) (rest := rest) hexec hb hml hown hK (k_last_Lesser l D cA adr N hi cn (56 + r) (F 6 r) (F 7 r) (F 8 r) e0 (gB F r) hT hN) t_335 t_11 t_323 t_325 t_324 t_337 t_334 ⟨by decide, by decide, yk_Three_last.2.2⟩ ⟨Nat.le_trans (Nat.le_of_ble_eq_true rfl) hR.1, Nat.le_trans (Nat.le_of_ble_eq_true rfl) hR.2⟩ (w_rec hK hP hN hT rfl) hP rfl hsize rfl hW hdg hc hS (fun q h => h) (fun rr H1 l1 hq _ hS1 => ?_)
    obtain ⟨z, rfl, hz, hP1⟩ := hq
    exact kk H1 l1 z (fun sd => by unfold LastOk; rw [if_neg (by omega)]; exact ⟨fun h => ⟨by omega, by omega, fun _ _ => by omega⟩, fun h => by have := h.2.2 (by omega) (by omega); omega⟩) hP1 hS1
  · obtain ⟨e0, hT⟩ := hRel.2.2.2.2 (by omega) (by omega) (by omega) (by omega); rw [show kci (F 5 r).toInt = 11 from by rw [hk]; rfl] at hT
    have hV1 := hV1 (by omega)
    have hV3 := hV3 (by omega) (by omega) (by omega)
    refine x_A (As := []) (rest := rest) hexec hb hml hown hK (k_last_Greater l D cA adr N hi cn (56 + r) (F 6 r) (F 7 r) (F 8 r) e0 (gB F r) hT hN) t_335 t_11 t_323 t_325 t_324 t_333 t_334 ⟨by decide, by decide, yk_Three_last.2.2⟩ ⟨Nat.le_trans (Nat.le_of_ble_eq_true rfl) hR.1, Nat.le_trans (Nat.le_of_ble_eq_true rfl) hR.2⟩ (w_rec hK hP hN hT rfl) hP rfl hsize rfl hW hdg hc hS (fun q h => h) (fun rr H1 l1 hq _ hS1 => ?_)
    obtain ⟨z, rfl, hz, hP1⟩ := hq
    exact kk H1 l1 z (fun sd => by unfold LastOk; rw [if_neg (by omega)]; exact ⟨fun h => ⟨by omega, by omega, fun _ _ => by omega⟩, fun h => by have := h.2.2 (by omega) (by omega); omega⟩) hP1 hS1
  · have hT := hRel.1 hk
    have hV1 := hV1 (by omega)
    have hV5 := hV5 hk
    refine x_A (As := []) (rest := rest) hexec hb hml hown hK (k_AtMost_last l D cA adr N hi cn (56 + r) (F 6 r) (F 7 r) (F 8 r) (gB F r) hT hN (F 6 r).toInt.toNat (F 7 r).toInt.toNat (by omega) (by omega) (by omega) (by omega)) t_328 t_17 t_323 t_325 t_324 t_326 t_327 ⟨by decide, by decide, yk_AtMost_last.2.2⟩ ⟨Nat.le_trans (Nat.le_of_ble_eq_true rfl) hR.1, Nat.le_trans (Nat.le_of_ble_eq_true rfl) hR.2⟩ (w_rec hK hP hN hT rfl) hP rfl hsize rfl hW hdg hc hS (fun q h => h) (fun rr H1 l1 hq _ hS1 => ?_)
    obtain ⟨z, rfl, hz, hP1⟩ := hq
    exact kk H1 l1 z (fun sd => by unfold LastOk; rw [if_neg (by omega)]; exact ⟨fun h => ⟨by omega, by omega, fun h1 h2 => absurd hk (by assumption)⟩, fun h => by omega⟩) hP1 hS1
  · obtain ⟨e0, hT⟩ := hRel.2.2.2.2 (by omega) (by omega) (by omega) (by omega); rw [show kci (F 5 r).toInt = 12 from by rw [hk]; rfl] at hT
    have hV1 := hV1 (by omega)
    have hV3 := hV3 (by omega) (by omega) (by omega)
    refine x_A (As := []) (rest := rest) hexec hb hml hown hK (k_last_If l D cA adr N hi cn (56 + r) (F 6 r) (F 7 r) (F 8 r) e0 (gB F r) hT hN) t_335 t_11 t_323 t_325 t_324 t_336 t_334 ⟨by decide, by decide, yk_Three_last.2.2⟩ ⟨Nat.le_trans (Nat.le_of_ble_eq_true rfl) hR.1, Nat.le_trans (Nat.le_of_ble_eq_true rfl) hR.2⟩ (w_rec hK hP hN hT rfl) hP rfl hsize rfl hW hdg hc hS (fun q h => h) (fun rr H1 l1 hq _ hS1 => ?_)
    obtain ⟨z, rfl, hz, hP1⟩ := hq
    exact kk H1 l1 z (fun sd => by unfold LastOk; rw [if_neg (by omega)]; exact ⟨fun h => ⟨by omega, by omega, fun _ _ => by omega⟩, fun h => by have := h.2.2 (by omega) (by omega); omega⟩) hP1 hS1
  · have hT := hRel.2.1 hk
    have hV7 := hV7 hk
    refine x_A (As := []) (rest := rest) hexec hb hml hown hK (k_Different_last l D cA adr N hi cn (56 + r) (F 6 r) (gB F r) hT hN (F 6 r).toInt.toNat (by omega) (by omega)) t_332 t_19 t_323 t_325 t_324 t_330 t_331 ⟨by decide, by decide, yk_Different_last.2.2⟩ ⟨Nat.le_trans (Nat.le_of_ble_eq_true rfl) hR.1, Nat.le_trans (Nat.le_of_ble_eq_true rfl) hR.2⟩ (w_rec hK hP hN hT rfl) hP rfl hsize rfl hW hdg hc hS (fun q h => h) (fun rr H1 l1 hq _ hS1 => ?_)
    obtain ⟨z, k9, rfl, hz, ht9, hj9, hP1⟩ := hq
    exact kk H1 l1 z (fun sd => by unfold LastOk; rw [if_pos hk, hz, ← lst_lt (by omega) ht9 hj9]; omega) hP1 hS1
  · have hT := hRel.2.2.1 hk
    have hV1 := hV1 (by omega)
    have hV8 := hV8 hk
    have hrws := hRW (F 8 r).toInt.toNat (by omega)
    refine x_A (As := []) (rest := rest) hexec hb hml hown hK (k_Lookup_last l D cA adr N hi cn (56 + r) (F 6 r) (F 7 r) (47 + 3 * (F 8 r).toInt.toNat) (gB F r) hT hN (F 6 r).toInt.toNat (F 7 r).toInt.toNat (by omega) (by omega) (by omega) (by omega)) t_340 t_20 t_323 t_325 t_324 t_338 t_339 ⟨by decide, by decide, yk_Lookup_last.2.2⟩ ⟨Nat.le_trans (Nat.le_of_ble_eq_true rfl) hR.1, Nat.le_trans (Nat.le_of_ble_eq_true rfl) hR.2⟩ (w_rec hK hP hN hT rfl) hP rfl hsize rfl hW hdg hc hS (fun q h => h) (fun rr H1 l1 hq _ hS1 => ?_)
    obtain ⟨z, rfl, hz, hP1⟩ := hq
    exact kk H1 l1 z (fun sd => by unfold LastOk; rw [if_neg (by omega)]; exact ⟨fun h => ⟨by omega, by omega, fun h1 h2 => absurd hk (by assumption)⟩, fun h => by omega⟩) hP1 hS1
theorem x_acc (hexec : p.tables.exec = Jvm.exec) (hb : c.code = cc) (hml : c.maxLocals = nL) (hown : s.vm.findClass "RangeSheet" = some m.cls) (hK : KE D cA s) (hsize : ls.size = nL) (hi : wI N adr) (hP : va_P D classes (wl N adr cn) H) (hS : va_S (wA N adr) H0 H locs) (hN : 56 + r ∈ N) (hMr : ∀ t, t < 3 → BM N (47 + 3 * t)) (hRel : RelAt adr cn F r) (hRP : RPs cA adr cn F) {nn : Nat} (hRV : RV nn (F 5 r).toInt (F 6 r).toInt (F 7 r).toInt (F 8 r).toInt) (hRW : RW F) (hn10 : nn ≤ 10) (hG : cn 7 = .inl (cA 0, 10, .inl (F 33))) (hNb : 7 ∈ N) (hrg : ∀ k, k < 10 → -100 ≤ (F 33 k).toInt ∧ (F 33 k).toInt ≤ 100) (hR : 10 ≤ R.frames ∧ 600 ≤ R.locals) (hc : cells ≤ R.cells ∧ slots ≤ R.slots) (hW : (rest.map fun v => v.category).sum ≤ 8) (hdg : decode cc pc = .ok (.invokevirtual 223, 3))
    (kk : ∀ (H1 : Heap) (locs1 : List Loc) (q : Bool), (q = true ↔ AccP F r) → va_P D classes (wl N adr cn) H1 → va_S (wA N adr) H0 H1 locs1 → W p l e R s m args below meth c H1 locs1 cells slots Q (F0 m (pc + 3) ls (.int (bi q) :: rest))) : W p l e R s m args below meth c H locs cells slots Q (F0 m pc ls (.ref (adr 7) :: .ref (adr (56 + r)) :: rest)) := by
  obtain ⟨hk0, hV7, hV1, hV5, hV8, hV3⟩ := hRV
  rcases (by omega : (F 5 r).toInt = 0 ∨ (F 5 r).toInt = 1 ∨ (F 5 r).toInt = 2 ∨ (F 5 r).toInt = 3 ∨ (F 5 r).toInt = 4 ∨ (F 5 r).toInt = 5 ∨ (F 5 r).toInt = 6 ∨ (F 5 r).toInt = 7 ∨ (F 5 r).toInt = 8) with hk | hk | hk | hk | hk | hk | hk | hk | hk
  · obtain ⟨e0, hT⟩ := hRel.2.2.2.2 (by omega) (by omega) (by omega) (by omega); rw [show kci (F 5 r).toInt = 7 from by rw [hk]; rfl] at hT
    have hV1 := hV1 (by omega)
    have hV3 := hV3 (by omega) (by omega) (by omega)
    refine x_A (As := [.ref (adr 7)]) (rest := rest) hexec hb hml hown hK (k_acc_Sum l D cA adr N hi cn (56 + r) (F 6 r) (F 7 r) (F 8 r) e0 (gB F r) hT hN 7 (F 33) hG hNb hrg (F 6 r).toInt.toNat (F 7 r).toInt.toNat (F 8 r).toInt.toNat (by omega) (by omega) (by omega) (by omega) (by omega) (by omega)) t_355 t_11 t_344 t_346 t_345 t_384 t_354 ⟨by decide, by decide, yk_Three_accepts.2.2⟩ ⟨Nat.le_trans (Nat.le_of_ble_eq_true rfl) hR.1, Nat.le_trans (Nat.le_of_ble_eq_true rfl) hR.2⟩ (w_rec hK hP hN hT rfl) hP rfl hsize rfl hW hdg hc hS (fun q h => h) (fun rr H1 l1 hq _ hS1 => ?_)
    obtain ⟨q, rfl, hq, hP1⟩ := hq
    exact kk H1 l1 q (by unfold AccP; rw [if_neg (by omega), if_neg (by omega), if_neg (by omega), hk]; exact hq) hP1 hS1
  · obtain ⟨e0, hT⟩ := hRel.2.2.2.2 (by omega) (by omega) (by omega) (by omega); rw [show kci (F 5 r).toInt = 8 from by rw [hk]; rfl] at hT
    have hV1 := hV1 (by omega)
    have hV3 := hV3 (by omega) (by omega) (by omega)
    refine x_A (As := [.ref (adr 7)]) (rest := rest) hexec hb hml hown hK (k_acc_Product l D cA adr N hi cn (56 + r) (F 6 r) (F 7 r) (F 8 r) e0 (gB F r) hT hN 7 (F 33) hG hNb hrg (F 6 r).toInt.toNat (F 7 r).toInt.toNat (F 8 r).toInt.toNat (by omega) (by omega) (by omega) (by omega) (by omega) (by omega)) t_355 t_11 t_344 t_346 t_345 t_382 t_354 ⟨by decide, by decide, yk_Three_accepts.2.2⟩ ⟨Nat.le_trans (Nat.le_of_ble_eq_true rfl) hR.1, Nat.le_trans (Nat.le_of_ble_eq_true rfl) hR.2⟩ (w_rec hK hP hN hT rfl) hP rfl hsize rfl hW hdg hc hS (fun q h => h) (fun rr H1 l1 hq _ hS1 => ?_)
    obtain ⟨q, rfl, hq, hP1⟩ := hq
    exact kk H1 l1 q (by unfold AccP; rw [if_neg (by omega), if_neg (by omega), if_neg (by omega), hk]; exact hq) hP1 hS1
  · obtain ⟨e0, hT⟩ := hRel.2.2.2.1 hk
    have hV1 := hV1 (by omega)
    have hV3 := hV3 (by omega) (by omega) (by omega)
    refine x_A (As := [.ref (adr 7)]) (rest := rest) hexec hb hml hown hK (k_acc_Quotient l D cA adr N hi cn (56 + r) (F 7 r) (F 6 r) (F 8 r) e0 (gB F r) hT hN 7 (F 33) hG hNb hrg (F 7 r).toInt.toNat (F 6 r).toInt.toNat (F 8 r).toInt.toNat (by omega) (by omega) (by omega) (by omega) (by omega) (by omega)) t_355 t_11 t_344 t_346 t_345 t_383 t_354 ⟨by decide, by decide, yk_Three_accepts.2.2⟩ ⟨Nat.le_trans (Nat.le_of_ble_eq_true rfl) hR.1, Nat.le_trans (Nat.le_of_ble_eq_true rfl) hR.2⟩ (w_rec hK hP hN hT rfl) hP rfl hsize rfl hW hdg hc hS (fun q h => h) (fun rr H1 l1 hq _ hS1 => ?_)
    obtain ⟨q, rfl, hq, hP1⟩ := hq
    exact kk H1 l1 q (by unfold AccP; rw [if_neg (by omega), if_neg (by omega), if_neg (by omega), hk]; exact hq) hP1 hS1
  · obtain ⟨e0, hT⟩ := hRel.2.2.2.2 (by omega) (by omega) (by omega) (by omega); rw [show kci (F 5 r).toInt = 10 from by rw [hk]; rfl] at hT
    have hV1 := hV1 (by omega)
    have hV3 := hV3 (by omega) (by omega) (by omega)
    refine x_A (As := [.ref (adr 7)]) (rest := rest) hexec hb hml hown hK (k_acc_Lesser l D cA adr N hi cn (56 + r) (F 6 r) (F 7 r) (F 8 r) e0 (gB F r) hT hN 7 (F 33) hG hNb hrg (F 6 r).toInt.toNat (F 7 r).toInt.toNat (F 8 r).toInt.toNat (by omega) (by omega) (by omega) (by omega) (by omega) (by omega)) t_355 t_11 t_344 t_346 t_345 t_378 t_354 ⟨by decide, by decide, yk_Three_accepts.2.2⟩ ⟨Nat.le_trans (Nat.le_of_ble_eq_true rfl) hR.1, Nat.le_trans (Nat.le_of_ble_eq_true rfl) hR.2⟩ (w_rec hK hP hN hT rfl) hP rfl hsize rfl hW hdg hc hS (fun q h => h) (fun rr H1 l1 hq _ hS1 => ?_)
    obtain ⟨q, rfl, hq, hP1⟩ := hq
    exact kk H1 l1 q (by unfold AccP; rw [if_neg (by omega), if_neg (by omega), if_neg (by omega), hk]; exact hq) hP1 hS1
  · obtain ⟨e0, hT⟩ := hRel.2.2.2.2 (by omega) (by omega) (by omega) (by omega); rw [show kci (F 5 r).toInt = 11 from by rw [hk]; rfl] at hT
    have hV1 := hV1 (by omega)
    have hV3 := hV3 (by omega) (by omega) (by omega)
    refine x_A (As := [.ref (adr 7)]) (rest := rest) hexec hb hml hown hK (k_acc_Greater l D cA adr N hi cn (56 + r) (F 6 r) (F 7 r) (F 8 r) e0 (gB F r) hT hN 7 (F 33) hG hNb hrg (F 6 r).toInt.toNat (F 7 r).toInt.toNat (F 8 r).toInt.toNat (by omega) (by omega) (by omega) (by omega) (by omega) (by omega)) t_355 t_11 t_344 t_346 t_345 t_353 t_354 ⟨by decide, by decide, yk_Three_accepts.2.2⟩ ⟨Nat.le_trans (Nat.le_of_ble_eq_true rfl) hR.1, Nat.le_trans (Nat.le_of_ble_eq_true rfl) hR.2⟩ (w_rec hK hP hN hT rfl) hP rfl hsize rfl hW hdg hc hS (fun q h => h) (fun rr H1 l1 hq _ hS1 => ?_)
    obtain ⟨q, rfl, hq, hP1⟩ := hq
    exact kk H1 l1 q (by unfold AccP; rw [if_neg (by omega), if_neg (by omega), if_neg (by omega), hk]; exact hq) hP1 hS1
  · have hT := hRel.1 hk
    have hV1 := hV1 (by omega)
    have hV5 := hV5 hk
    refine x_A (As := [.ref (adr 7)]) (rest := rest) hexec hb hml hown hK (k_AtMost_accepts l D cA adr N hi cn (56 + r) (F 6 r) (F 7 r) (F 8 r) (gB F r) hT hN 7 (F 33) hG hNb hrg (F 6 r).toInt.toNat (F 7 r).toInt.toNat (by omega) (by omega) (by omega) (by omega) (by omega)) t_349 t_17 t_344 t_346 t_345 t_347 t_348 ⟨by decide, by decide, yk_AtMost_accepts.2.2⟩ ⟨Nat.le_trans (Nat.le_of_ble_eq_true rfl) hR.1, Nat.le_trans (Nat.le_of_ble_eq_true rfl) hR.2⟩ (w_rec hK hP hN hT rfl) hP rfl hsize rfl hW hdg hc hS (fun q h => h) (fun rr H1 l1 hq _ hS1 => ?_)
    obtain ⟨q, rfl, hq, hP1⟩ := hq
    exact kk H1 l1 q (by unfold AccP; rw [if_neg (by omega), if_neg (by omega), if_pos hk]; exact hq) hP1 hS1
  · obtain ⟨e0, hT⟩ := hRel.2.2.2.2 (by omega) (by omega) (by omega) (by omega); rw [show kci (F 5 r).toInt = 12 from by rw [hk]; rfl] at hT
    have hV1 := hV1 (by omega)
    have hV3 := hV3 (by omega) (by omega) (by omega)
    refine x_A (As := [.ref (adr 7)]) (rest := rest) hexec hb hml hown hK (k_acc_If l D cA adr N hi cn (56 + r) (F 6 r) (F 7 r) (F 8 r) e0 (gB F r) hT hN 7 (F 33) hG hNb hrg (F 6 r).toInt.toNat (F 7 r).toInt.toNat (F 8 r).toInt.toNat (by omega) (by omega) (by omega) (by omega) (by omega) (by omega)) t_355 t_11 t_344 t_346 t_345 t_377 t_354 ⟨by decide, by decide, yk_Three_accepts.2.2⟩ ⟨Nat.le_trans (Nat.le_of_ble_eq_true rfl) hR.1, Nat.le_trans (Nat.le_of_ble_eq_true rfl) hR.2⟩ (w_rec hK hP hN hT rfl) hP rfl hsize rfl hW hdg hc hS (fun q h => h) (fun rr H1 l1 hq _ hS1 => ?_)
    obtain ⟨q, rfl, hq, hP1⟩ := hq
    exact kk H1 l1 q (by unfold AccP; rw [if_neg (by omega), if_neg (by omega), if_neg (by omega), hk]; exact hq) hP1 hS1
  · have hT := hRel.2.1 hk
    have hV7 := hV7 hk
    refine x_A (As := [.ref (adr 7)]) (rest := rest) hexec hb hml hown hK (k_Different_accepts l D cA adr N hi cn (56 + r) (F 6 r) (gB F r) hT hN (F 6 r).toInt.toNat (by omega) 7 (F 33) hG hNb hrg) t_352 t_19 t_344 t_346 t_345 t_350 t_351 ⟨by decide, by decide, yk_Different_accepts.2.2⟩ ⟨Nat.le_trans (Nat.le_of_ble_eq_true rfl) hR.1, Nat.le_trans (Nat.le_of_ble_eq_true rfl) hR.2⟩ (w_rec hK hP hN hT rfl) hP rfl hsize rfl hW hdg hc hS (fun q h => h) (fun rr H1 l1 hq _ hS1 => ?_)
    obtain ⟨q, rfl, hq, hP1⟩ := hq
    exact kk H1 l1 q (by unfold AccP; rw [if_pos hk, hq]; exact ⟨fun h i j a1 a2 a3 a4 => h i j a1 (by omega) a3 a4, fun h i j a1 a2 a3 a4 => h i j a1 (by omega) a3 a4⟩) hP1 hS1
  · have hT := hRel.2.2.1 hk
    have hV1 := hV1 (by omega)
    have hV8 := hV8 hk
    have hrws := hRW (F 8 r).toInt.toNat (by omega)
    refine x_A (As := [.ref (adr 7)]) (rest := rest) hexec hb hml hown hK (k_Lookup_accepts l D cA adr N hi cn (56 + r) (F 6 r) (F 7 r) (47 + 3 * (F 8 r).toInt.toNat) (gB F r) hT hN _ _ _ (hRP (F 8 r).toInt.toNat (by omega)) (hMr (F 8 r).toInt.toNat (by omega)) (F 10 (F 8 r).toInt.toNat).toInt.toNat (by have := hrws.1; omega) (by have := hrws.1; omega) 7 (F 33) hG hNb hrg (F 6 r).toInt.toNat (F 7 r).toInt.toNat (by omega) (by omega) (by omega) (by omega)) t_381 t_20 t_344 t_346 t_345 t_379 t_380 ⟨by decide, by decide, yk_Lookup_accepts.2.2⟩ ⟨Nat.le_trans (Nat.le_of_ble_eq_true rfl) hR.1, Nat.le_trans (Nat.le_of_ble_eq_true rfl) hR.2⟩ (w_rec hK hP hN hT rfl) hP rfl hsize rfl hW hdg hc hS (fun q h => h) (fun rr H1 l1 hq _ hS1 => ?_)
    obtain ⟨q, rfl, hq, hP1⟩ := hq
    exact kk H1 l1 q (by unfold AccP; rw [if_neg (by omega), if_pos hk]; exact hq) hP1 hS1
end XLA
theorem d_Sht_satisfied_0 : decode b_Sht_satisfied 0 = .ok (.iload_n 1, 1) := by decide +kernel
theorem d_Sht_satisfied_1 : decode b_Sht_satisfied 1 = .ok (.iconst 0, 1) := by decide +kernel
theorem d_Sht_satisfied_2 : decode b_Sht_satisfied 2 = .ok (.aload_n 0, 1) := by decide +kernel
theorem d_Sht_satisfied_3 : decode b_Sht_satisfied 3 = .ok (.getfield 127, 3) := by decide +kernel
theorem d_Sht_satisfied_6 : decode b_Sht_satisfied 6 = .ok (.iconst 1, 1) := by decide +kernel
theorem d_Sht_satisfied_7 : decode b_Sht_satisfied 7 = .ok (.isub, 1) := by decide +kernel
theorem d_Sht_satisfied_8 : decode b_Sht_satisfied 8 = .ok (.invokestatic 59, 3) := by decide +kernel
theorem d_Sht_satisfied_11 : decode b_Sht_satisfied 11 = .ok (.ifCond .eq 39, 3) := by decide +kernel
theorem d_Sht_satisfied_14 : decode b_Sht_satisfied 14 = .ok (.aload_n 0, 1) := by decide +kernel
theorem d_Sht_satisfied_15 : decode b_Sht_satisfied 15 = .ok (.getfield 24, 3) := by decide +kernel
theorem d_Sht_satisfied_18 : decode b_Sht_satisfied 18 = .ok (.iload_n 1, 1) := by decide +kernel
theorem d_Sht_satisfied_19 : decode b_Sht_satisfied 19 = .ok (.aaload, 1) := by decide +kernel
theorem d_Sht_satisfied_20 : decode b_Sht_satisfied 20 = .ok (.invokevirtual 219, 3) := by decide +kernel
theorem d_Sht_satisfied_23 : decode b_Sht_satisfied 23 = .ok (.aload_n 0, 1) := by decide +kernel
theorem d_Sht_satisfied_24 : decode b_Sht_satisfied 24 = .ok (.getfield 196, 3) := by decide +kernel
theorem d_Sht_satisfied_27 : decode b_Sht_satisfied 27 = .ok (.if_icmp .ge 23, 3) := by decide +kernel
theorem d_Sht_satisfied_30 : decode b_Sht_satisfied 30 = .ok (.aload_n 0, 1) := by decide +kernel
theorem d_Sht_satisfied_31 : decode b_Sht_satisfied 31 = .ok (.getfield 24, 3) := by decide +kernel
theorem d_Sht_satisfied_34 : decode b_Sht_satisfied 34 = .ok (.iload_n 1, 1) := by decide +kernel
theorem d_Sht_satisfied_35 : decode b_Sht_satisfied 35 = .ok (.aaload, 1) := by decide +kernel
theorem d_Sht_satisfied_36 : decode b_Sht_satisfied 36 = .ok (.aload_n 0, 1) := by decide +kernel
theorem d_Sht_satisfied_37 : decode b_Sht_satisfied 37 = .ok (.getfield 52, 3) := by decide +kernel
theorem d_Sht_satisfied_40 : decode b_Sht_satisfied 40 = .ok (.invokevirtual 223, 3) := by decide +kernel
theorem d_Sht_satisfied_43 : decode b_Sht_satisfied 43 = .ok (.ifCond .eq 7, 3) := by decide +kernel
theorem d_Sht_satisfied_46 : decode b_Sht_satisfied 46 = .ok (.iconst 1, 1) := by decide +kernel
theorem d_Sht_satisfied_47 : decode b_Sht_satisfied 47 = .ok (.goto 4, 3) := by decide +kernel
theorem d_Sht_satisfied_50 : decode b_Sht_satisfied 50 = .ok (.iconst 0, 1) := by decide +kernel
theorem d_Sht_satisfied_51 : decode b_Sht_satisfied 51 = .ok (.ireturn, 1) := by decide +kernel
set_option maxHeartbeats 4000000 in
set_option maxRecDepth 20000 in
theorem k_Sht_satisfied (l : Launch) (D : va_G) (cA : Nat → ClassId) (adr : Nat → Nat) (N : List Nat) (hi : wI N adr) (cn : Nat → va_E) (F : Nat → Nat → Int32) (I : Nat → Int32) (nn mm en mk0 : Nat) (x : Nat → Int32) (dn : Bool) (hCP : CP cA adr cn I F mm x dn) (hNm : ∀ k, k < 56 + mm → k ∈ N) (hWF : WF I F nn mm en mk0) (xk : Int32) : Ct l y_Sht_satisfied b_Sht_satisfied 2 (some .boolean) 12 D cA [.ref (adr 0), .int xk] (fun H => va_P D classes (wl N adr cn) H) (fun r H => ∃ q : Bool, r = some (.int (bi q)) ∧ (q = true ↔ (0 ≤ xk.toInt ∧ xk.toInt < mm ∧ SatR (I 32).toInt F xk.toInt.toNat)) ∧ CQ D cA adr N I F mm H) (wA N adr) := by
  refine Ct.mk (by decide) (Nat.le_of_ble_eq_true rfl) ?_
  intro p e s m args below meth c Q H locs ls hx hb hr hml hlk hown hin hK hQ hS hP hl
  have hl : lv_has ls 2 [(0, .ref (adr 0)), (1, .int xk)] := hl
  have hown : s.vm.findClass "RangeSheet" = some m.cls := hown
  have hWF0 := hWF
  have hCP0 := hCP
  obtain ⟨hW, hE, hen, ⟨hmk, hmke⟩, htd, hsp, hsd, hset, hgd⟩ := hWF
  obtain ⟨hSR, ⟨hx1, hx3, hx8, hx9, hx11, hx14, hx18⟩, ⟨hc2, hc3, hc4, hc5, hc6, hc7⟩, ⟨cf, hBf⟩, ⟨fn0, gn0, cn0, hBn, hBne⟩, hBx⟩ := hCP
  obtain ⟨f, g, ch, hB⟩ := hBx 0 (by omega)
  have hB : BP cA adr cn 14 f g ch := hB
  have hn10 := hW.1
  have hm12 := hW.2.1
  have hen12 := hE.1
  have hv1 : (x 1).toInt = (nn : Int) := by rw [hx1]; exact hW.2.2.1
  have hv8 : (x 8).toInt = (en : Int) := by rw [hx8]; exact hen
  have hv9 : (x 9).toInt = (mk0 : Int) := by rw [hx9]; exact hmk
  have hN0 : 0 ∈ N := hNm 0 (by omega)
  have hsd9 : (I 32).toInt = ((I 32).toInt.toNat : Int) := by omega
  have hv18 : (x 18).toInt = ((I 32).toInt.toNat : Int) := by rw [hx18]; exact hsd9
  refine lv_iload_n hx hb d_Sht_satisfied_0 rfl (lv_at hl 1 rfl) ?_
  refine lv_iconst (v := 0) hx hb d_Sht_satisfied_1 (by decide) ?_
  refine lv_aload_n hx hb d_Sht_satisfied_2 rfl (lv_at hl 0 rfl) ?_
  refine w_gf hx hb hK i_Sht hown hP (hNm 0 (by omega)) hSR.1 rfl 3 (by decide) t_88 rfl rfl d_Sht_satisfied_3 ?_
  refine lv_iconst (v := 1) hx hb d_Sht_satisfied_6 (by decide) ?_
  refine x_sub hx hb d_Sht_satisfied_7 hSR.2.2.1 kc_1 (by omega) (fun z_1 tz_1 => ?_)
  refine r_wn_Sht hx hb hml hown hK hl.1 hS ⟨Nat.le_of_ble_eq_true rfl, Nat.le_of_ble_eq_true rfl⟩ ⟨Nat.le_of_ble_eq_true rfl, Nat.le_of_ble_eq_true rfl⟩ rfl kc_0 tz_1  d_Sht_satisfied_8 (Nat.le_of_ble_eq_true rfl) (fun locs hS => ?_)
  refine b_bool_eq (tgt := 50) hx hb d_Sht_satisfied_11 (by decide) (fun c_2 => ?_) (fun c_2 => ?_)
  · have hc_2 := of_decide_eq_false c_2
    refine lv_iconst (v := 0) hx hb d_Sht_satisfied_50 (by decide) ?_
    refine W.eq (g2 := F0 m 51 ls [.int (bi false)]) rfl ?_
    refine e_z hx hb hr hlk hQ hS d_Sht_satisfied_51 ?_
    refine ⟨false, rfl, ?_, CQ.of hCP0 hP⟩
    exact ⟨fun h => absurd h (by decide), fun h => by exfalso; omega⟩
  · have hc_2 := of_decide_eq_true c_2
    have hkk : xk.toInt = (xk.toInt.toNat : Int) := by omega
    refine lv_aload_n hx hb d_Sht_satisfied_14 rfl (lv_at hl 0 rfl) ?_
    refine w_gf hx hb hK i_Sht hown hP (hNm 0 (by omega)) hSR.1 rfl 2 (by decide) t_87 rfl rfl d_Sht_satisfied_15 ?_
    refine lv_iload_n hx hb d_Sht_satisfied_18 rfl (lv_at hl 1 rfl) ?_
    refine w_ald hx hb hK hP (hNm 1 (by omega)) hSR.2.1 rfl (xk.toInt.toNat) hkk (by omega) (show xk.toInt.toNat < 12 by omega) (if_pos (by omega)) d_Sht_satisfied_19 ?_
    refine x_last (r := xk.toInt.toNat) (F := F) hx hb hml hown hK hl.1 hi hP hS (hNm _ (by omega)) (fun t ht => ⟨hNm _ (by omega), hNm _ (by omega), hNm _ (by omega)⟩) (hSR.2.2.2.2 xk.toInt.toNat (by omega)) hSR.2.2.2.1 (hW.2.2.2.2.2 xk.toInt.toNat (by omega)) hW.2.2.2.2.1 hn10 ⟨Nat.le_of_ble_eq_true rfl, Nat.le_of_ble_eq_true rfl⟩ ⟨Nat.le_of_ble_eq_true rfl, Nat.le_of_ble_eq_true rfl⟩ (Nat.le_of_ble_eq_true rfl) d_Sht_satisfied_20 (fun H locs z_3 hLs hP hS => ?_)
    refine lv_aload_n hx hb d_Sht_satisfied_23 rfl (lv_at hl 0 rfl) ?_
    refine w_gf hx hb hK i_Sht hown hP (hNm 0 (by omega)) hSR.1 rfl 18 (by decide) t_103 rfl rfl d_Sht_satisfied_24 ?_
    refine b_icmp_ge (tgt := 50) hx hb d_Sht_satisfied_27 (by decide) rfl hv18 (fun c_4 => ?_) (fun c_4 => ?_)
    · refine lv_iconst (v := 0) hx hb d_Sht_satisfied_50 (by decide) ?_
      refine W.eq (g2 := F0 m 51 ls [.int (bi false)]) rfl ?_
      refine e_z hx hb hr hlk hQ hS d_Sht_satisfied_51 ?_
      refine ⟨false, rfl, ?_, CQ.of hCP0 hP⟩
      refine ⟨fun h => absurd h (by decide), fun h => ?_⟩
      have h3 := h.2.2; rw [hsd9, SatR_iff] at h3; have := (hLs _).mpr h3.1; omega
    · refine lv_aload_n hx hb d_Sht_satisfied_30 rfl (lv_at hl 0 rfl) ?_
      refine w_gf hx hb hK i_Sht hown hP (hNm 0 (by omega)) hSR.1 rfl 2 (by decide) t_87 rfl rfl d_Sht_satisfied_31 ?_
      refine lv_iload_n hx hb d_Sht_satisfied_34 rfl (lv_at hl 1 rfl) ?_
      refine w_ald hx hb hK hP (hNm 1 (by omega)) hSR.2.1 rfl (xk.toInt.toNat) hkk (by omega) (show xk.toInt.toNat < 12 by omega) (if_pos (by omega)) d_Sht_satisfied_35 ?_
      refine lv_aload_n hx hb d_Sht_satisfied_36 rfl (lv_at hl 0 rfl) ?_
      refine w_gf hx hb hK i_Sht hown hP (hNm 0 (by omega)) hSR.1 rfl 17 (by decide) t_102 rfl rfl d_Sht_satisfied_37 ?_
      refine x_acc (r := xk.toInt.toNat) (F := F) hx hb hml hown hK hl.1 hi hP hS (hNm _ (by omega)) (fun t ht => ⟨hNm _ (by omega), hNm _ (by omega), hNm _ (by omega)⟩) (hSR.2.2.2.2 xk.toInt.toNat (by omega)) hSR.2.2.2.1 (hW.2.2.2.2.2 xk.toInt.toNat (by omega)) hW.2.2.2.2.1 hn10 hc7 (hNm 7 (by omega)) hset ⟨Nat.le_of_ble_eq_true rfl, Nat.le_of_ble_eq_true rfl⟩ ⟨Nat.le_of_ble_eq_true rfl, Nat.le_of_ble_eq_true rfl⟩ (Nat.le_of_ble_eq_true rfl) d_Sht_satisfied_40 (fun H locs qa hAc hP hS => ?_)
      refine b_bool_eq (tgt := 50) hx hb d_Sht_satisfied_43 (by decide) (fun c_5 => ?_) (fun c_5 => ?_)
      · refine lv_iconst (v := 0) hx hb d_Sht_satisfied_50 (by decide) ?_
        refine W.eq (g2 := F0 m 51 ls [.int (bi false)]) rfl ?_
        refine e_z hx hb hr hlk hQ hS d_Sht_satisfied_51 ?_
        refine ⟨false, rfl, ?_, CQ.of hCP0 hP⟩
        refine ⟨fun h => absurd h (by decide), fun h => ?_⟩
        have h3 := h.2.2; rw [hsd9, SatR_iff] at h3; have := hAc.mpr h3.2; rw [c_5] at this; cases this
      · refine lv_iconst (v := 1) hx hb d_Sht_satisfied_46 (by decide) ?_
        refine lv_goto (tgt := 51) hx hb d_Sht_satisfied_47 (by decide) ?_
        refine W.eq (g2 := F0 m 51 ls [.int (bi true)]) rfl ?_
        refine e_z hx hb hr hlk hQ hS d_Sht_satisfied_51 ?_
        refine ⟨true, rfl, ?_, CQ.of hCP0 hP⟩
        exact ⟨fun _ => ⟨by omega, by omega, by rw [hsd9, SatR_iff]; exact ⟨(hLs _).mp (by omega), hAc.mp c_5⟩⟩, fun _ => rfl⟩
