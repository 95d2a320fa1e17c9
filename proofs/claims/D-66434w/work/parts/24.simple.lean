/-! the state as both sides see it: the model's fields that tell something -/
def Sm (J : Nat → Int32) (G : Nat → Nat → Int32) (I : Nat → Int32) (F : Nat → Nat → Int32) : Prop :=
  (I 1 = J 1 ∧ I 4 = J 4 ∧ I 13 = J 13 ∧ I 17 = J 17 ∧ I 28 = J 28 ∧ I 31 = J 31 ∧ I 32 = J 32) ∧ (∀ n, n ≠ 18 → n ≠ 19 → n ≠ 27 → n ≠ 29 → n ≠ 30 → n ≠ 34 → n ≠ 35 → F n = G n) ∧ ∀ k : Nat, (k : Int) < (J 28).toInt → F 29 k = G 29 k ∧ F 30 k = G 30 k
theorem Sm.rf {I : Nat → Int32} {F : Nat → Nat → Int32} : Sm I F I F := ⟨⟨rfl, rfl, rfl, rfl, rfl, rfl, rfl⟩, fun _ _ _ _ _ _ _ _ => rfl, fun _ _ => ⟨rfl, rfl⟩⟩
theorem Sm.d {I I' : Nat → Int32} {F F' : Nat → Nat → Int32} {d : Nat} (h : FrD d I I' F F') : Sm I F I' F' :=
  ⟨⟨h.1 1 (by omega), h.1 4 (by omega), h.1 13 (by omega), h.1 17 (by omega), h.1 28 (by omega), h.1 31 (by omega), h.1 32 (by omega)⟩, fun n a b c _ _ _ _ => h.2.1 n a b c, fun k _ => ⟨congrFun (h.2.1 29 (by decide) (by decide) (by decide)) k, congrFun (h.2.1 30 (by decide) (by decide) (by decide)) k⟩⟩
theorem Sm.tr {J I I' : Nat → Int32} {G F F' : Nat → Nat → Int32} (h : Sm J G I F) (g : Sm I F I' F') : Sm J G I' F' := by
  obtain ⟨⟨a1, a2, a3, a4, a5, a6, a7⟩, b, c⟩ := h
  obtain ⟨⟨d1, d2, d3, d4, d5, d6, d7⟩, e, f⟩ := g
  refine ⟨⟨d1.trans a1, d2.trans a2, d3.trans a3, d4.trans a4, d5.trans a5, d6.trans a6, d7.trans a7⟩, fun n z1 z2 z3 z4 z5 z6 z7 => (e n z1 z2 z3 z4 z5 z6 z7).trans (b n z1 z2 z3 z4 z5 z6 z7), fun k hk => ?_⟩
  have q := f k (by rw [a5]; exact hk)
  have q2 := c k hk
  exact ⟨q.1.trans q2.1, q.2.trans q2.2⟩
def gB (F : Nat → Nat → Int32) (r : Nat) : Bool := decide (¬ (F 9 r).toInt = 0)
/-- what holds of it -/
def WF (I : Nat → Int32) (F : Nat → Nat → Int32) (n m en mk : Nat) : Prop := WR I F n m ∧ WE F n en ∧ (I 13).toInt = (en : Int) ∧ ((I 17).toInt = (mk : Int) ∧ mk < 2 ^ en) ∧ (0 ≤ (I 28).toInt ∧ (I 28).toInt ≤ n) ∧ (0 ≤ (I 31).toInt ∧ (I 31).toInt ≤ 300) ∧ (0 ≤ (I 32).toInt ∧ (I 32).toInt ≤ n) ∧ (∀ k, k < 10 → -100 ≤ (F 33 k).toInt ∧ (F 33 k).toInt ≤ 100) ∧ (∀ r, r < m → F 9 r = bi (gB F r))
theorem Sm.ft {J I : Nat → Int32} {G F : Nat → Nat → Int32} (h : Sm J G I F) : FT G F := by
  have q := h.2.1
  exact ⟨q 5 (by decide) (by decide) (by decide) (by decide) (by decide) (by decide) (by decide), q 6 (by decide) (by decide) (by decide) (by decide) (by decide) (by decide) (by decide), q 7 (by decide) (by decide) (by decide) (by decide) (by decide) (by decide) (by decide), q 8 (by decide) (by decide) (by decide) (by decide) (by decide) (by decide) (by decide), q 9 (by decide) (by decide) (by decide) (by decide) (by decide) (by decide) (by decide), q 10 (by decide) (by decide) (by decide) (by decide) (by decide) (by decide) (by decide), q 11 (by decide) (by decide) (by decide) (by decide) (by decide) (by decide) (by decide), q 12 (by decide) (by decide) (by decide) (by decide) (by decide) (by decide) (by decide)⟩
theorem Sm.wf {J I : Nat → Int32} {G F : Nat → Nat → Int32} {n m en mk : Nat} (h : Sm J G I F) (w : WF J G n m en mk) : WF I F n m en mk := by
  obtain ⟨w1, w2, w3, w4, w5, w6, w7, w8, w9⟩ := w
  have hf := h.ft
  have q := h.2.1
  have e2 := q 2 (by decide) (by decide) (by decide) (by decide) (by decide) (by decide) (by decide)
  have e3 := q 3 (by decide) (by decide) (by decide) (by decide) (by decide) (by decide) (by decide)
  have e14 := q 14 (by decide) (by decide) (by decide) (by decide) (by decide) (by decide) (by decide)
  have e15 := q 15 (by decide) (by decide) (by decide) (by decide) (by decide) (by decide) (by decide)
  have e16 := q 16 (by decide) (by decide) (by decide) (by decide) (by decide) (by decide) (by decide)
  have e33 := q 33 (by decide) (by decide) (by decide) (by decide) (by decide) (by decide) (by decide)
  have e9 := hf.2.2.2.2.1
  obtain ⟨⟨a1, a2, a3, a4, a5, a6, a7⟩, -, -⟩ := h
  refine ⟨w1.fr a1 a2 hf, ?_, by rw [a3]; exact w3, by rw [a4]; exact w4, by rw [a5]; exact w5, by rw [a6]; exact w6, by rw [a7]; exact w7, by rw [e33]; exact w8, fun r hr => ?_⟩
  · unfold WE at *
    rw [e2, e3, e14, e15, e16]
    exact w2
  · unfold gB
    rw [e9]
    exact w9 r hr
def Rng (lo hh : Int) : Prop := -100 ≤ lo ∧ hh ≤ 100 ∧ lo ≤ hh
/-- a state behind a call: thrown's code -/
def MQ2 (D : va_G) (cA : Nat → ClassId) (adr : Nat → Nat) (cd : Int32) (J : Nat → Int32) (G : Nat → Nat → Int32) (H : Heap) : Prop := ∃ (I2 : Nat → Int32) (F2 : Nat → Nat → Int32) (c2 : Bool), I2 0 = cd ∧ I2 20 = bi c2 ∧ Sm J G I2 F2 ∧ MP D cA adr I2 F2 H
def b_cell (n : Nat) (lo hh : Int) : Int := if ¬ (-100 ≤ lo ∧ hh ≤ 100 ∧ lo ≤ hh) then 1 else if n = 10 then 2 else 0
def G_cell (F : Nat → Nat → Int32) (n : Nat) (lo hh : Int32) : Nat → Nat → Int32 := va_up (va_up F 2 (upd (F 2) n lo)) 3 (upd (F 3) n hh)
/-- more than one bit -/
def TB (a : Nat) : Prop := ¬ a &&& (a - 1) = 0
def pcN (a : Nat) (k : Nat) : Nat := match k with
  | 0 => 0
  | k + 1 => pcN a k + (a.testBit k).toNat
theorem pcN_le (a k : Nat) : pcN a k ≤ k := by
  induction k with
  | zero => exact Nat.le_refl _
  | succ k ih => simp only [pcN]; cases a.testBit k <;> simp <;> omega
def RO (n : Nat) (k a b c : Int) : Prop := RV n k a b c ∧ (k = 7 → TB a.toNat)
theorem d_Mod_thrown_0 : decode b_Mod_thrown 0 = .ok (.aload_n 0, 1) := by decide +kernel
theorem d_Mod_thrown_1 : decode b_Mod_thrown 1 = .ok (.getfield 74, 3) := by decide +kernel
theorem d_Mod_thrown_4 : decode b_Mod_thrown 4 = .ok (.ireturn, 1) := by decide +kernel
set_option maxHeartbeats 4000000 in
set_option maxRecDepth 20000 in
theorem k_Mod_thrown (l : Launch) (D : va_G) (cA : Nat → ClassId) (adr : Nat → Nat) (hi : wI mN adr) (I : Nat → Int32) (F : Nat → Nat → Int32)  : Ct l y_Mod_thrown b_Mod_thrown 1 (some .int) 1 D cA [.ref (adr 0)] (fun H => MP D cA adr I F H) (fun r H => r = some (.int (I 0)) ∧ MP D cA adr I F H) (wA mN adr) := by
  refine Ct.mk (by decide) (Nat.le_of_ble_eq_true rfl) ?_
  intro p e s m args below meth c Q H locs ls hx hb hr hml hlk hown hin hK hQ hS hP hl
  have hl : lv_has ls 1 [(0, .ref (adr 0))] := hl
  have hown : s.vm.findClass "RangeSheetModel" = some m.cls := hown
  refine lv_aload_n hx hb d_Mod_thrown_0 rfl (lv_at hl 0 rfl) ?_
  refine m_gi (v := (I 0)) hx hb hK hown hP 0 (by decide) t_737 rfl d_Mod_thrown_1 ?_
  refine e_i hx hb hr hlk hQ hS d_Mod_thrown_4 ?_
  exact ⟨rfl, hP⟩
theorem d_Mod_refuse_0 : decode b_Mod_refuse 0 = .ok (.aload_n 0, 1) := by decide +kernel
theorem d_Mod_refuse_1 : decode b_Mod_refuse 1 = .ok (.iload_n 1, 1) := by decide +kernel
theorem d_Mod_refuse_2 : decode b_Mod_refuse 2 = .ok (.putfield 74, 3) := by decide +kernel
theorem d_Mod_refuse_5 : decode b_Mod_refuse 5 = .ok (.iconst 0, 1) := by decide +kernel
theorem d_Mod_refuse_6 : decode b_Mod_refuse 6 = .ok (.ireturn, 1) := by decide +kernel
set_option maxHeartbeats 4000000 in
set_option maxRecDepth 20000 in
theorem k_Mod_refuse (l : Launch) (D : va_G) (cA : Nat → ClassId) (adr : Nat → Nat) (hi : wI mN adr) (I : Nat → Int32) (F : Nat → Nat → Int32) (xc : Int32) : Ct l y_Mod_refuse b_Mod_refuse 2 (some .int) 1 D cA [.ref (adr 0), .int xc] (fun H => MP D cA adr I F H) (fun r H => r = some (.int 0) ∧ MP D cA adr (va_up I 0 xc) F H) (wA mN adr) := by
  refine Ct.mk (by decide) (Nat.le_of_ble_eq_true rfl) ?_
  intro p e s m args below meth c Q H locs ls hx hb hr hml hlk hown hin hK hQ hS hP hl
  have hl : lv_has ls 2 [(0, .ref (adr 0)), (1, .int xc)] := hl
  have hown : s.vm.findClass "RangeSheetModel" = some m.cls := hown
  refine lv_aload_n hx hb d_Mod_refuse_0 rfl (lv_at hl 0 rfl) ?_
  refine lv_iload_n hx hb d_Mod_refuse_1 rfl (lv_at hl 1 rfl) ?_
  refine m_pi hx hb hK hown hi hP hS wA_mem 0 (by decide) t_737 rfl rfl d_Mod_refuse_2 (fun H locs hP hS => ?_)
  refine lv_iconst (v := 0) hx hb d_Mod_refuse_5 (by decide) ?_
  refine e_i hx hb hr hlk hQ hS d_Mod_refuse_6 ?_
  exact ⟨rfl, hP⟩
theorem d_Mod_isCell_0 : decode b_Mod_isCell 0 = .ok (.iload_n 1, 1) := by decide +kernel
theorem d_Mod_isCell_1 : decode b_Mod_isCell 1 = .ok (.iconst 0, 1) := by decide +kernel
theorem d_Mod_isCell_2 : decode b_Mod_isCell 2 = .ok (.aload_n 0, 1) := by decide +kernel
theorem d_Mod_isCell_3 : decode b_Mod_isCell 3 = .ok (.getfield 86, 3) := by decide +kernel
theorem d_Mod_isCell_6 : decode b_Mod_isCell 6 = .ok (.iconst 1, 1) := by decide +kernel
theorem d_Mod_isCell_7 : decode b_Mod_isCell 7 = .ok (.isub, 1) := by decide +kernel
theorem d_Mod_isCell_8 : decode b_Mod_isCell 8 = .ok (.invokestatic 89, 3) := by decide +kernel
theorem d_Mod_isCell_11 : decode b_Mod_isCell 11 = .ok (.ireturn, 1) := by decide +kernel
set_option maxHeartbeats 4000000 in
set_option maxRecDepth 20000 in
theorem k_Mod_isCell (l : Launch) (D : va_G) (cA : Nat → ClassId) (adr : Nat → Nat) (hi : wI mN adr) (I : Nat → Int32) (F : Nat → Nat → Int32) (nn : Nat) (xk : Int32) (hn10 : nn ≤ 10) (hn1 : (I 1).toInt = (nn : Int)) : Ct l y_Mod_isCell b_Mod_isCell 2 (some .boolean) 2 D cA [.ref (adr 0), .int xk] (fun H => MP D cA adr I F H) (fun r H => r = some (.int (bi (decide (0 ≤ xk.toInt ∧ xk.toInt ≤ (nn : Int) - 1)))) ∧ MP D cA adr I F H) (wA mN adr) := by
  refine Ct.mk (by decide) (Nat.le_of_ble_eq_true rfl) ?_
  intro p e s m args below meth c Q H locs ls hx hb hr hml hlk hown hin hK hQ hS hP hl
  have hl : lv_has ls 2 [(0, .ref (adr 0)), (1, .int xk)] := hl
  have hown : s.vm.findClass "RangeSheetModel" = some m.cls := hown
  refine lv_iload_n hx hb d_Mod_isCell_0 rfl (lv_at hl 1 rfl) ?_
  refine lv_iconst (v := 0) hx hb d_Mod_isCell_1 (by decide) ?_
  refine lv_aload_n hx hb d_Mod_isCell_2 rfl (lv_at hl 0 rfl) ?_
  refine m_gi (v := (I 1)) hx hb hK hown hP 1 (by decide) t_738 rfl d_Mod_isCell_3 ?_
  refine lv_iconst (v := 1) hx hb d_Mod_isCell_6 (by decide) ?_
  refine x_sub hx hb d_Mod_isCell_7 hn1 kc_1 (by omega) (fun z_1 tz_1 => ?_)
  refine r_Mod_within hx hb hml hown hK hl.1 hS ⟨Nat.le_of_ble_eq_true rfl, Nat.le_of_ble_eq_true rfl⟩ ⟨Nat.le_of_ble_eq_true rfl, Nat.le_of_ble_eq_true rfl⟩ rfl kc_0 tz_1  d_Mod_isCell_8 (Nat.le_of_ble_eq_true rfl) (fun locs hS => ?_)
  refine e_z hx hb hr hlk hQ hS d_Mod_isCell_11 ?_
  exact ⟨rfl, hP⟩
theorem d_Mod_steps_0 : decode b_Mod_steps 0 = .ok (.aload_n 0, 1) := by decide +kernel
theorem d_Mod_steps_1 : decode b_Mod_steps 1 = .ok (.iconst 0, 1) := by decide +kernel
theorem d_Mod_steps_2 : decode b_Mod_steps 2 = .ok (.putfield 74, 3) := by decide +kernel
theorem d_Mod_steps_5 : decode b_Mod_steps 5 = .ok (.aload_n 0, 1) := by decide +kernel
theorem d_Mod_steps_6 : decode b_Mod_steps 6 = .ok (.getfield 217, 3) := by decide +kernel
theorem d_Mod_steps_9 : decode b_Mod_steps 9 = .ok (.ireturn, 1) := by decide +kernel
set_option maxHeartbeats 4000000 in
set_option maxRecDepth 20000 in
theorem k_Mod_steps (l : Launch) (D : va_G) (cA : Nat → ClassId) (adr : Nat → Nat) (hi : wI mN adr) (I : Nat → Int32) (F : Nat → Nat → Int32) (nn mm en mk : Nat) (ch : Bool) (hch : I 20 = bi ch) (hWF : WF I F nn mm en mk)  : Ct l y_Mod_steps b_Mod_steps 1 (some .int) 1 D cA [.ref (adr 0)] (fun H => MP D cA adr I F H) (fun r H => ∃ z : Int32, r = some (.int z) ∧ z.toInt = (I 31).toInt ∧ MQ2 D cA adr 0 I F H) (wA mN adr) := by
  refine Ct.mk (by decide) (Nat.le_of_ble_eq_true rfl) ?_
  intro p e s m args below meth c Q H locs ls hx hb hr hml hlk hown hin hK hQ hS hP hl
  have hl : lv_has ls 1 [(0, .ref (adr 0))] := hl
  have hown : s.vm.findClass "RangeSheetModel" = some m.cls := hown
  obtain ⟨hW, hE, hen, ⟨hmk, hmke⟩, htd, hsp, hsd, hset, hgd⟩ := hWF
  have hn1 : (I 1).toInt = (nn : Int) := hW.2.2.1
  have hm1 : (I 4).toInt = (mm : Int) := hW.2.2.2.1
  have hn10 := hW.1
  have hm12 := hW.2.1
  have hen12 := hE.1
  refine lv_aload_n hx hb d_Mod_steps_0 rfl (lv_at hl 0 rfl) ?_
  refine lv_iconst (v := 0) hx hb d_Mod_steps_1 (by decide) ?_
  refine m_pi hx hb hK hown hi hP hS wA_mem 0 (by decide) t_737 rfl rfl d_Mod_steps_2 (fun H locs hP hS => ?_)
  refine lv_aload_n hx hb d_Mod_steps_5 rfl (lv_at hl 0 rfl) ?_
  refine m_gi (v := (I 31)) hx hb hK hown hP 31 (by decide) t_768 rfl d_Mod_steps_6 ?_
  refine e_i hx hb hr hlk hQ hS d_Mod_steps_9 ?_
  exact ⟨_, rfl, rfl, (va_up I 0 (0 : Int32)), F, ch, rfl, hch, ⟨⟨rfl, rfl, rfl, rfl, rfl, rfl, rfl⟩, fun _ _ _ _ _ _ _ _ => rfl, fun _ _ => ⟨rfl, rfl⟩⟩, hP⟩
theorem d_Mod_low_0 : decode b_Mod_low 0 = .ok (.aload_n 0, 1) := by decide +kernel
theorem d_Mod_low_1 : decode b_Mod_low 1 = .ok (.iconst 0, 1) := by decide +kernel
theorem d_Mod_low_2 : decode b_Mod_low 2 = .ok (.putfield 74, 3) := by decide +kernel
theorem d_Mod_low_5 : decode b_Mod_low 5 = .ok (.iload_n 1, 1) := by decide +kernel
theorem d_Mod_low_6 : decode b_Mod_low 6 = .ok (.iconst 0, 1) := by decide +kernel
theorem d_Mod_low_7 : decode b_Mod_low 7 = .ok (.aload_n 0, 1) := by decide +kernel
theorem d_Mod_low_8 : decode b_Mod_low 8 = .ok (.getfield 211, 3) := by decide +kernel
theorem d_Mod_low_11 : decode b_Mod_low 11 = .ok (.iconst 1, 1) := by decide +kernel
theorem d_Mod_low_12 : decode b_Mod_low 12 = .ok (.isub, 1) := by decide +kernel
theorem d_Mod_low_13 : decode b_Mod_low 13 = .ok (.invokestatic 89, 3) := by decide +kernel
theorem d_Mod_low_16 : decode b_Mod_low 16 = .ok (.ifCond .eq 12, 3) := by decide +kernel
theorem d_Mod_low_19 : decode b_Mod_low 19 = .ok (.aload_n 0, 1) := by decide +kernel
theorem d_Mod_low_20 : decode b_Mod_low 20 = .ok (.getfield 59, 3) := by decide +kernel
theorem d_Mod_low_23 : decode b_Mod_low 23 = .ok (.iload_n 1, 1) := by decide +kernel
theorem d_Mod_low_24 : decode b_Mod_low 24 = .ok (.iaload, 1) := by decide +kernel
theorem d_Mod_low_25 : decode b_Mod_low 25 = .ok (.goto 6, 3) := by decide +kernel
theorem d_Mod_low_28 : decode b_Mod_low 28 = .ok (.sipush (-1000), 3) := by decide +kernel
theorem d_Mod_low_31 : decode b_Mod_low 31 = .ok (.ireturn, 1) := by decide +kernel
set_option maxHeartbeats 4000000 in
set_option maxRecDepth 20000 in
theorem k_Mod_low (l : Launch) (D : va_G) (cA : Nat → ClassId) (adr : Nat → Nat) (hi : wI mN adr) (I : Nat → Int32) (F : Nat → Nat → Int32) (nn mm en mk : Nat) (ch : Bool) (hch : I 20 = bi ch) (hWF : WF I F nn mm en mk) (xk : Int32) : Ct l y_Mod_low b_Mod_low 2 (some .int) 2 D cA [.ref (adr 0), .int xk] (fun H => MP D cA adr I F H) (fun r H => ∃ z : Int32, r = some (.int z) ∧ z.toInt = (if 0 ≤ xk.toInt ∧ xk.toInt < (I 28).toInt then (F 29 xk.toInt.toNat).toInt else -1000) ∧ MQ2 D cA adr 0 I F H) (wA mN adr) := by
  refine Ct.mk (by decide) (Nat.le_of_ble_eq_true rfl) ?_
  intro p e s m args below meth c Q H locs ls hx hb hr hml hlk hown hin hK hQ hS hP hl
  have hl : lv_has ls 2 [(0, .ref (adr 0)), (1, .int xk)] := hl
  have hown : s.vm.findClass "RangeSheetModel" = some m.cls := hown
  obtain ⟨hW, hE, hen, ⟨hmk, hmke⟩, htd, hsp, hsd, hset, hgd⟩ := hWF
  have hn1 : (I 1).toInt = (nn : Int) := hW.2.2.1
  have hm1 : (I 4).toInt = (mm : Int) := hW.2.2.2.1
  have hn10 := hW.1
  have hm12 := hW.2.1
  have hen12 := hE.1
  refine lv_aload_n hx hb d_Mod_low_0 rfl (lv_at hl 0 rfl) ?_
  refine lv_iconst (v := 0) hx hb d_Mod_low_1 (by decide) ?_
  refine m_pi hx hb hK hown hi hP hS wA_mem 0 (by decide) t_737 rfl rfl d_Mod_low_2 (fun H locs hP hS => ?_)
  refine lv_iload_n hx hb d_Mod_low_5 rfl (lv_at hl 1 rfl) ?_
  refine lv_iconst (v := 0) hx hb d_Mod_low_6 (by decide) ?_
  refine lv_aload_n hx hb d_Mod_low_7 rfl (lv_at hl 0 rfl) ?_
  refine m_gi (v := (I 28)) hx hb hK hown hP 28 (by decide) t_765 rfl d_Mod_low_8 ?_
  refine lv_iconst (v := 1) hx hb d_Mod_low_11 (by decide) ?_
  refine x_sub hx hb d_Mod_low_12 rfl kc_1 (by omega) (fun z_1 tz_1 => ?_)
  refine r_Mod_within hx hb hml hown hK hl.1 hS ⟨Nat.le_of_ble_eq_true rfl, Nat.le_of_ble_eq_true rfl⟩ ⟨Nat.le_of_ble_eq_true rfl, Nat.le_of_ble_eq_true rfl⟩ rfl kc_0 tz_1  d_Mod_low_13 (Nat.le_of_ble_eq_true rfl) (fun locs hS => ?_)
  refine b_bool_eq (tgt := 28) hx hb d_Mod_low_16 (by decide) (fun c_2 => ?_) (fun c_2 => ?_)
  · have hc_2 := of_decide_eq_false c_2
    refine lv_sipush (v := (-1000)) hx hb d_Mod_low_28 (by decide) ?_
    refine e_i hx hb hr hlk hQ hS d_Mod_low_31 ?_
    exact ⟨_, rfl, by rw [if_neg (by omega)]; exact kc_m1000, (va_up I 0 (0 : Int32)), F, ch, rfl, hch, ⟨⟨rfl, rfl, rfl, rfl, rfl, rfl, rfl⟩, fun _ _ _ _ _ _ _ _ => rfl, fun _ _ => ⟨rfl, rfl⟩⟩, hP⟩
  · have hc_2 := of_decide_eq_true c_2
    refine lv_aload_n hx hb d_Mod_low_19 rfl (lv_at hl 0 rfl) ?_
    refine m_gr hx hb hK hown hP 29 (by decide) t_766 d_Mod_low_20 ?_
    refine lv_iload_n hx hb d_Mod_low_23 rfl (lv_at hl 1 rfl) ?_
    refine m_ld hx hb hK hP 29 (by decide) ((xk.toInt).toNat) rfl (by omega) (show (xk.toInt).toNat < 10 by omega) d_Mod_low_24 (fun z_3 ez_3 => ?_)
    subst ez_3
    refine lv_goto (tgt := 31) hx hb d_Mod_low_25 (by decide) ?_
    refine e_i hx hb hr hlk hQ hS d_Mod_low_31 ?_
    exact ⟨_, rfl, by rw [if_pos (by omega)], (va_up I 0 (0 : Int32)), F, ch, rfl, hch, ⟨⟨rfl, rfl, rfl, rfl, rfl, rfl, rfl⟩, fun _ _ _ _ _ _ _ _ => rfl, fun _ _ => ⟨rfl, rfl⟩⟩, hP⟩
theorem d_Mod_high_0 : decode b_Mod_high 0 = .ok (.aload_n 0, 1) := by decide +kernel
theorem d_Mod_high_1 : decode b_Mod_high 1 = .ok (.iconst 0, 1) := by decide +kernel
theorem d_Mod_high_2 : decode b_Mod_high 2 = .ok (.putfield 74, 3) := by decide +kernel
theorem d_Mod_high_5 : decode b_Mod_high 5 = .ok (.iload_n 1, 1) := by decide +kernel
theorem d_Mod_high_6 : decode b_Mod_high 6 = .ok (.iconst 0, 1) := by decide +kernel
theorem d_Mod_high_7 : decode b_Mod_high 7 = .ok (.aload_n 0, 1) := by decide +kernel
theorem d_Mod_high_8 : decode b_Mod_high 8 = .ok (.getfield 211, 3) := by decide +kernel
theorem d_Mod_high_11 : decode b_Mod_high 11 = .ok (.iconst 1, 1) := by decide +kernel
theorem d_Mod_high_12 : decode b_Mod_high 12 = .ok (.isub, 1) := by decide +kernel
theorem d_Mod_high_13 : decode b_Mod_high 13 = .ok (.invokestatic 89, 3) := by decide +kernel
theorem d_Mod_high_16 : decode b_Mod_high 16 = .ok (.ifCond .eq 12, 3) := by decide +kernel
theorem d_Mod_high_19 : decode b_Mod_high 19 = .ok (.aload_n 0, 1) := by decide +kernel
theorem d_Mod_high_20 : decode b_Mod_high 20 = .ok (.getfield 62, 3) := by decide +kernel
theorem d_Mod_high_23 : decode b_Mod_high 23 = .ok (.iload_n 1, 1) := by decide +kernel
theorem d_Mod_high_24 : decode b_Mod_high 24 = .ok (.iaload, 1) := by decide +kernel
theorem d_Mod_high_25 : decode b_Mod_high 25 = .ok (.goto 6, 3) := by decide +kernel
theorem d_Mod_high_28 : decode b_Mod_high 28 = .ok (.sipush (-1000), 3) := by decide +kernel
theorem d_Mod_high_31 : decode b_Mod_high 31 = .ok (.ireturn, 1) := by decide +kernel
set_option maxHeartbeats 4000000 in
set_option maxRecDepth 20000 in
theorem k_Mod_high (l : Launch) (D : va_G) (cA : Nat → ClassId) (adr : Nat → Nat) (hi : wI mN adr) (I : Nat → Int32) (F : Nat → Nat → Int32) (nn mm en mk : Nat) (ch : Bool) (hch : I 20 = bi ch) (hWF : WF I F nn mm en mk) (xk : Int32) : Ct l y_Mod_high b_Mod_high 2 (some .int) 2 D cA [.ref (adr 0), .int xk] (fun H => MP D cA adr I F H) (fun r H => ∃ z : Int32, r = some (.int z) ∧ z.toInt = (if 0 ≤ xk.toInt ∧ xk.toInt < (I 28).toInt then (F 30 xk.toInt.toNat).toInt else -1000) ∧ MQ2 D cA adr 0 I F H) (wA mN adr) := by
  refine Ct.mk (by decide) (Nat.le_of_ble_eq_true rfl) ?_
  intro p e s m args below meth c Q H locs ls hx hb hr hml hlk hown hin hK hQ hS hP hl
  have hl : lv_has ls 2 [(0, .ref (adr 0)), (1, .int xk)] := hl
  have hown : s.vm.findClass "RangeSheetModel" = some m.cls := hown
  obtain ⟨hW, hE, hen, ⟨hmk, hmke⟩, htd, hsp, hsd, hset, hgd⟩ := hWF
  have hn1 : (I 1).toInt = (nn : Int) := hW.2.2.1
  have hm1 : (I 4).toInt = (mm : Int) := hW.2.2.2.1
  have hn10 := hW.1
  have hm12 := hW.2.1
  have hen12 := hE.1
  refine lv_aload_n hx hb d_Mod_high_0 rfl (lv_at hl 0 rfl) ?_
  refine lv_iconst (v := 0) hx hb d_Mod_high_1 (by decide) ?_
  refine m_pi hx hb hK hown hi hP hS wA_mem 0 (by decide) t_737 rfl rfl d_Mod_high_2 (fun H locs hP hS => ?_)
  refine lv_iload_n hx hb d_Mod_high_5 rfl (lv_at hl 1 rfl) ?_
  refine lv_iconst (v := 0) hx hb d_Mod_high_6 (by decide) ?_
  refine lv_aload_n hx hb d_Mod_high_7 rfl (lv_at hl 0 rfl) ?_
  refine m_gi (v := (I 28)) hx hb hK hown hP 28 (by decide) t_765 rfl d_Mod_high_8 ?_
  refine lv_iconst (v := 1) hx hb d_Mod_high_11 (by decide) ?_
  refine x_sub hx hb d_Mod_high_12 rfl kc_1 (by omega) (fun z_1 tz_1 => ?_)
  refine r_Mod_within hx hb hml hown hK hl.1 hS ⟨Nat.le_of_ble_eq_true rfl, Nat.le_of_ble_eq_true rfl⟩ ⟨Nat.le_of_ble_eq_true rfl, Nat.le_of_ble_eq_true rfl⟩ rfl kc_0 tz_1  d_Mod_high_13 (Nat.le_of_ble_eq_true rfl) (fun locs hS => ?_)
  refine b_bool_eq (tgt := 28) hx hb d_Mod_high_16 (by decide) (fun c_2 => ?_) (fun c_2 => ?_)
  · have hc_2 := of_decide_eq_false c_2
    refine lv_sipush (v := (-1000)) hx hb d_Mod_high_28 (by decide) ?_
    refine e_i hx hb hr hlk hQ hS d_Mod_high_31 ?_
    exact ⟨_, rfl, by rw [if_neg (by omega)]; exact kc_m1000, (va_up I 0 (0 : Int32)), F, ch, rfl, hch, ⟨⟨rfl, rfl, rfl, rfl, rfl, rfl, rfl⟩, fun _ _ _ _ _ _ _ _ => rfl, fun _ _ => ⟨rfl, rfl⟩⟩, hP⟩
  · have hc_2 := of_decide_eq_true c_2
    refine lv_aload_n hx hb d_Mod_high_19 rfl (lv_at hl 0 rfl) ?_
    refine m_gr hx hb hK hown hP 30 (by decide) t_767 d_Mod_high_20 ?_
    refine lv_iload_n hx hb d_Mod_high_23 rfl (lv_at hl 1 rfl) ?_
    refine m_ld hx hb hK hP 30 (by decide) ((xk.toInt).toNat) rfl (by omega) (show (xk.toInt).toNat < 10 by omega) d_Mod_high_24 (fun z_3 ez_3 => ?_)
    subst ez_3
    refine lv_goto (tgt := 31) hx hb d_Mod_high_25 (by decide) ?_
    refine e_i hx hb hr hlk hQ hS d_Mod_high_31 ?_
    exact ⟨_, rfl, by rw [if_pos (by omega)], (va_up I 0 (0 : Int32)), F, ch, rfl, hch, ⟨⟨rfl, rfl, rfl, rfl, rfl, rfl, rfl⟩, fun _ _ _ _ _ _ _ _ => rfl, fun _ _ => ⟨rfl, rfl⟩⟩, hP⟩
theorem d_Mod_value_0 : decode b_Mod_value 0 = .ok (.aload_n 0, 1) := by decide +kernel
theorem d_Mod_value_1 : decode b_Mod_value 1 = .ok (.iconst 0, 1) := by decide +kernel
theorem d_Mod_value_2 : decode b_Mod_value 2 = .ok (.putfield 74, 3) := by decide +kernel
theorem d_Mod_value_5 : decode b_Mod_value 5 = .ok (.iload_n 1, 1) := by decide +kernel
theorem d_Mod_value_6 : decode b_Mod_value 6 = .ok (.iconst 0, 1) := by decide +kernel
theorem d_Mod_value_7 : decode b_Mod_value 7 = .ok (.aload_n 0, 1) := by decide +kernel
theorem d_Mod_value_8 : decode b_Mod_value 8 = .ok (.getfield 214, 3) := by decide +kernel
theorem d_Mod_value_11 : decode b_Mod_value 11 = .ok (.iconst 1, 1) := by decide +kernel
theorem d_Mod_value_12 : decode b_Mod_value 12 = .ok (.isub, 1) := by decide +kernel
theorem d_Mod_value_13 : decode b_Mod_value 13 = .ok (.invokestatic 89, 3) := by decide +kernel
theorem d_Mod_value_16 : decode b_Mod_value 16 = .ok (.ifCond .eq 12, 3) := by decide +kernel
theorem d_Mod_value_19 : decode b_Mod_value 19 = .ok (.aload_n 0, 1) := by decide +kernel
theorem d_Mod_value_20 : decode b_Mod_value 20 = .ok (.getfield 65, 3) := by decide +kernel
theorem d_Mod_value_23 : decode b_Mod_value 23 = .ok (.iload_n 1, 1) := by decide +kernel
theorem d_Mod_value_24 : decode b_Mod_value 24 = .ok (.iaload, 1) := by decide +kernel
theorem d_Mod_value_25 : decode b_Mod_value 25 = .ok (.goto 6, 3) := by decide +kernel
theorem d_Mod_value_28 : decode b_Mod_value 28 = .ok (.sipush (-1000), 3) := by decide +kernel
theorem d_Mod_value_31 : decode b_Mod_value 31 = .ok (.ireturn, 1) := by decide +kernel
set_option maxHeartbeats 4000000 in
set_option maxRecDepth 20000 in
theorem k_Mod_value (l : Launch) (D : va_G) (cA : Nat → ClassId) (adr : Nat → Nat) (hi : wI mN adr) (I : Nat → Int32) (F : Nat → Nat → Int32) (nn mm en mk : Nat) (ch : Bool) (hch : I 20 = bi ch) (hWF : WF I F nn mm en mk) (xk : Int32) : Ct l y_Mod_value b_Mod_value 2 (some .int) 2 D cA [.ref (adr 0), .int xk] (fun H => MP D cA adr I F H) (fun r H => ∃ z : Int32, r = some (.int z) ∧ z.toInt = (if 0 ≤ xk.toInt ∧ xk.toInt < (I 32).toInt then (F 33 xk.toInt.toNat).toInt else -1000) ∧ MQ2 D cA adr 0 I F H) (wA mN adr) := by
  refine Ct.mk (by decide) (Nat.le_of_ble_eq_true rfl) ?_
  intro p e s m args below meth c Q H locs ls hx hb hr hml hlk hown hin hK hQ hS hP hl
  have hl : lv_has ls 2 [(0, .ref (adr 0)), (1, .int xk)] := hl
  have hown : s.vm.findClass "RangeSheetModel" = some m.cls := hown
  obtain ⟨hW, hE, hen, ⟨hmk, hmke⟩, htd, hsp, hsd, hset, hgd⟩ := hWF
  have hn1 : (I 1).toInt = (nn : Int) := hW.2.2.1
  have hm1 : (I 4).toInt = (mm : Int) := hW.2.2.2.1
  have hn10 := hW.1
  have hm12 := hW.2.1
  have hen12 := hE.1
  refine lv_aload_n hx hb d_Mod_value_0 rfl (lv_at hl 0 rfl) ?_
  refine lv_iconst (v := 0) hx hb d_Mod_value_1 (by decide) ?_
  refine m_pi hx hb hK hown hi hP hS wA_mem 0 (by decide) t_737 rfl rfl d_Mod_value_2 (fun H locs hP hS => ?_)
  refine lv_iload_n hx hb d_Mod_value_5 rfl (lv_at hl 1 rfl) ?_
  refine lv_iconst (v := 0) hx hb d_Mod_value_6 (by decide) ?_
  refine lv_aload_n hx hb d_Mod_value_7 rfl (lv_at hl 0 rfl) ?_
  refine m_gi (v := (I 32)) hx hb hK hown hP 32 (by decide) t_769 rfl d_Mod_value_8 ?_
  refine lv_iconst (v := 1) hx hb d_Mod_value_11 (by decide) ?_
  refine x_sub hx hb d_Mod_value_12 rfl kc_1 (by omega) (fun z_1 tz_1 => ?_)
  refine r_Mod_within hx hb hml hown hK hl.1 hS ⟨Nat.le_of_ble_eq_true rfl, Nat.le_of_ble_eq_true rfl⟩ ⟨Nat.le_of_ble_eq_true rfl, Nat.le_of_ble_eq_true rfl⟩ rfl kc_0 tz_1  d_Mod_value_13 (Nat.le_of_ble_eq_true rfl) (fun locs hS => ?_)
  refine b_bool_eq (tgt := 28) hx hb d_Mod_value_16 (by decide) (fun c_2 => ?_) (fun c_2 => ?_)
  · have hc_2 := of_decide_eq_false c_2
    refine lv_sipush (v := (-1000)) hx hb d_Mod_value_28 (by decide) ?_
    refine e_i hx hb hr hlk hQ hS d_Mod_value_31 ?_
    exact ⟨_, rfl, by rw [if_neg (by omega)]; exact kc_m1000, (va_up I 0 (0 : Int32)), F, ch, rfl, hch, ⟨⟨rfl, rfl, rfl, rfl, rfl, rfl, rfl⟩, fun _ _ _ _ _ _ _ _ => rfl, fun _ _ => ⟨rfl, rfl⟩⟩, hP⟩
  · have hc_2 := of_decide_eq_true c_2
    refine lv_aload_n hx hb d_Mod_value_19 rfl (lv_at hl 0 rfl) ?_
    refine m_gr hx hb hK hown hP 33 (by decide) t_770 d_Mod_value_20 ?_
    refine lv_iload_n hx hb d_Mod_value_23 rfl (lv_at hl 1 rfl) ?_
    refine m_ld hx hb hK hP 33 (by decide) ((xk.toInt).toNat) rfl (by omega) (show (xk.toInt).toNat < 10 by omega) d_Mod_value_24 (fun z_3 ez_3 => ?_)
    subst ez_3
    refine lv_goto (tgt := 31) hx hb d_Mod_value_25 (by decide) ?_
    refine e_i hx hb hr hlk hQ hS d_Mod_value_31 ?_
    exact ⟨_, rfl, by rw [if_pos (by omega)], (va_up I 0 (0 : Int32)), F, ch, rfl, hch, ⟨⟨rfl, rfl, rfl, rfl, rfl, rfl, rfl⟩, fun _ _ _ _ _ _ _ _ => rfl, fun _ _ => ⟨rfl, rfl⟩⟩, hP⟩
theorem d_Mod_cell_0 : decode b_Mod_cell 0 = .ok (.aload_n 0, 1) := by decide +kernel
theorem d_Mod_cell_1 : decode b_Mod_cell 1 = .ok (.iconst 0, 1) := by decide +kernel
theorem d_Mod_cell_2 : decode b_Mod_cell 2 = .ok (.putfield 74, 3) := by decide +kernel
theorem d_Mod_cell_5 : decode b_Mod_cell 5 = .ok (.iload_n 1, 1) := by decide +kernel
theorem d_Mod_cell_6 : decode b_Mod_cell 6 = .ok (.iload_n 2, 1) := by decide +kernel
theorem d_Mod_cell_7 : decode b_Mod_cell 7 = .ok (.invokestatic 78, 3) := by decide +kernel
theorem d_Mod_cell_10 : decode b_Mod_cell 10 = .ok (.ifCond .ne 9, 3) := by decide +kernel
theorem d_Mod_cell_13 : decode b_Mod_cell 13 = .ok (.aload_n 0, 1) := by decide +kernel
theorem d_Mod_cell_14 : decode b_Mod_cell 14 = .ok (.iconst 1, 1) := by decide +kernel
theorem d_Mod_cell_15 : decode b_Mod_cell 15 = .ok (.invokevirtual 82, 3) := by decide +kernel
theorem d_Mod_cell_18 : decode b_Mod_cell 18 = .ok (.ireturn, 1) := by decide +kernel
theorem d_Mod_cell_19 : decode b_Mod_cell 19 = .ok (.aload_n 0, 1) := by decide +kernel
theorem d_Mod_cell_20 : decode b_Mod_cell 20 = .ok (.getfield 86, 3) := by decide +kernel
theorem d_Mod_cell_23 : decode b_Mod_cell 23 = .ok (.bipush 10, 2) := by decide +kernel
theorem d_Mod_cell_25 : decode b_Mod_cell 25 = .ok (.if_icmp .ne 9, 3) := by decide +kernel
theorem d_Mod_cell_28 : decode b_Mod_cell 28 = .ok (.aload_n 0, 1) := by decide +kernel
theorem d_Mod_cell_29 : decode b_Mod_cell 29 = .ok (.iconst 2, 1) := by decide +kernel
theorem d_Mod_cell_30 : decode b_Mod_cell 30 = .ok (.invokevirtual 82, 3) := by decide +kernel
theorem d_Mod_cell_33 : decode b_Mod_cell 33 = .ok (.ireturn, 1) := by decide +kernel
theorem d_Mod_cell_34 : decode b_Mod_cell 34 = .ok (.aload_n 0, 1) := by decide +kernel
theorem d_Mod_cell_35 : decode b_Mod_cell 35 = .ok (.getfield 7, 3) := by decide +kernel
theorem d_Mod_cell_38 : decode b_Mod_cell 38 = .ok (.aload_n 0, 1) := by decide +kernel
theorem d_Mod_cell_39 : decode b_Mod_cell 39 = .ok (.getfield 86, 3) := by decide +kernel
theorem d_Mod_cell_42 : decode b_Mod_cell 42 = .ok (.iload_n 1, 1) := by decide +kernel
theorem d_Mod_cell_43 : decode b_Mod_cell 43 = .ok (.iastore, 1) := by decide +kernel
theorem d_Mod_cell_44 : decode b_Mod_cell 44 = .ok (.aload_n 0, 1) := by decide +kernel
theorem d_Mod_cell_45 : decode b_Mod_cell 45 = .ok (.getfield 13, 3) := by decide +kernel
theorem d_Mod_cell_48 : decode b_Mod_cell 48 = .ok (.aload_n 0, 1) := by decide +kernel
theorem d_Mod_cell_49 : decode b_Mod_cell 49 = .ok (.getfield 86, 3) := by decide +kernel
theorem d_Mod_cell_52 : decode b_Mod_cell 52 = .ok (.iload_n 2, 1) := by decide +kernel
theorem d_Mod_cell_53 : decode b_Mod_cell 53 = .ok (.iastore, 1) := by decide +kernel
theorem d_Mod_cell_54 : decode b_Mod_cell 54 = .ok (.aload_n 0, 1) := by decide +kernel
theorem d_Mod_cell_55 : decode b_Mod_cell 55 = .ok (.dup, 1) := by decide +kernel
theorem d_Mod_cell_56 : decode b_Mod_cell 56 = .ok (.getfield 86, 3) := by decide +kernel
theorem d_Mod_cell_59 : decode b_Mod_cell 59 = .ok (.iconst 1, 1) := by decide +kernel
theorem d_Mod_cell_60 : decode b_Mod_cell 60 = .ok (.iadd, 1) := by decide +kernel
theorem d_Mod_cell_61 : decode b_Mod_cell 61 = .ok (.putfield 86, 3) := by decide +kernel
theorem d_Mod_cell_64 : decode b_Mod_cell 64 = .ok (.aload_n 0, 1) := by decide +kernel
theorem d_Mod_cell_65 : decode b_Mod_cell 65 = .ok (.getfield 86, 3) := by decide +kernel
theorem d_Mod_cell_68 : decode b_Mod_cell 68 = .ok (.iconst 1, 1) := by decide +kernel
theorem d_Mod_cell_69 : decode b_Mod_cell 69 = .ok (.isub, 1) := by decide +kernel
theorem d_Mod_cell_70 : decode b_Mod_cell 70 = .ok (.ireturn, 1) := by decide +kernel
set_option maxHeartbeats 4000000 in
set_option maxRecDepth 20000 in
theorem k_Mod_cell (l : Launch) (D : va_G) (cA : Nat → ClassId) (adr : Nat → Nat) (hi : wI mN adr) (I : Nat → Int32) (F : Nat → Nat → Int32) (nn mm en mk : Nat) (ch : Bool) (hch : I 20 = bi ch) (hWF : WF I F nn mm en mk) (xa xb : Int32) : Ct l y_Mod_cell b_Mod_cell 3 (some .int) 3 D cA [.ref (adr 0), .int xa, .int xb] (fun H => MP D cA adr I F H) (fun r H => ∃ z : Int32, r = some (.int z) ∧ (b_cell nn xa.toInt xb.toInt = 0 → z.toInt = (nn : Int)) ∧ ∃ (I2 : Nat → Int32) (F2 : Nat → Nat → Int32) (c2 : Bool), I2 0 = Int32.ofInt (b_cell nn xa.toInt xb.toInt) ∧ I2 20 = bi c2 ∧ (if b_cell nn xa.toInt xb.toInt = 0 then Sm (va_up I 1 (Int32.ofInt ((nn : Int) + 1))) (G_cell F nn xa xb) I2 F2 else Sm I F I2 F2) ∧ MP D cA adr I2 F2 H) (wA mN adr) := by
  refine Ct.mk (by decide) (Nat.le_of_ble_eq_true rfl) ?_
  intro p e s m args below meth c Q H locs ls hx hb hr hml hlk hown hin hK hQ hS hP hl
  have hl : lv_has ls 3 [(0, .ref (adr 0)), (1, .int xa), (2, .int xb)] := hl
  have hown : s.vm.findClass "RangeSheetModel" = some m.cls := hown
  obtain ⟨hW, hE, hen, ⟨hmk, hmke⟩, htd, hsp, hsd, hset, hgd⟩ := hWF
  have hn1 : (I 1).toInt = (nn : Int) := hW.2.2.1
  have hm1 : (I 4).toInt = (mm : Int) := hW.2.2.2.1
  have hn10 := hW.1
  have hm12 := hW.2.1
  have hen12 := hE.1
  refine lv_aload_n hx hb d_Mod_cell_0 rfl (lv_at hl 0 rfl) ?_
  refine lv_iconst (v := 0) hx hb d_Mod_cell_1 (by decide) ?_
  refine m_pi hx hb hK hown hi hP hS wA_mem 0 (by decide) t_737 rfl rfl d_Mod_cell_2 (fun H locs hP hS => ?_)
  refine lv_iload_n hx hb d_Mod_cell_5 rfl (lv_at hl 1 rfl) ?_
  refine lv_iload_n hx hb d_Mod_cell_6 rfl (lv_at hl 2 rfl) ?_
  refine r_Mod_isRange hx hb hml hown hK hl.1 hS ⟨Nat.le_of_ble_eq_true rfl, Nat.le_of_ble_eq_true rfl⟩ ⟨Nat.le_of_ble_eq_true rfl, Nat.le_of_ble_eq_true rfl⟩ rfl rfl  d_Mod_cell_7 (Nat.le_of_ble_eq_true rfl) (fun locs hS => ?_)
  refine b_bool_ne (tgt := 19) hx hb d_Mod_cell_10 (by decide) (fun c_1 => ?_) (fun c_1 => ?_)
  · have hc_1 := of_decide_eq_true c_1
    refine lv_aload_n hx hb d_Mod_cell_19 rfl (lv_at hl 0 rfl) ?_
    refine m_gi (v := (I 1)) hx hb hK hown hP 1 (by decide) t_738 rfl d_Mod_cell_20 ?_
    refine lv_bipush (v := 10) hx hb d_Mod_cell_23 (by decide) ?_
    refine b_icmp_ne (tgt := 34) hx hb d_Mod_cell_25 (by decide) hn1 kc_10 (fun c_2 => ?_) (fun c_2 => ?_)
    · refine lv_aload_n hx hb d_Mod_cell_34 rfl (lv_at hl 0 rfl) ?_
      refine m_gr hx hb hK hown hP 2 (by decide) t_739 d_Mod_cell_35 ?_
      refine lv_aload_n hx hb d_Mod_cell_38 rfl (lv_at hl 0 rfl) ?_
      refine m_gi (v := (I 1)) hx hb hK hown hP 1 (by decide) t_738 rfl d_Mod_cell_39 ?_
      refine lv_iload_n hx hb d_Mod_cell_42 rfl (lv_at hl 1 rfl) ?_
      refine m_st hx hb hK hi hP hS wA_mem 2 (by decide) (nn) hn1 (by omega) (show nn < 10 by omega) d_Mod_cell_43 (fun H locs hP hS => ?_)
      refine lv_aload_n hx hb d_Mod_cell_44 rfl (lv_at hl 0 rfl) ?_
      refine m_gr hx hb hK hown hP 3 (by decide) t_740 d_Mod_cell_45 ?_
      refine lv_aload_n hx hb d_Mod_cell_48 rfl (lv_at hl 0 rfl) ?_
      refine m_gi (v := (I 1)) hx hb hK hown hP 1 (by decide) t_738 rfl d_Mod_cell_49 ?_
      refine lv_iload_n hx hb d_Mod_cell_52 rfl (lv_at hl 2 rfl) ?_
      refine m_st hx hb hK hi hP hS wA_mem 3 (by decide) (nn) hn1 (by omega) (show nn < 10 by omega) d_Mod_cell_53 (fun H locs hP hS => ?_)
      refine lv_aload_n hx hb d_Mod_cell_54 rfl (lv_at hl 0 rfl) ?_
      refine lv_dup hx hb d_Mod_cell_55 rfl ?_
      refine m_gi (v := (I 1)) hx hb hK hown hP 1 (by decide) t_738 rfl d_Mod_cell_56 ?_
      refine lv_iconst (v := 1) hx hb d_Mod_cell_59 (by decide) ?_
      refine x_add hx hb d_Mod_cell_60 hn1 kc_1 (by omega) (fun z_3 tz_3 => ?_)
      refine m_pi hx hb hK hown hi hP hS wA_mem 1 (by decide) t_738 rfl rfl d_Mod_cell_61 (fun H locs hP hS => ?_)
      refine lv_aload_n hx hb d_Mod_cell_64 rfl (lv_at hl 0 rfl) ?_
      refine m_gi (v := z_3) hx hb hK hown hP 1 (by decide) t_738 rfl d_Mod_cell_65 ?_
      refine lv_iconst (v := 1) hx hb d_Mod_cell_68 (by decide) ?_
      refine x_sub hx hb d_Mod_cell_69 tz_3 kc_1 (by omega) (fun z_4 tz_4 => ?_)
      refine e_i hx hb hr hlk hQ hS d_Mod_cell_70 ?_
      have hb : b_cell nn xa.toInt xb.toInt = 0 := by unfold b_cell; rw [if_neg (fun h => h hc_1), if_neg (by omega)]
      have e1 := i32_of tz_3; rw [e1] at hP
      rw [hb]; refine ⟨_, rfl, fun _ => by rw [tz_4]; omega, (va_up (va_up I 0 (0 : Int32)) 1 (Int32.ofInt ((nn : Int) + 1))), (va_up (va_up F 2 (upd (F 2) (nn) xa)) 3 (upd ((va_up F 2 (upd (F 2) (nn) xa)) 3) (nn) xb)), ch, rfl, hch, ?_, hP⟩
      rw [if_pos rfl]; exact ⟨⟨rfl, rfl, rfl, rfl, rfl, rfl, rfl⟩, fun _ _ _ _ _ _ _ _ => rfl, fun _ _ => ⟨rfl, rfl⟩⟩
    · refine lv_aload_n hx hb d_Mod_cell_28 rfl (lv_at hl 0 rfl) ?_
      refine lv_iconst (v := 2) hx hb d_Mod_cell_29 (by decide) ?_
      refine x_V (As := [.int (2 : Int32)]) (rest := []) hx hb hml hown hK (k_Mod_refuse l D cA adr hi (va_up I 0 (0 : Int32)) F (2 : Int32)) t_861 t_4 t_858 t_860 ts_16 yk_Mod_refuse ⟨Nat.le_of_ble_eq_true rfl, Nat.le_of_ble_eq_true rfl⟩ (m_rec hK hP) hP rfl hl.1 rfl (Nat.le_of_ble_eq_true rfl) d_Mod_cell_30 ⟨Nat.le_of_ble_eq_true rfl, Nat.le_of_ble_eq_true rfl⟩ hS (fun q h => h) (fun r H locs hq _ hS => ?_)
      obtain ⟨rfl, hP⟩ := hq
      refine W.eq (g2 := F0 m 33 ls [.int (0 : Int32)]) rfl ?_
      refine e_i hx hb hr hlk hQ hS d_Mod_cell_33 ?_
      have hb : b_cell nn xa.toInt xb.toInt = 2 := by unfold b_cell; rw [if_neg (fun h => h hc_1), if_pos (by omega)]
      rw [hb]; exact ⟨_, rfl, fun h => absurd h (by decide), (va_up (va_up I 0 (0 : Int32)) 0 (2 : Int32)), F, ch, rfl, hch, (by rw [if_neg (by decide)]; exact ⟨⟨rfl, rfl, rfl, rfl, rfl, rfl, rfl⟩, fun _ _ _ _ _ _ _ _ => rfl, fun _ _ => ⟨rfl, rfl⟩⟩), hP⟩
  · have hc_1 := of_decide_eq_false c_1
    refine lv_aload_n hx hb d_Mod_cell_13 rfl (lv_at hl 0 rfl) ?_
    refine lv_iconst (v := 1) hx hb d_Mod_cell_14 (by decide) ?_
    refine x_V (As := [.int (1 : Int32)]) (rest := []) hx hb hml hown hK (k_Mod_refuse l D cA adr hi (va_up I 0 (0 : Int32)) F (1 : Int32)) t_861 t_4 t_858 t_860 ts_16 yk_Mod_refuse ⟨Nat.le_of_ble_eq_true rfl, Nat.le_of_ble_eq_true rfl⟩ (m_rec hK hP) hP rfl hl.1 rfl (Nat.le_of_ble_eq_true rfl) d_Mod_cell_15 ⟨Nat.le_of_ble_eq_true rfl, Nat.le_of_ble_eq_true rfl⟩ hS (fun q h => h) (fun r H locs hq _ hS => ?_)
    obtain ⟨rfl, hP⟩ := hq
    refine W.eq (g2 := F0 m 18 ls [.int (0 : Int32)]) rfl ?_
    refine e_i hx hb hr hlk hQ hS d_Mod_cell_18 ?_
    have hb : b_cell nn xa.toInt xb.toInt = 1 := by unfold b_cell; rw [if_pos hc_1]
    rw [hb]; exact ⟨_, rfl, fun h => absurd h (by decide), (va_up (va_up I 0 (0 : Int32)) 0 (1 : Int32)), F, ch, rfl, hch, (by rw [if_neg (by decide)]; exact ⟨⟨rfl, rfl, rfl, rfl, rfl, rfl, rfl⟩, fun _ _ _ _ _ _ _ _ => rfl, fun _ _ => ⟨rfl, rfl⟩⟩), hP⟩
