/-- the component's heap holds the state (J, G) -/
def CQ (D : va_G) (cA : Nat → ClassId) (adr : Nat → Nat) (N : List Nat) (J : Nat → Int32) (G : Nat → Nat → Int32) (mm : Nat) (H : Heap) : Prop := ∃ (cn : Nat → va_E) (x : Nat → Int32) (dn : Bool), CP cA adr cn J G mm x dn ∧ va_P D classes (wl N adr cn) H
theorem CQ.of {D : va_G} {cA : Nat → ClassId} {adr : Nat → Nat} {N : List Nat} {J : Nat → Int32} {G : Nat → Nat → Int32} {mm : Nat} {H : Heap} {cn : Nat → va_E} {x : Nat → Int32} {dn : Bool} (h : CP cA adr cn J G mm x dn) (hP : va_P D classes (wl N adr cn) H) : CQ D cA adr N J G mm H := ⟨cn, x, dn, h, hP⟩
theorem d_Sht_steps_0 : decode b_Sht_steps 0 = .ok (.aload_n 0, 1) := by decide +kernel
theorem d_Sht_steps_1 : decode b_Sht_steps 1 = .ok (.getfield 202, 3) := by decide +kernel
theorem d_Sht_steps_4 : decode b_Sht_steps 4 = .ok (.ireturn, 1) := by decide +kernel
set_option maxHeartbeats 4000000 in
set_option maxRecDepth 20000 in
theorem k_Sht_steps (l : Launch) (D : va_G) (cA : Nat → ClassId) (adr : Nat → Nat) (N : List Nat) (hi : wI N adr) (cn : Nat → va_E) (F : Nat → Nat → Int32) (I : Nat → Int32) (nn mm en mk0 : Nat) (x : Nat → Int32) (dn : Bool) (hCP : CP cA adr cn I F mm x dn) (hNm : ∀ k, k < 56 + mm → k ∈ N) (hWF : WF I F nn mm en mk0)  : Ct l y_Sht_steps b_Sht_steps 1 (some .int) 1 D cA [.ref (adr 0)] (fun H => va_P D classes (wl N adr cn) H) (fun r H => ∃ z : Int32, r = some (.int z) ∧ z.toInt = (I 31).toInt ∧ CQ D cA adr N I F mm H) (wA N adr) := by
  refine Ct.mk (by decide) (Nat.le_of_ble_eq_true rfl) ?_
  intro p e s m args below meth c Q H locs ls hx hb hr hml hlk hown hin hK hQ hS hP hl
  have hl : lv_has ls 1 [(0, .ref (adr 0))] := hl
  have hown : s.vm.findClass "RangeSheet" = some m.cls := hown
  have hCP0 := hCP
  obtain ⟨hW, hE, hen, ⟨hmk, hmke⟩, htd, hsp, hsd, hset, hgd⟩ := hWF
  obtain ⟨hSR, ⟨hx1, hx3, hx8, hx9, hx11, hx14, hx18⟩, ⟨hc2, hc3, hc4, hc5, hc6, hc7⟩, ⟨cf, hBf⟩, ⟨fn0, gn0, cn0, hBn, hBne⟩, hBx⟩ := hCP
  obtain ⟨f, g, ch, hB⟩ := hBx 0 (by omega)
  have hB : BP cA adr cn 14 f g ch := hB
  have hn10 := hW.1
  have hm12 := hW.2.1
  have hen12 := hE.1
  have hv1 : (x 1).toInt = (nn : Int) := by rw [hx1]; exact hW.2.2.1
  have hv8 : (x 8).toInt = (en : Int) := by rw [hx8]; exact hen
  have hv9 : (x 9).toInt = (mk0 : Int) := by rw [hx9]; exact hmk
  refine lv_aload_n hx hb d_Sht_steps_0 rfl (lv_at hl 0 rfl) ?_
  refine w_gf hx hb hK i_Sht hown hP (hNm 0 (by omega)) hSR.1 rfl 14 (by decide) t_99 rfl rfl d_Sht_steps_1 ?_
  refine e_i hx hb hr hlk hQ hS d_Sht_steps_4 ?_
  exact ⟨_, rfl, by rw [hx14], CQ.of hCP0 hP⟩
theorem d_Sht_value_0 : decode b_Sht_value 0 = .ok (.iload_n 1, 1) := by decide +kernel
theorem d_Sht_value_1 : decode b_Sht_value 1 = .ok (.iconst 0, 1) := by decide +kernel
theorem d_Sht_value_2 : decode b_Sht_value 2 = .ok (.aload_n 0, 1) := by decide +kernel
theorem d_Sht_value_3 : decode b_Sht_value 3 = .ok (.getfield 196, 3) := by decide +kernel
theorem d_Sht_value_6 : decode b_Sht_value 6 = .ok (.iconst 1, 1) := by decide +kernel
theorem d_Sht_value_7 : decode b_Sht_value 7 = .ok (.isub, 1) := by decide +kernel
theorem d_Sht_value_8 : decode b_Sht_value 8 = .ok (.invokestatic 59, 3) := by decide +kernel
theorem d_Sht_value_11 : decode b_Sht_value 11 = .ok (.ifCond .eq 12, 3) := by decide +kernel
theorem d_Sht_value_14 : decode b_Sht_value 14 = .ok (.aload_n 0, 1) := by decide +kernel
theorem d_Sht_value_15 : decode b_Sht_value 15 = .ok (.getfield 52, 3) := by decide +kernel
theorem d_Sht_value_18 : decode b_Sht_value 18 = .ok (.iload_n 1, 1) := by decide +kernel
theorem d_Sht_value_19 : decode b_Sht_value 19 = .ok (.iaload, 1) := by decide +kernel
theorem d_Sht_value_20 : decode b_Sht_value 20 = .ok (.goto 6, 3) := by decide +kernel
theorem d_Sht_value_23 : decode b_Sht_value 23 = .ok (.sipush (-1000), 3) := by decide +kernel
theorem d_Sht_value_26 : decode b_Sht_value 26 = .ok (.ireturn, 1) := by decide +kernel
set_option maxHeartbeats 4000000 in
set_option maxRecDepth 20000 in
theorem k_Sht_value (l : Launch) (D : va_G) (cA : Nat → ClassId) (adr : Nat → Nat) (N : List Nat) (hi : wI N adr) (cn : Nat → va_E) (F : Nat → Nat → Int32) (I : Nat → Int32) (nn mm en mk0 : Nat) (x : Nat → Int32) (dn : Bool) (hCP : CP cA adr cn I F mm x dn) (hNm : ∀ k, k < 56 + mm → k ∈ N) (hWF : WF I F nn mm en mk0) (xk : Int32) : Ct l y_Sht_value b_Sht_value 2 (some .int) 2 D cA [.ref (adr 0), .int xk] (fun H => va_P D classes (wl N adr cn) H) (fun r H => ∃ z : Int32, r = some (.int z) ∧ z.toInt = (if 0 ≤ xk.toInt ∧ xk.toInt < (I 32).toInt then (F 33 xk.toInt.toNat).toInt else -1000) ∧ CQ D cA adr N I F mm H) (wA N adr) := by
  refine Ct.mk (by decide) (Nat.le_of_ble_eq_true rfl) ?_
  intro p e s m args below meth c Q H locs ls hx hb hr hml hlk hown hin hK hQ hS hP hl
  have hl : lv_has ls 2 [(0, .ref (adr 0)), (1, .int xk)] := hl
  have hown : s.vm.findClass "RangeSheet" = some m.cls := hown
  have hCP0 := hCP
  obtain ⟨hW, hE, hen, ⟨hmk, hmke⟩, htd, hsp, hsd, hset, hgd⟩ := hWF
  obtain ⟨hSR, ⟨hx1, hx3, hx8, hx9, hx11, hx14, hx18⟩, ⟨hc2, hc3, hc4, hc5, hc6, hc7⟩, ⟨cf, hBf⟩, ⟨fn0, gn0, cn0, hBn, hBne⟩, hBx⟩ := hCP
  obtain ⟨f, g, ch, hB⟩ := hBx 0 (by omega)
  have hB : BP cA adr cn 14 f g ch := hB
  have hn10 := hW.1
  have hm12 := hW.2.1
  have hen12 := hE.1
  have hv1 : (x 1).toInt = (nn : Int) := by rw [hx1]; exact hW.2.2.1
  have hv8 : (x 8).toInt = (en : Int) := by rw [hx8]; exact hen
  have hv9 : (x 9).toInt = (mk0 : Int) := by rw [hx9]; exact hmk
  have hb9 : 0 ≤ (x 18).toInt ∧ (x 18).toInt ≤ 10 := by rw [hx18]; omega
  refine lv_iload_n hx hb d_Sht_value_0 rfl (lv_at hl 1 rfl) ?_
  refine lv_iconst (v := 0) hx hb d_Sht_value_1 (by decide) ?_
  refine lv_aload_n hx hb d_Sht_value_2 rfl (lv_at hl 0 rfl) ?_
  refine w_gf hx hb hK i_Sht hown hP (hNm 0 (by omega)) hSR.1 rfl 18 (by decide) t_103 rfl rfl d_Sht_value_3 ?_
  refine lv_iconst (v := 1) hx hb d_Sht_value_6 (by decide) ?_
  refine x_sub hx hb d_Sht_value_7 rfl kc_1 (by omega) (fun z_1 tz_1 => ?_)
  refine r_wn_Sht hx hb hml hown hK hl.1 hS ⟨Nat.le_of_ble_eq_true rfl, Nat.le_of_ble_eq_true rfl⟩ ⟨Nat.le_of_ble_eq_true rfl, Nat.le_of_ble_eq_true rfl⟩ rfl kc_0 tz_1  d_Sht_value_8 (Nat.le_of_ble_eq_true rfl) (fun locs hS => ?_)
  refine b_bool_eq (tgt := 23) hx hb d_Sht_value_11 (by decide) (fun c_2 => ?_) (fun c_2 => ?_)
  · have hc_2 := of_decide_eq_false c_2
    refine lv_sipush (v := (-1000)) hx hb d_Sht_value_23 (by decide) ?_
    refine e_i hx hb hr hlk hQ hS d_Sht_value_26 ?_
    exact ⟨_, rfl, by rw [if_neg (by rw [← hx18]; omega)]; exact kc_m1000, CQ.of hCP0 hP⟩
  · have hc_2 := of_decide_eq_true c_2
    refine lv_aload_n hx hb d_Sht_value_14 rfl (lv_at hl 0 rfl) ?_
    refine w_gf hx hb hK i_Sht hown hP (hNm 0 (by omega)) hSR.1 rfl 17 (by decide) t_102 rfl rfl d_Sht_value_15 ?_
    refine lv_iload_n hx hb d_Sht_value_18 rfl (lv_at hl 1 rfl) ?_
    refine w_ld hx hb hK hP (hNm 7 (by omega)) hc7 ((xk.toInt).toNat) rfl (by omega) (show (xk.toInt).toNat < 10 by omega) d_Sht_value_19 (fun z_3 ez_3 => ?_)
    subst ez_3
    refine lv_goto (tgt := 26) hx hb d_Sht_value_20 (by decide) ?_
    refine e_i hx hb hr hlk hQ hS d_Sht_value_26 ?_
    have hlt : 0 ≤ xk.toInt ∧ xk.toInt < (I 32).toInt := by rw [← hx18]; omega
    exact ⟨_, rfl, by rw [if_pos hlt], CQ.of hCP0 hP⟩
theorem d_Sht_low_0 : decode b_Sht_low 0 = .ok (.iload_n 1, 1) := by decide +kernel
theorem d_Sht_low_1 : decode b_Sht_low 1 = .ok (.iconst 0, 1) := by decide +kernel
theorem d_Sht_low_2 : decode b_Sht_low 2 = .ok (.aload_n 0, 1) := by decide +kernel
theorem d_Sht_low_3 : decode b_Sht_low 3 = .ok (.getfield 173, 3) := by decide +kernel
theorem d_Sht_low_6 : decode b_Sht_low 6 = .ok (.iconst 1, 1) := by decide +kernel
theorem d_Sht_low_7 : decode b_Sht_low 7 = .ok (.isub, 1) := by decide +kernel
theorem d_Sht_low_8 : decode b_Sht_low 8 = .ok (.invokestatic 59, 3) := by decide +kernel
theorem d_Sht_low_11 : decode b_Sht_low 11 = .ok (.ifCond .eq 15, 3) := by decide +kernel
theorem d_Sht_low_14 : decode b_Sht_low 14 = .ok (.aload_n 0, 1) := by decide +kernel
theorem d_Sht_low_15 : decode b_Sht_low 15 = .ok (.getfield 45, 3) := by decide +kernel
theorem d_Sht_low_18 : decode b_Sht_low 18 = .ok (.getfield 80, 3) := by decide +kernel
theorem d_Sht_low_21 : decode b_Sht_low 21 = .ok (.iload_n 1, 1) := by decide +kernel
theorem d_Sht_low_22 : decode b_Sht_low 22 = .ok (.iaload, 1) := by decide +kernel
theorem d_Sht_low_23 : decode b_Sht_low 23 = .ok (.goto 6, 3) := by decide +kernel
theorem d_Sht_low_26 : decode b_Sht_low 26 = .ok (.sipush (-1000), 3) := by decide +kernel
theorem d_Sht_low_29 : decode b_Sht_low 29 = .ok (.ireturn, 1) := by decide +kernel
set_option maxHeartbeats 4000000 in
set_option maxRecDepth 20000 in
theorem k_Sht_low (l : Launch) (D : va_G) (cA : Nat → ClassId) (adr : Nat → Nat) (N : List Nat) (hi : wI N adr) (cn : Nat → va_E) (F : Nat → Nat → Int32) (I : Nat → Int32) (nn mm en mk0 : Nat) (x : Nat → Int32) (dn : Bool) (hCP : CP cA adr cn I F mm x dn) (hNm : ∀ k, k < 56 + mm → k ∈ N) (hWF : WF I F nn mm en mk0) (xk : Int32) : Ct l y_Sht_low b_Sht_low 2 (some .int) 2 D cA [.ref (adr 0), .int xk] (fun H => va_P D classes (wl N adr cn) H) (fun r H => ∃ z : Int32, r = some (.int z) ∧ z.toInt = (if 0 ≤ xk.toInt ∧ xk.toInt < (I 28).toInt then (F 29 xk.toInt.toNat).toInt else -1000) ∧ CQ D cA adr N I F mm H) (wA N adr) := by
  refine Ct.mk (by decide) (Nat.le_of_ble_eq_true rfl) ?_
  intro p e s m args below meth c Q H locs ls hx hb hr hml hlk hown hin hK hQ hS hP hl
  have hl : lv_has ls 2 [(0, .ref (adr 0)), (1, .int xk)] := hl
  have hown : s.vm.findClass "RangeSheet" = some m.cls := hown
  have hCP0 := hCP
  obtain ⟨hW, hE, hen, ⟨hmk, hmke⟩, htd, hsp, hsd, hset, hgd⟩ := hWF
  obtain ⟨hSR, ⟨hx1, hx3, hx8, hx9, hx11, hx14, hx18⟩, ⟨hc2, hc3, hc4, hc5, hc6, hc7⟩, ⟨cf, hBf⟩, ⟨fn0, gn0, cn0, hBn, hBne⟩, hBx⟩ := hCP
  obtain ⟨f, g, ch, hB⟩ := hBx 0 (by omega)
  have hB : BP cA adr cn 14 f g ch := hB
  have hn10 := hW.1
  have hm12 := hW.2.1
  have hen12 := hE.1
  have hv1 : (x 1).toInt = (nn : Int) := by rw [hx1]; exact hW.2.2.1
  have hv8 : (x 8).toInt = (en : Int) := by rw [hx8]; exact hen
  have hv9 : (x 9).toInt = (mk0 : Int) := by rw [hx9]; exact hmk
  have hb9 : 0 ≤ (x 11).toInt ∧ (x 11).toInt ≤ 10 := by rw [hx11]; omega
  refine lv_iload_n hx hb d_Sht_low_0 rfl (lv_at hl 1 rfl) ?_
  refine lv_iconst (v := 0) hx hb d_Sht_low_1 (by decide) ?_
  refine lv_aload_n hx hb d_Sht_low_2 rfl (lv_at hl 0 rfl) ?_
  refine w_gf hx hb hK i_Sht hown hP (hNm 0 (by omega)) hSR.1 rfl 11 (by decide) t_96 rfl rfl d_Sht_low_3 ?_
  refine lv_iconst (v := 1) hx hb d_Sht_low_6 (by decide) ?_
  refine x_sub hx hb d_Sht_low_7 rfl kc_1 (by omega) (fun z_1 tz_1 => ?_)
  refine r_wn_Sht hx hb hml hown hK hl.1 hS ⟨Nat.le_of_ble_eq_true rfl, Nat.le_of_ble_eq_true rfl⟩ ⟨Nat.le_of_ble_eq_true rfl, Nat.le_of_ble_eq_true rfl⟩ rfl kc_0 tz_1  d_Sht_low_8 (Nat.le_of_ble_eq_true rfl) (fun locs hS => ?_)
  refine b_bool_eq (tgt := 26) hx hb d_Sht_low_11 (by decide) (fun c_2 => ?_) (fun c_2 => ?_)
  · have hc_2 := of_decide_eq_false c_2
    refine lv_sipush (v := (-1000)) hx hb d_Sht_low_26 (by decide) ?_
    refine e_i hx hb hr hlk hQ hS d_Sht_low_29 ?_
    exact ⟨_, rfl, by rw [if_neg (by rw [← hx11]; omega)]; exact kc_m1000, CQ.of hCP0 hP⟩
  · have hc_2 := of_decide_eq_true c_2
    refine lv_aload_n hx hb d_Sht_low_14 rfl (lv_at hl 0 rfl) ?_
    refine w_gf hx hb hK i_Sht hown hP (hNm 0 (by omega)) hSR.1 rfl 10 (by decide) t_95 rfl rfl d_Sht_low_15 ?_
    refine w_gfN hx hb hK i_Box hown hP (hNm 11 (by omega)) hBn.1 rfl 0 (by decide) t_42 rfl rfl d_Sht_low_18 ?_
    refine lv_iload_n hx hb d_Sht_low_21 rfl (lv_at hl 1 rfl) ?_
    refine w_ld hx hb hK hP (hNm (11 + 1) (by omega)) hBn.2.1 ((xk.toInt).toNat) rfl (by omega) (show (xk.toInt).toNat < 10 by omega) d_Sht_low_22 (fun z_3 ez_3 => ?_)
    subst ez_3
    refine lv_goto (tgt := 29) hx hb d_Sht_low_23 (by decide) ?_
    refine e_i hx hb hr hlk hQ hS d_Sht_low_29 ?_
    have hlt : 0 ≤ xk.toInt ∧ xk.toInt < (I 28).toInt := by rw [← hx11]; omega
    exact ⟨_, rfl, by rw [if_pos hlt]; rw [(hBne xk.toInt.toNat (by omega)).1], CQ.of hCP0 hP⟩
theorem d_Sht_high_0 : decode b_Sht_high 0 = .ok (.iload_n 1, 1) := by decide +kernel
theorem d_Sht_high_1 : decode b_Sht_high 1 = .ok (.iconst 0, 1) := by decide +kernel
theorem d_Sht_high_2 : decode b_Sht_high 2 = .ok (.aload_n 0, 1) := by decide +kernel
theorem d_Sht_high_3 : decode b_Sht_high 3 = .ok (.getfield 173, 3) := by decide +kernel
theorem d_Sht_high_6 : decode b_Sht_high 6 = .ok (.iconst 1, 1) := by decide +kernel
theorem d_Sht_high_7 : decode b_Sht_high 7 = .ok (.isub, 1) := by decide +kernel
theorem d_Sht_high_8 : decode b_Sht_high 8 = .ok (.invokestatic 59, 3) := by decide +kernel
theorem d_Sht_high_11 : decode b_Sht_high 11 = .ok (.ifCond .eq 15, 3) := by decide +kernel
theorem d_Sht_high_14 : decode b_Sht_high 14 = .ok (.aload_n 0, 1) := by decide +kernel
theorem d_Sht_high_15 : decode b_Sht_high 15 = .ok (.getfield 45, 3) := by decide +kernel
theorem d_Sht_high_18 : decode b_Sht_high 18 = .ok (.getfield 83, 3) := by decide +kernel
theorem d_Sht_high_21 : decode b_Sht_high 21 = .ok (.iload_n 1, 1) := by decide +kernel
theorem d_Sht_high_22 : decode b_Sht_high 22 = .ok (.iaload, 1) := by decide +kernel
theorem d_Sht_high_23 : decode b_Sht_high 23 = .ok (.goto 6, 3) := by decide +kernel
theorem d_Sht_high_26 : decode b_Sht_high 26 = .ok (.sipush (-1000), 3) := by decide +kernel
theorem d_Sht_high_29 : decode b_Sht_high 29 = .ok (.ireturn, 1) := by decide +kernel
set_option maxHeartbeats 4000000 in
set_option maxRecDepth 20000 in
theorem k_Sht_high (l : Launch) (D : va_G) (cA : Nat → ClassId) (adr : Nat → Nat) (N : List Nat) (hi : wI N adr) (cn : Nat → va_E) (F : Nat → Nat → Int32) (I : Nat → Int32) (nn mm en mk0 : Nat) (x : Nat → Int32) (dn : Bool) (hCP : CP cA adr cn I F mm x dn) (hNm : ∀ k, k < 56 + mm → k ∈ N) (hWF : WF I F nn mm en mk0) (xk : Int32) : Ct l y_Sht_high b_Sht_high 2 (some .int) 2 D cA [.ref (adr 0), .int xk] (fun H => va_P D classes (wl N adr cn) H) (fun r H => ∃ z : Int32, r = some (.int z) ∧ z.toInt = (if 0 ≤ xk.toInt ∧ xk.toInt < (I 28).toInt then (F 30 xk.toInt.toNat).toInt else -1000) ∧ CQ D cA adr N I F mm H) (wA N adr) := by
  refine Ct.mk (by decide) (Nat.le_of_ble_eq_true rfl) ?_
  intro p e s m args below meth c Q H locs ls hx hb hr hml hlk hown hin hK hQ hS hP hl
  have hl : lv_has ls 2 [(0, .ref (adr 0)), (1, .int xk)] := hl
  have hown : s.vm.findClass "RangeSheet" = some m.cls := hown
  have hCP0 := hCP
  obtain ⟨hW, hE, hen, ⟨hmk, hmke⟩, htd, hsp, hsd, hset, hgd⟩ := hWF
  obtain ⟨hSR, ⟨hx1, hx3, hx8, hx9, hx11, hx14, hx18⟩, ⟨hc2, hc3, hc4, hc5, hc6, hc7⟩, ⟨cf, hBf⟩, ⟨fn0, gn0, cn0, hBn, hBne⟩, hBx⟩ := hCP
  obtain ⟨f, g, ch, hB⟩ := hBx 0 (by omega)
  have hB : BP cA adr cn 14 f g ch := hB
  have hn10 := hW.1
  have hm12 := hW.2.1
  have hen12 := hE.1
  have hv1 : (x 1).toInt = (nn : Int) := by rw [hx1]; exact hW.2.2.1
  have hv8 : (x 8).toInt = (en : Int) := by rw [hx8]; exact hen
  have hv9 : (x 9).toInt = (mk0 : Int) := by rw [hx9]; exact hmk
  have hb9 : 0 ≤ (x 11).toInt ∧ (x 11).toInt ≤ 10 := by rw [hx11]; omega
  refine lv_iload_n hx hb d_Sht_high_0 rfl (lv_at hl 1 rfl) ?_
  refine lv_iconst (v := 0) hx hb d_Sht_high_1 (by decide) ?_
  refine lv_aload_n hx hb d_Sht_high_2 rfl (lv_at hl 0 rfl) ?_
  refine w_gf hx hb hK i_Sht hown hP (hNm 0 (by omega)) hSR.1 rfl 11 (by decide) t_96 rfl rfl d_Sht_high_3 ?_
  refine lv_iconst (v := 1) hx hb d_Sht_high_6 (by decide) ?_
  refine x_sub hx hb d_Sht_high_7 rfl kc_1 (by omega) (fun z_1 tz_1 => ?_)
  refine r_wn_Sht hx hb hml hown hK hl.1 hS ⟨Nat.le_of_ble_eq_true rfl, Nat.le_of_ble_eq_true rfl⟩ ⟨Nat.le_of_ble_eq_true rfl, Nat.le_of_ble_eq_true rfl⟩ rfl kc_0 tz_1  d_Sht_high_8 (Nat.le_of_ble_eq_true rfl) (fun locs hS => ?_)
  refine b_bool_eq (tgt := 26) hx hb d_Sht_high_11 (by decide) (fun c_2 => ?_) (fun c_2 => ?_)
  · have hc_2 := of_decide_eq_false c_2
    refine lv_sipush (v := (-1000)) hx hb d_Sht_high_26 (by decide) ?_
    refine e_i hx hb hr hlk hQ hS d_Sht_high_29 ?_
    exact ⟨_, rfl, by rw [if_neg (by rw [← hx11]; omega)]; exact kc_m1000, CQ.of hCP0 hP⟩
  · have hc_2 := of_decide_eq_true c_2
    refine lv_aload_n hx hb d_Sht_high_14 rfl (lv_at hl 0 rfl) ?_
    refine w_gf hx hb hK i_Sht hown hP (hNm 0 (by omega)) hSR.1 rfl 10 (by decide) t_95 rfl rfl d_Sht_high_15 ?_
    refine w_gfN hx hb hK i_Box hown hP (hNm 11 (by omega)) hBn.1 rfl 1 (by decide) t_48 rfl rfl d_Sht_high_18 ?_
    refine lv_iload_n hx hb d_Sht_high_21 rfl (lv_at hl 1 rfl) ?_
    refine w_ld hx hb hK hP (hNm (11 + 2) (by omega)) hBn.2.2 ((xk.toInt).toNat) rfl (by omega) (show (xk.toInt).toNat < 10 by omega) d_Sht_high_22 (fun z_3 ez_3 => ?_)
    subst ez_3
    refine lv_goto (tgt := 29) hx hb d_Sht_high_23 (by decide) ?_
    refine e_i hx hb hr hlk hQ hS d_Sht_high_29 ?_
    have hlt : 0 ≤ xk.toInt ∧ xk.toInt < (I 28).toInt := by rw [← hx11]; omega
    exact ⟨_, rfl, by rw [if_pos hlt]; rw [(hBne xk.toInt.toNat (by omega)).2], CQ.of hCP0 hP⟩
