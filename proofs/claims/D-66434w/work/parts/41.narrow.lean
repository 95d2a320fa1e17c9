theorem CP.told {cA : Nat → ClassId} {adr : Nat → Nat} {cn cn' : Nat → va_E} {I J : Nat → Int32} {F G : Nat → Nat → Int32} {mm : Nat} {x : Nat → Int32} {dn c : Bool} {v : Int32} {f g : Nat → Int32} (h : CP cA adr cn I F mm x dn) (h0 : cn' 0 = .inr (1, SF adr (va_up x 11 v) dn)) (hB : BP cA adr cn' 11 f g c) (hk : ∀ k, k ≠ 0 → k ≠ 11 → k ≠ 12 → k ≠ 13 → cn' k = cn k) (hJ : ∀ k, k ≠ 28 → J k = I k) (hv : v = J 28) (hG : ∀ n, n ≠ 29 → n ≠ 30 → G n = F n) (hf : ∀ k : Nat, (k : Int) < v.toInt → f k = G 29 k ∧ g k = G 30 k) : CP cA adr cn' J G mm (va_up x 11 v) dn := by
  obtain ⟨⟨r0, r1, r2, r3, r4⟩, ⟨y1, y2, y3, y4, y5, y6, y7⟩, ⟨a2, a3, a4, a5, a6, a7⟩, ⟨c8, b8⟩, -, hb⟩ := h
  have kB : ∀ a f g c, BP cA adr cn a f g c → (a = 8 ∨ 14 ≤ a) → BP cA adr cn' a f g c := fun a f g c q hq => ⟨(hk a (by omega) (by omega) (by omega) (by omega)).trans q.1, (hk (a + 1) (by omega) (by omega) (by omega) (by omega)).trans q.2.1, (hk (a + 2) (by omega) (by omega) (by omega) (by omega)).trans q.2.2⟩
  refine ⟨⟨h0, (hk 1 (by omega) (by omega) (by omega) (by omega)).trans r1, r2, ?_, fun r hr => ?_⟩, ⟨y1.trans (hJ 1 (by omega)).symm, y2.trans (hJ 4 (by omega)).symm, y3.trans (hJ 13 (by omega)).symm, y4.trans (hJ 17 (by omega)).symm, hv, y6.trans (hJ 31 (by omega)).symm, y7.trans (hJ 32 (by omega)).symm⟩, ⟨(hk 2 (by omega) (by omega) (by omega) (by omega)).trans a2, ?_, ?_, ?_, (hk 6 (by omega) (by omega) (by omega) (by omega)).trans a6, ?_⟩, ⟨c8, ?_⟩, ⟨f, g, c, hB, fun k hk => hf k (by rw [hv]; exact hk)⟩, fun d hd => ?_⟩
  · have := r3.fr (cn' := cn') (fun k h1 h2 => hk k (by omega) (by omega) (by omega) (by omega))
    unfold RPs at *
    rw [hG 10 (by omega) (by omega), hG 11 (by omega) (by omega), hG 12 (by omega) (by omega)]
    exact this
  · have := (r4 r hr).fr (cn' := cn') (hk _ (by omega) (by omega) (by omega) (by omega))
    unfold RelAt gB at *
    rw [hG 5 (by omega) (by omega), hG 6 (by omega) (by omega), hG 7 (by omega) (by omega), hG 8 (by omega) (by omega), hG 9 (by omega) (by omega)]
    exact this
  · rw [hG 14 (by omega) (by omega)]; exact (hk 3 (by omega) (by omega) (by omega) (by omega)).trans a3
  · rw [hG 15 (by omega) (by omega)]; exact (hk 4 (by omega) (by omega) (by omega) (by omega)).trans a4
  · rw [hG 16 (by omega) (by omega)]; exact (hk 5 (by omega) (by omega) (by omega) (by omega)).trans a5
  · rw [hG 33 (by omega) (by omega)]; exact (hk 7 (by omega) (by omega) (by omega) (by omega)).trans a7
  · rw [hG 2 (by omega) (by omega), hG 3 (by omega) (by omega)]; exact kB 8 _ _ _ b8 (by omega)
  · obtain ⟨f0, g0, c0, b0⟩ := hb d hd
    exact ⟨f0, g0, c0, kB _ _ _ _ b0 (by omega)⟩
theorem d_Sht_narrow_0 : decode b_Sht_narrow 0 = .ok (.aload_n 0, 1) := by decide +kernel
theorem d_Sht_narrow_1 : decode b_Sht_narrow 1 = .ok (.aload_n 0, 1) := by decide +kernel
theorem d_Sht_narrow_2 : decode b_Sht_narrow 2 = .ok (.getfield 150, 3) := by decide +kernel
theorem d_Sht_narrow_5 : decode b_Sht_narrow 5 = .ok (.invokevirtual 170, 3) := by decide +kernel
theorem d_Sht_narrow_8 : decode b_Sht_narrow 8 = .ok (.istore_n 1, 1) := by decide +kernel
theorem d_Sht_narrow_9 : decode b_Sht_narrow 9 = .ok (.aload_n 0, 1) := by decide +kernel
theorem d_Sht_narrow_10 : decode b_Sht_narrow 10 = .ok (.getfield 45, 3) := by decide +kernel
theorem d_Sht_narrow_13 : decode b_Sht_narrow 13 = .ok (.aload_n 0, 1) := by decide +kernel
theorem d_Sht_narrow_14 : decode b_Sht_narrow 14 = .ok (.getfield 48, 3) := by decide +kernel
theorem d_Sht_narrow_17 : decode b_Sht_narrow 17 = .ok (.iconst 0, 1) := by decide +kernel
theorem d_Sht_narrow_18 : decode b_Sht_narrow 18 = .ok (.aaload, 1) := by decide +kernel
theorem d_Sht_narrow_19 : decode b_Sht_narrow 19 = .ok (.invokevirtual 160, 3) := by decide +kernel
theorem d_Sht_narrow_22 : decode b_Sht_narrow 22 = .ok (.aload_n 0, 1) := by decide +kernel
theorem d_Sht_narrow_23 : decode b_Sht_narrow 23 = .ok (.iload_n 1, 1) := by decide +kernel
theorem d_Sht_narrow_24 : decode b_Sht_narrow 24 = .ok (.ifCond .eq 10, 3) := by decide +kernel
theorem d_Sht_narrow_27 : decode b_Sht_narrow 27 = .ok (.aload_n 0, 1) := by decide +kernel
theorem d_Sht_narrow_28 : decode b_Sht_narrow 28 = .ok (.getfield 55, 3) := by decide +kernel
theorem d_Sht_narrow_31 : decode b_Sht_narrow 31 = .ok (.goto 4, 3) := by decide +kernel
theorem d_Sht_narrow_34 : decode b_Sht_narrow 34 = .ok (.iconst 0, 1) := by decide +kernel
theorem d_Sht_narrow_35 : decode b_Sht_narrow 35 = .ok (.putfield 173, 3) := by decide +kernel
theorem d_Sht_narrow_38 : decode b_Sht_narrow 38 = .ok (.iload_n 1, 1) := by decide +kernel
theorem d_Sht_narrow_39 : decode b_Sht_narrow 39 = .ok (.ireturn, 1) := by decide +kernel
set_option maxHeartbeats 4000000 in
set_option maxRecDepth 20000 in
theorem k_Sht_narrow (l : Launch) (D : va_G) (cA : Nat → ClassId) (adr : Nat → Nat) (N : List Nat) (hi : wI N adr) (cn : Nat → va_E) (F : Nat → Nat → Int32) (I : Nat → Int32) (nn mm en mk0 : Nat) (x : Nat → Int32) (dn : Bool) (hCP : CP cA adr cn I F mm x dn) (hNm : ∀ k, k < 56 + mm → k ∈ N) (hWF : WF I F nn mm en mk0)  : Ct l y_Sht_narrow b_Sht_narrow 2 (some .boolean) 16 D cA [.ref (adr 0)] (fun H => va_P D classes (wl N adr cn) H) (fun r H => r = some (.int (bi (nw F nn mm en mk0).isSome)) ∧ CQ D cA adr N (J_nar I (nw F nn mm en mk0)) (G_nar F nn (nw F nn mm en mk0)) mm H) (wA N adr) := by
  refine Ct.mk (by decide) (Nat.le_of_ble_eq_true rfl) ?_
  intro p e s m args below meth c Q H locs ls hx hb hr hml hlk hown hin hK hQ hS hP hl
  have hl : lv_has ls 2 [(0, .ref (adr 0))] := hl
  have hown : s.vm.findClass "RangeSheet" = some m.cls := hown
  have hWF0 := hWF
  have hCP0 := hCP
  obtain ⟨hW, hE, hen, ⟨hmk, hmke⟩, htd, hsp, hsd, hset, hgd⟩ := hWF
  obtain ⟨hSR, ⟨hx1, hx3, hx8, hx9, hx11, hx14, hx18⟩, ⟨hc2, hc3, hc4, hc5, hc6, hc7⟩, ⟨cf, hBf⟩, ⟨fn0, gn0, cn0, hBn, hBne⟩, hBx⟩ := hCP
  obtain ⟨f, g, ch, hB⟩ := hBx 0 (by omega)
  have hB : BP cA adr cn 14 f g ch := hB
  have hn10 := hW.1
  have hm12 := hW.2.1
  have hen12 := hE.1
  have hv1 : (x 1).toInt = (nn : Int) := by rw [hx1]; exact hW.2.2.1
  have hv8 : (x 8).toInt = (en : Int) := by rw [hx8]; exact hen
  have hv9 : (x 9).toInt = (mk0 : Int) := by rw [hx9]; exact hmk
  refine lv_aload_n hx hb d_Sht_narrow_0 rfl (lv_at hl 0 rfl) ?_
  refine lv_aload_n hx hb d_Sht_narrow_1 rfl (lv_at hl 0 rfl) ?_
  refine w_gf hx hb hK i_Sht hown hP (hNm 0 (by omega)) hSR.1 rfl 9 (by decide) t_94 rfl rfl d_Sht_narrow_2 ?_
  refine x_V (As := [.int (x 9)]) (rest := []) hx hb hml hown hK (k_Sht_narrowWith l D cA adr N hi cn F I nn mm en mk0 x dn hCP0 hNm hWF0 mk0 (x 9) hv9) t_165 t_1 t_162 t_164 ts_0 yk_Sht_narrowWith ⟨Nat.le_of_ble_eq_true rfl, Nat.le_of_ble_eq_true rfl⟩ (w_rec hK hP (hNm 0 (by omega)) hSR.1 rfl) hP rfl hl.1 rfl (Nat.le_of_ble_eq_true rfl) d_Sht_narrow_5 ⟨Nat.le_of_ble_eq_true rfl, Nat.le_of_ble_eq_true rfl⟩ hS (fun q h => h) (fun r H locs hq _ hS => ?_)
  obtain ⟨cn_1, f_1, g_1, q_1, c_1, rfl, hFs_1, hRl_1, hB_1, hT_1, hF_1, hP⟩ := hq
  have hCP_1 := CP.fr (d := 0) hCP0 (by omega) hFs_1 hRl_1 hB_1
  have hx_1_2 : cn_1 0 = .inr (1, [.ref (adr 8), .int (x 1), .ref (adr 1), .int (x 3), .ref (adr 2), .ref (adr 3), .ref (adr 4), .ref (adr 5), .int (x 8), .int (x 9), .ref (adr 11), .int (x 11), .ref (adr 6), .int (x 13), .int (x 14), .int (x 15), .int (bi dn), .ref (adr 7), .int (x 18)]) := (hFs_1 0 (by omega) (by omega) (by omega) (by omega)).trans hSR.1
  have hx_1_3 : cn_1 1 = .inl (cA 3, 12, .inr (.inr (.inr (.inr (fun k => if k < mm then some (adr (56 + k)) else none))))) := (hFs_1 1 (by omega) (by omega) (by omega) (by omega)).trans hSR.2.1
  have hx_1_4 : cn_1 3 = .inl (cA 0, 12, .inl (F 14)) := (hFs_1 3 (by omega) (by omega) (by omega) (by omega)).trans hc3
  have hx_1_5 : cn_1 4 = .inl (cA 0, 12, .inl (F 15)) := (hFs_1 4 (by omega) (by omega) (by omega) (by omega)).trans hc4
  have hx_1_6 : cn_1 5 = .inl (cA 0, 12, .inl (F 16)) := (hFs_1 5 (by omega) (by omega) (by omega) (by omega)).trans hc5
  have hx_1_7 : cn_1 7 = .inl (cA 0, 10, .inl (F 33)) := (hFs_1 7 (by omega) (by omega) (by omega) (by omega)).trans hc7
  have hx_1_8 : cn_1 6 = .inl (cA 5, 11, .inr (.inr (.inr (.inr (fun k => if k < 11 then some (adr (14 + 3 * k)) else none))))) := (hFs_1 6 (by omega) (by omega) (by omega) (by omega)).trans hc6
  have hx_1_9 : cn_1 8 = .inr (2, [.ref (adr (8 + 1)), .ref (adr (8 + 2)), .int (bi cf)]) := (hFs_1 8 (by omega) (by omega) (by omega) (by omega)).trans hBf.1
  have hx_1_10 : cn_1 (8 + 1) = .inl (cA 0, 10, .inl (F 2)) := (hFs_1 (8 + 1) (by omega) (by omega) (by omega) (by omega)).trans hBf.2.1
  have hx_1_11 : cn_1 (8 + 2) = .inl (cA 0, 10, .inl (F 3)) := (hFs_1 (8 + 2) (by omega) (by omega) (by omega) (by omega)).trans hBf.2.2
  have hx_1_12 : cn_1 11 = .inr (2, [.ref (adr (11 + 1)), .ref (adr (11 + 2)), .int (bi cn0)]) := (hFs_1 11 (by omega) (by omega) (by omega) (by omega)).trans hBn.1
  have hx_1_13 : cn_1 (11 + 1) = .inl (cA 0, 10, .inl fn0) := (hFs_1 (11 + 1) (by omega) (by omega) (by omega) (by omega)).trans hBn.2.1
  have hx_1_14 : cn_1 (11 + 2) = .inl (cA 0, 10, .inl gn0) := (hFs_1 (11 + 2) (by omega) (by omega) (by omega) (by omega)).trans hBn.2.2
  refine W.eq (g2 := F0 m 8 ls [.int (bi q_1)]) rfl ?_
  refine lv_istore_n (lv' := [(1, .int (bi q_1)), (0, .ref (adr 0))]) hx hb d_Sht_narrow_8 rfl hl (by decide) rfl (fun ls hl => ?_)
  refine lv_aload_n hx hb d_Sht_narrow_9 rfl (lv_at hl 1 rfl) ?_
  refine w_gf hx hb hK i_Sht hown hP (hNm 0 (by omega)) hx_1_2 rfl 10 (by decide) t_95 rfl rfl d_Sht_narrow_10 ?_
  refine lv_aload_n hx hb d_Sht_narrow_13 rfl (lv_at hl 1 rfl) ?_
  refine w_gf hx hb hK i_Sht hown hP (hNm 0 (by omega)) hx_1_2 rfl 12 (by decide) t_97 rfl rfl d_Sht_narrow_14 ?_
  refine lv_iconst (v := 0) hx hb d_Sht_narrow_17 (by decide) ?_
  refine w_ald hx hb hK hP (hNm 6 (by omega)) hx_1_8 rfl (0) kc_0 (by omega) (show 0 < 11 by omega) rfl d_Sht_narrow_18 ?_
  refine x_V (As := [.ref (adr 14)]) (rest := []) hx hb hml hown hK (k_Box_copy l D cA adr N hi cn_1 11 fn0 gn0 cn0 ⟨hx_1_12, hx_1_13, hx_1_14⟩ ⟨hNm _ (by omega), hNm _ (by omega), hNm _ (by omega)⟩ 14 f_1 g_1 c_1 ⟨hB_1.1, hB_1.2.1, hB_1.2.2⟩ ⟨hNm _ (by omega), hNm _ (by omega), hNm _ (by omega)⟩ (by omega)) t_169 t_2 t_166 t_167 t_168 yk_Box_copy ⟨Nat.le_of_ble_eq_true rfl, Nat.le_of_ble_eq_true rfl⟩ (w_rec hK hP (hNm 11 (by omega)) hx_1_12 rfl) hP rfl hl.1 rfl (Nat.le_of_ble_eq_true rfl) d_Sht_narrow_19 ⟨Nat.le_of_ble_eq_true rfl, Nat.le_of_ble_eq_true rfl⟩ hS (fun q h => h) (fun r H locs hq _ hS => ?_)
  obtain ⟨cn_15, rfl, hFb_15, hB_15, hP⟩ := hq
  have hx_15_16 : cn_15 0 = .inr (1, [.ref (adr 8), .int (x 1), .ref (adr 1), .int (x 3), .ref (adr 2), .ref (adr 3), .ref (adr 4), .ref (adr 5), .int (x 8), .int (x 9), .ref (adr 11), .int (x 11), .ref (adr 6), .int (x 13), .int (x 14), .int (x 15), .int (bi dn), .ref (adr 7), .int (x 18)]) := (hFb_15 0 (by omega) (by omega) (by omega)).trans hx_1_2
  have hx_15_17 : cn_15 1 = .inl (cA 3, 12, .inr (.inr (.inr (.inr (fun k => if k < mm then some (adr (56 + k)) else none))))) := (hFb_15 1 (by omega) (by omega) (by omega)).trans hx_1_3
  have hx_15_18 : cn_15 3 = .inl (cA 0, 12, .inl (F 14)) := (hFb_15 3 (by omega) (by omega) (by omega)).trans hx_1_4
  have hx_15_19 : cn_15 4 = .inl (cA 0, 12, .inl (F 15)) := (hFb_15 4 (by omega) (by omega) (by omega)).trans hx_1_5
  have hx_15_20 : cn_15 5 = .inl (cA 0, 12, .inl (F 16)) := (hFb_15 5 (by omega) (by omega) (by omega)).trans hx_1_6
  have hx_15_21 : cn_15 7 = .inl (cA 0, 10, .inl (F 33)) := (hFb_15 7 (by omega) (by omega) (by omega)).trans hx_1_7
  have hx_15_22 : cn_15 6 = .inl (cA 5, 11, .inr (.inr (.inr (.inr (fun k => if k < 11 then some (adr (14 + 3 * k)) else none))))) := (hFb_15 6 (by omega) (by omega) (by omega)).trans hx_1_8
  have hx_15_23 : cn_15 8 = .inr (2, [.ref (adr (8 + 1)), .ref (adr (8 + 2)), .int (bi cf)]) := (hFb_15 8 (by omega) (by omega) (by omega)).trans hx_1_9
  have hx_15_24 : cn_15 (8 + 1) = .inl (cA 0, 10, .inl (F 2)) := (hFb_15 (8 + 1) (by omega) (by omega) (by omega)).trans hx_1_10
  have hx_15_25 : cn_15 (8 + 2) = .inl (cA 0, 10, .inl (F 3)) := (hFb_15 (8 + 2) (by omega) (by omega) (by omega)).trans hx_1_11
  have hx_15_26 : cn_15 14 = .inr (2, [.ref (adr (14 + 1)), .ref (adr (14 + 2)), .int (bi c_1)]) := (hFb_15 14 (by omega) (by omega) (by omega)).trans hB_1.1
  have hx_15_27 : cn_15 (14 + 1) = .inl (cA 0, 10, .inl f_1) := (hFb_15 (14 + 1) (by omega) (by omega) (by omega)).trans hB_1.2.1
  have hx_15_28 : cn_15 (14 + 2) = .inl (cA 0, 10, .inl g_1) := (hFb_15 (14 + 2) (by omega) (by omega) (by omega)).trans hB_1.2.2
  refine W.eq (g2 := F0 m 22 ls []) rfl ?_
  refine lv_aload_n hx hb d_Sht_narrow_22 rfl (lv_at hl 1 rfl) ?_
  refine lv_iload_n hx hb d_Sht_narrow_23 rfl (lv_at hl 0 rfl) ?_
  refine b_bool_eq (tgt := 34) hx hb d_Sht_narrow_24 (by decide) (fun c_29 => ?_) (fun c_29 => ?_)
  · refine lv_iconst (v := 0) hx hb d_Sht_narrow_34 (by decide) ?_
    refine w_pf hx hb hK i_Sht t_Sht t_Sht_ok n_Sht hown hi hP hS wA_mem (hNm 0 (by omega)) hx_15_16 rfl 11 (by decide) t_96 rfl rfl rfl rfl rfl d_Sht_narrow_35 (fun H locs hP hS => ?_)
    obtain ⟨cn_30, ecn_30⟩ : ∃ q : Nat → va_E, q = va_up cn_15 0 (.inr (1, [.ref (adr 8), .int (x 1), .ref (adr 1), .int (x 3), .ref (adr 2), .ref (adr 3), .ref (adr 4), .ref (adr 5), .int (x 8), .int (x 9), .ref (adr 11), .int (0 : Int32), .ref (adr 6), .int (x 13), .int (x 14), .int (x 15), .int (bi dn), .ref (adr 7), .int (x 18)])) := ⟨_, rfl⟩
    have hP : va_P D classes (wl N adr cn_30) H := by rw [ecn_30]; exact hP
    have ho_30_31 : cn_30 0 = .inr (1, [.ref (adr 8), .int (x 1), .ref (adr 1), .int (x 3), .ref (adr 2), .ref (adr 3), .ref (adr 4), .ref (adr 5), .int (x 8), .int (x 9), .ref (adr 11), .int (0 : Int32), .ref (adr 6), .int (x 13), .int (x 14), .int (x 15), .int (bi dn), .ref (adr 7), .int (x 18)]) := by rw [ecn_30]; exact va_up_self _ _ _
    have ho_30_32 : cn_30 1 = .inl (cA 3, 12, .inr (.inr (.inr (.inr (fun k => if k < mm then some (adr (56 + k)) else none))))) := by rw [ecn_30, va_up_ne _ _ (by omega)]; exact hx_15_17
    have ho_30_33 : cn_30 3 = .inl (cA 0, 12, .inl (F 14)) := by rw [ecn_30, va_up_ne _ _ (by omega)]; exact hx_15_18
    have ho_30_34 : cn_30 4 = .inl (cA 0, 12, .inl (F 15)) := by rw [ecn_30, va_up_ne _ _ (by omega)]; exact hx_15_19
    have ho_30_35 : cn_30 5 = .inl (cA 0, 12, .inl (F 16)) := by rw [ecn_30, va_up_ne _ _ (by omega)]; exact hx_15_20
    have ho_30_36 : cn_30 7 = .inl (cA 0, 10, .inl (F 33)) := by rw [ecn_30, va_up_ne _ _ (by omega)]; exact hx_15_21
    have ho_30_37 : cn_30 6 = .inl (cA 5, 11, .inr (.inr (.inr (.inr (fun k => if k < 11 then some (adr (14 + 3 * k)) else none))))) := by rw [ecn_30, va_up_ne _ _ (by omega)]; exact hx_15_22
    have ho_30_38 : cn_30 8 = .inr (2, [.ref (adr (8 + 1)), .ref (adr (8 + 2)), .int (bi cf)]) := by rw [ecn_30, va_up_ne _ _ (by omega)]; exact hx_15_23
    have ho_30_39 : cn_30 (8 + 1) = .inl (cA 0, 10, .inl (F 2)) := by rw [ecn_30, va_up_ne _ _ (by omega)]; exact hx_15_24
    have ho_30_40 : cn_30 (8 + 2) = .inl (cA 0, 10, .inl (F 3)) := by rw [ecn_30, va_up_ne _ _ (by omega)]; exact hx_15_25
    have ho_30_41 : cn_30 14 = .inr (2, [.ref (adr (14 + 1)), .ref (adr (14 + 2)), .int (bi c_1)]) := by rw [ecn_30, va_up_ne _ _ (by omega)]; exact hx_15_26
    have ho_30_42 : cn_30 (14 + 1) = .inl (cA 0, 10, .inl f_1) := by rw [ecn_30, va_up_ne _ _ (by omega)]; exact hx_15_27
    have ho_30_43 : cn_30 (14 + 2) = .inl (cA 0, 10, .inl g_1) := by rw [ecn_30, va_up_ne _ _ (by omega)]; exact hx_15_28
    have ho_30_44 : cn_30 11 = .inr (2, [.ref (adr (11 + 1)), .ref (adr (11 + 2)), .int (bi cn0)]) := by rw [ecn_30, va_up_ne _ _ (by omega)]; exact hB_15.1
    have ho_30_45 : cn_30 (11 + 1) = .inl (cA 0, 10, .inl (va_cpy f_1 fn0 0 0 10)) := by rw [ecn_30, va_up_ne _ _ (by omega)]; exact hB_15.2.1
    have ho_30_46 : cn_30 (11 + 2) = .inl (cA 0, 10, .inl (va_cpy g_1 gn0 0 0 10)) := by rw [ecn_30, va_up_ne _ _ (by omega)]; exact hB_15.2.2
    refine lv_iload_n hx hb d_Sht_narrow_38 rfl (lv_at hl 0 rfl) ?_
    refine e_z hx hb hr hlk hQ hS d_Sht_narrow_39 ?_
    have hw := hF_1 c_29
    rw [hw]; refine ⟨by rw [c_29]; rfl, ?_⟩
    exact CQ.of (hCP_1.told (v := 0) (J := J_nar I none) (G := G_nar F nn none) ho_30_31 ⟨ho_30_44, ho_30_45, ho_30_46⟩ (fun k a0 a1 a2 a3 => by rw [ecn_30, va_up_ne _ _ a0]; exact hFb_15 k a1 a2 a3) (fun k hk => va_up_ne _ _ hk) rfl (fun _ _ _ => rfl) (fun k hk => absurd hk (by rw [kc_0]; omega))) hP
  · refine lv_aload_n hx hb d_Sht_narrow_27 rfl (lv_at hl 1 rfl) ?_
    refine w_gf hx hb hK i_Sht hown hP (hNm 0 (by omega)) hx_15_16 rfl 1 (by decide) t_86 rfl rfl d_Sht_narrow_28 ?_
    refine lv_goto (tgt := 35) hx hb d_Sht_narrow_31 (by decide) ?_
    refine w_pf hx hb hK i_Sht t_Sht t_Sht_ok n_Sht hown hi hP hS wA_mem (hNm 0 (by omega)) hx_15_16 rfl 11 (by decide) t_96 rfl rfl rfl rfl rfl d_Sht_narrow_35 (fun H locs hP hS => ?_)
    obtain ⟨cn_47, ecn_47⟩ : ∃ q : Nat → va_E, q = va_up cn_15 0 (.inr (1, [.ref (adr 8), .int (x 1), .ref (adr 1), .int (x 3), .ref (adr 2), .ref (adr 3), .ref (adr 4), .ref (adr 5), .int (x 8), .int (x 9), .ref (adr 11), .int (x 1), .ref (adr 6), .int (x 13), .int (x 14), .int (x 15), .int (bi dn), .ref (adr 7), .int (x 18)])) := ⟨_, rfl⟩
    have hP : va_P D classes (wl N adr cn_47) H := by rw [ecn_47]; exact hP
    have ho_47_48 : cn_47 0 = .inr (1, [.ref (adr 8), .int (x 1), .ref (adr 1), .int (x 3), .ref (adr 2), .ref (adr 3), .ref (adr 4), .ref (adr 5), .int (x 8), .int (x 9), .ref (adr 11), .int (x 1), .ref (adr 6), .int (x 13), .int (x 14), .int (x 15), .int (bi dn), .ref (adr 7), .int (x 18)]) := by rw [ecn_47]; exact va_up_self _ _ _
    have ho_47_49 : cn_47 1 = .inl (cA 3, 12, .inr (.inr (.inr (.inr (fun k => if k < mm then some (adr (56 + k)) else none))))) := by rw [ecn_47, va_up_ne _ _ (by omega)]; exact hx_15_17
    have ho_47_50 : cn_47 3 = .inl (cA 0, 12, .inl (F 14)) := by rw [ecn_47, va_up_ne _ _ (by omega)]; exact hx_15_18
    have ho_47_51 : cn_47 4 = .inl (cA 0, 12, .inl (F 15)) := by rw [ecn_47, va_up_ne _ _ (by omega)]; exact hx_15_19
    have ho_47_52 : cn_47 5 = .inl (cA 0, 12, .inl (F 16)) := by rw [ecn_47, va_up_ne _ _ (by omega)]; exact hx_15_20
    have ho_47_53 : cn_47 7 = .inl (cA 0, 10, .inl (F 33)) := by rw [ecn_47, va_up_ne _ _ (by omega)]; exact hx_15_21
    have ho_47_54 : cn_47 6 = .inl (cA 5, 11, .inr (.inr (.inr (.inr (fun k => if k < 11 then some (adr (14 + 3 * k)) else none))))) := by rw [ecn_47, va_up_ne _ _ (by omega)]; exact hx_15_22
    have ho_47_55 : cn_47 8 = .inr (2, [.ref (adr (8 + 1)), .ref (adr (8 + 2)), .int (bi cf)]) := by rw [ecn_47, va_up_ne _ _ (by omega)]; exact hx_15_23
    have ho_47_56 : cn_47 (8 + 1) = .inl (cA 0, 10, .inl (F 2)) := by rw [ecn_47, va_up_ne _ _ (by omega)]; exact hx_15_24
    have ho_47_57 : cn_47 (8 + 2) = .inl (cA 0, 10, .inl (F 3)) := by rw [ecn_47, va_up_ne _ _ (by omega)]; exact hx_15_25
    have ho_47_58 : cn_47 14 = .inr (2, [.ref (adr (14 + 1)), .ref (adr (14 + 2)), .int (bi c_1)]) := by rw [ecn_47, va_up_ne _ _ (by omega)]; exact hx_15_26
    have ho_47_59 : cn_47 (14 + 1) = .inl (cA 0, 10, .inl f_1) := by rw [ecn_47, va_up_ne _ _ (by omega)]; exact hx_15_27
    have ho_47_60 : cn_47 (14 + 2) = .inl (cA 0, 10, .inl g_1) := by rw [ecn_47, va_up_ne _ _ (by omega)]; exact hx_15_28
    have ho_47_61 : cn_47 11 = .inr (2, [.ref (adr (11 + 1)), .ref (adr (11 + 2)), .int (bi cn0)]) := by rw [ecn_47, va_up_ne _ _ (by omega)]; exact hB_15.1
    have ho_47_62 : cn_47 (11 + 1) = .inl (cA 0, 10, .inl (va_cpy f_1 fn0 0 0 10)) := by rw [ecn_47, va_up_ne _ _ (by omega)]; exact hB_15.2.1
    have ho_47_63 : cn_47 (11 + 2) = .inl (cA 0, 10, .inl (va_cpy g_1 gn0 0 0 10)) := by rw [ecn_47, va_up_ne _ _ (by omega)]; exact hB_15.2.2
    refine lv_iload_n hx hb d_Sht_narrow_38 rfl (lv_at hl 0 rfl) ?_
    refine e_z hx hb hr hlk hQ hS d_Sht_narrow_39 ?_
    obtain ⟨y, hw, hEy⟩ := hT_1 c_29
    rw [hw]; refine ⟨by rw [c_29]; rfl, ?_⟩
    refine CQ.of (hCP_1.told (v := x 1) (J := J_nar I (some y)) (G := G_nar F nn (some y)) ho_47_48 ⟨ho_47_61, ho_47_62, ho_47_63⟩ (fun k a0 a1 a2 a3 => by rw [ecn_47, va_up_ne _ _ a0]; exact hFb_15 k a1 a2 a3) (fun k hk => va_up_ne _ _ hk) hx1 (fun n h1 h2 => by show va_up _ 30 _ n = _; rw [va_up_ne _ _ h2, va_up_ne _ _ h1]) (fun k hk => ?_)) hP
    have hkn : k < nn := by omega
    have e9 := hEy k hkn
    constructor
    · show va_cpy f_1 _ 0 0 10 k = if k < nn then _ else _; rw [if_pos hkn]; unfold va_cpy; rw [if_pos (by omega)]; exact i32_of (by have := e9.1; unfold tI at this; simpa using this)
    · show va_cpy g_1 _ 0 0 10 k = if k < nn then _ else _; rw [if_pos hkn]; unfold va_cpy; rw [if_pos (by omega)]; exact i32_of (by have := e9.2; unfold tI at this; simpa using this)
