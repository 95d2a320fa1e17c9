theorem bnd_eqb {n k : Nat} {tp : Bool} {f g : Nat → Int} {y : Bx} (h : Eqb n f g y.1 y.2) (hk : k < n) : bnd tp k (f, g) = bnd tp k y := by
  have := h k hk
  unfold bnd
  show (if tp = true then g k else f k) = _
  rw [this.1, this.2]
theorem nw_rg {F : Nat → Nat → Int32} {n m en mk : Nat} {y : Bx} (hE : WE F n en) (h : nw F n m en mk = some y) : ∀ j, j < n → -100 ≤ y.1 j ∧ y.1 j ≤ y.2 j ∧ y.2 j ≤ 100 := by
  intro j hj
  unfold nw at h
  split at h
  · rename_i hf
    have g := stl_some h
    have hEr := entB_rg (mk := mk) hE en (Nat.le_refl _)
    have a1 := hEr.1 j hj
    have a2 := hEr.2 hf j hj
    have a3 := g.1 j hj
    have a4 := g.2.1 j hj
    omega
  · cases h
theorem WF.steps {I : Nat → Int32} {F : Nat → Nat → Int32} {n m en mk : Nat} {v : Int32} (h : WF I F n m en mk) (hv : 0 ≤ v.toInt ∧ v.toInt ≤ 300) : WF (va_up I 31 v) F n m en mk := by
  obtain ⟨w1, w2, w3, w4, w5, w6, w7, w8, w9⟩ := h
  exact ⟨w1.fr rfl rfl ⟨rfl, rfl, rfl, rfl, rfl, rfl, rfl, rfl⟩, w2, w3, w4, w5, hv, w7, w8, w9⟩
theorem d_Sht_because_0 : decode b_Sht_because 0 = .ok (.aload_n 0, 1) := by decide +kernel
theorem d_Sht_because_1 : decode b_Sht_because 1 = .ok (.iload_n 1, 1) := by decide +kernel
theorem d_Sht_because_2 : decode b_Sht_because 2 = .ok (.invokevirtual 86, 3) := by decide +kernel
theorem d_Sht_because_5 : decode b_Sht_because 5 = .ok (.invokestatic 73, 3) := by decide +kernel
set_option maxHeartbeats 4000000 in
set_option maxRecDepth 20000 in
theorem k_Sht_because_T (l : Launch) (htr : l.stackTraces = false) (D : va_G) (cA : Nat → ClassId) (adr : Nat → Nat) (N : List Nat) (cn : Nat → va_E) (x : Nat → Int32) (dn : Bool) (h00 : cn 0 = .inr (1, SF adr x dn)) (hN0 : 0 ∈ N) (nn : Nat) (hv1 : (x 1).toInt = (nn : Int)) (hn10 : nn ≤ 10) (xk : Int32) (tp : Bool) (h0 : ¬ (0 ≤ xk.toInt ∧ xk.toInt < (nn : Int))) : CtT l y_Sht_because b_Sht_because 7 (some .int) 9 D cA [.ref (adr 0), .int xk, .int (bi tp)] (fun H => va_P D classes (wl N adr cn) H) "java/lang/IllegalArgumentException" := by
  refine CtT.mk (by decide) (Nat.le_of_ble_eq_true rfl) ?_
  intro p e s m args below meth c Q H locs ls hx hb hr hml hlk hown hin hK hTh hex hQ hS hP hl
  have hl : lv_has ls 7 [(0, .ref (adr 0)), (1, .int xk), (2, .int (bi tp))] := hl
  have hown : s.vm.findClass "RangeSheet" = some m.cls := hown
  refine lv_aload_n hx hb d_Sht_because_0 rfl (lv_at hl 0 rfl) ?_
  refine lv_iload_n hx hb d_Sht_because_1 rfl (lv_at hl 1 rfl) ?_
  refine x_V (As := [.int xk]) (rest := []) hx hb hml hown hK (k_Sht_isCell l D cA adr N cn x dn h00 hN0 nn hv1 hn10 xk) t_494 t_1 t_491 t_493 ts_9 yk_Sht_isCell ⟨Nat.le_of_ble_eq_true rfl, Nat.le_of_ble_eq_true rfl⟩ (w_rec hK hP hN0 h00 rfl) hP rfl hl.1 rfl (Nat.le_of_ble_eq_true rfl) d_Sht_because_2 ⟨Nat.le_of_ble_eq_true rfl, Nat.le_of_ble_eq_true rfl⟩ hS (fun q h => h.elim) (fun r H locs hq _ hS => ?_)
  obtain ⟨rfl, hP⟩ := hq
  refine W.eq (g2 := F0 m 5 ls [.int (bi (decide (0 ≤ xk.toInt ∧ xk.toInt ≤ (nn : Int) - 1)))]) rfl ?_
  exact t_S (As := [.int (bi (decide (0 ≤ xk.toInt ∧ xk.toInt ≤ (nn : Int) - 1)))]) (rest := []) hx hb hml hown hK hTh (k_Sht_need_T l htr D cA (decide (0 ≤ xk.toInt ∧ xk.toInt ≤ (nn : Int) - 1)) (decide_eq_false (by omega))) t_399 t_1 t_397 t_398 yk_Sht_need ⟨Nat.le_of_ble_eq_true rfl, Nat.le_of_ble_eq_true rfl⟩ ⟨Nat.le_of_ble_eq_true rfl, Nat.le_of_ble_eq_true rfl⟩ trivial rfl hl.1 rfl (Nat.le_of_ble_eq_true rfl) d_Sht_because_5 hS hex hlk hQ
theorem d_Sht_because_8 : decode b_Sht_because 8 = .ok (.aload_n 0, 1) := by decide +kernel
theorem d_Sht_because_9 : decode b_Sht_because 9 = .ok (.aload_n 0, 1) := by decide +kernel
theorem d_Sht_because_10 : decode b_Sht_because 10 = .ok (.getfield 150, 3) := by decide +kernel
theorem d_Sht_because_13 : decode b_Sht_because 13 = .ok (.invokevirtual 170, 3) := by decide +kernel
theorem d_Sht_because_16 : decode b_Sht_because 16 = .ok (.ifCond .ne 7, 3) := by decide +kernel
theorem d_Sht_because_19 : decode b_Sht_because 19 = .ok (.sipush (-1000), 3) := by decide +kernel
theorem d_Sht_because_22 : decode b_Sht_because 22 = .ok (.ireturn, 1) := by decide +kernel
theorem d_Sht_because_23 : decode b_Sht_because 23 = .ok (.aload_n 0, 1) := by decide +kernel
theorem d_Sht_because_24 : decode b_Sht_because 24 = .ok (.iload_n 1, 1) := by decide +kernel
theorem d_Sht_because_25 : decode b_Sht_because 25 = .ok (.iload_n 2, 1) := by decide +kernel
theorem d_Sht_because_26 : decode b_Sht_because 26 = .ok (.invokevirtual 176, 3) := by decide +kernel
theorem d_Sht_because_29 : decode b_Sht_because 29 = .ok (.istore_n 3, 1) := by decide +kernel
theorem d_Sht_because_30 : decode b_Sht_because 30 = .ok (.aload_n 0, 1) := by decide +kernel
theorem d_Sht_because_31 : decode b_Sht_because 31 = .ok (.getfield 150, 3) := by decide +kernel
theorem d_Sht_because_34 : decode b_Sht_because 34 = .ok (.istore 4, 2) := by decide +kernel
theorem d_Sht_because_36 : decode b_Sht_because 36 = .ok (.aload_n 0, 1) := by decide +kernel
theorem d_Sht_because_37 : decode b_Sht_because 37 = .ok (.getfield 147, 3) := by decide +kernel
theorem d_Sht_because_40 : decode b_Sht_because 40 = .ok (.iconst 1, 1) := by decide +kernel
theorem d_Sht_because_41 : decode b_Sht_because 41 = .ok (.isub, 1) := by decide +kernel
theorem d_Sht_because_42 : decode b_Sht_because 42 = .ok (.istore 5, 2) := by decide +kernel
theorem d_Sht_because_44 : decode b_Sht_because 44 = .ok (.iload 5, 2) := by decide +kernel
theorem d_Sht_because_46 : decode b_Sht_because 46 = .ok (.ifCond .lt 70, 3) := by decide +kernel
theorem d_Sht_because_49 : decode b_Sht_because 49 = .ok (.iload 4, 2) := by decide +kernel
theorem d_Sht_because_51 : decode b_Sht_because 51 = .ok (.iload 5, 2) := by decide +kernel
theorem d_Sht_because_53 : decode b_Sht_because 53 = .ok (.ishr, 1) := by decide +kernel
theorem d_Sht_because_54 : decode b_Sht_because 54 = .ok (.iconst 1, 1) := by decide +kernel
theorem d_Sht_because_55 : decode b_Sht_because 55 = .ok (.iand, 1) := by decide +kernel
theorem d_Sht_because_56 : decode b_Sht_because 56 = .ok (.iconst 1, 1) := by decide +kernel
theorem d_Sht_because_57 : decode b_Sht_because 57 = .ok (.if_icmp .ne 31, 3) := by decide +kernel
theorem d_Sht_because_60 : decode b_Sht_because 60 = .ok (.aload_n 0, 1) := by decide +kernel
theorem d_Sht_because_61 : decode b_Sht_because 61 = .ok (.iload 4, 2) := by decide +kernel
theorem d_Sht_because_63 : decode b_Sht_because 63 = .ok (.iconst 1, 1) := by decide +kernel
theorem d_Sht_because_64 : decode b_Sht_because 64 = .ok (.iload 5, 2) := by decide +kernel
theorem d_Sht_because_66 : decode b_Sht_because 66 = .ok (.ishl, 1) := by decide +kernel
theorem d_Sht_because_67 : decode b_Sht_because 67 = .ok (.ixor, 1) := by decide +kernel
theorem d_Sht_because_68 : decode b_Sht_because 68 = .ok (.invokevirtual 170, 3) := by decide +kernel
theorem d_Sht_because_71 : decode b_Sht_because 71 = .ok (.ifCond .eq 17, 3) := by decide +kernel
theorem d_Sht_because_74 : decode b_Sht_because 74 = .ok (.aload_n 0, 1) := by decide +kernel
theorem d_Sht_because_75 : decode b_Sht_because 75 = .ok (.iload_n 1, 1) := by decide +kernel
theorem d_Sht_because_76 : decode b_Sht_because 76 = .ok (.iload_n 2, 1) := by decide +kernel
theorem d_Sht_because_77 : decode b_Sht_because 77 = .ok (.invokevirtual 176, 3) := by decide +kernel
theorem d_Sht_because_80 : decode b_Sht_because 80 = .ok (.iload_n 3, 1) := by decide +kernel
theorem d_Sht_because_81 : decode b_Sht_because 81 = .ok (.if_icmp .ne 7, 3) := by decide +kernel
theorem d_Sht_because_84 : decode b_Sht_because 84 = .ok (.iconst 1, 1) := by decide +kernel
theorem d_Sht_because_85 : decode b_Sht_because 85 = .ok (.goto 4, 3) := by decide +kernel
theorem d_Sht_because_88 : decode b_Sht_because 88 = .ok (.iconst 0, 1) := by decide +kernel
theorem d_Sht_because_89 : decode b_Sht_because 89 = .ok (.istore 6, 2) := by decide +kernel
theorem d_Sht_because_91 : decode b_Sht_because 91 = .ok (.iload 6, 2) := by decide +kernel
theorem d_Sht_because_93 : decode b_Sht_because 93 = .ok (.ifCond .eq 13, 3) := by decide +kernel
theorem d_Sht_because_96 : decode b_Sht_because 96 = .ok (.iload 4, 2) := by decide +kernel
theorem d_Sht_because_98 : decode b_Sht_because 98 = .ok (.iconst 1, 1) := by decide +kernel
theorem d_Sht_because_99 : decode b_Sht_because 99 = .ok (.iload 5, 2) := by decide +kernel
theorem d_Sht_because_101 : decode b_Sht_because 101 = .ok (.ishl, 1) := by decide +kernel
theorem d_Sht_because_102 : decode b_Sht_because 102 = .ok (.ixor, 1) := by decide +kernel
theorem d_Sht_because_103 : decode b_Sht_because 103 = .ok (.goto 5, 3) := by decide +kernel
theorem d_Sht_because_106 : decode b_Sht_because 106 = .ok (.iload 4, 2) := by decide +kernel
theorem d_Sht_because_108 : decode b_Sht_because 108 = .ok (.istore 4, 2) := by decide +kernel
theorem d_Sht_because_110 : decode b_Sht_because 110 = .ok (.iinc 5 (-1), 3) := by decide +kernel
theorem d_Sht_because_113 : decode b_Sht_because 113 = .ok (.goto (-69), 3) := by decide +kernel
theorem d_Sht_because_116 : decode b_Sht_because 116 = .ok (.iload 4, 2) := by decide +kernel
theorem d_Sht_because_118 : decode b_Sht_because 118 = .ok (.ireturn, 1) := by decide +kernel
set_option maxHeartbeats 4000000 in
set_option maxRecDepth 20000 in
theorem k_Sht_because (l : Launch) (D : va_G) (cA : Nat → ClassId) (adr : Nat → Nat) (N : List Nat) (hi : wI N adr) (cn : Nat → va_E) (F : Nat → Nat → Int32) (I : Nat → Int32) (nn mm en mk0 : Nat) (x : Nat → Int32) (dn : Bool) (hCP : CP cA adr cn I F mm x dn) (hNm : ∀ k, k < 56 + mm → k ∈ N) (hWF : WF I F nn mm en mk0) (xk : Int32) (tp : Bool) (h0 : 0 ≤ xk.toInt ∧ xk.toInt < (nn : Int)) : Ct l y_Sht_because b_Sht_because 7 (some .int) 18 D cA [.ref (adr 0), .int xk, .int (bi tp)] (fun H => va_P D classes (wl N adr cn) H) (fun r H => ∃ z : Int32, r = some (.int z) ∧ z.toInt = r_bcs F nn mm en mk0 tp xk.toInt.toNat ∧ CQ D cA adr N I F mm H) (wA N adr) := by
  refine Ct.mk (by decide) (Nat.le_of_ble_eq_true rfl) ?_
  intro p e s m args below meth c Q H locs ls hx hb hr hml hlk hown hin hK hQ hS hP hl
  have hl : lv_has ls 7 [(0, .ref (adr 0)), (1, .int xk), (2, .int (bi tp))] := hl
  have hown : s.vm.findClass "RangeSheet" = some m.cls := hown
  have hWF0 := hWF
  have hCP0 := hCP
  obtain ⟨hW, hE, hen, ⟨hmk, hmke⟩, htd, hsp, hsd, hset, hgd⟩ := hWF
  obtain ⟨hSR, ⟨hx1, hx3, hx8, hx9, hx11, hx14, hx18⟩, ⟨hc2, hc3, hc4, hc5, hc6, hc7⟩, ⟨cf, hBf⟩, ⟨fn0, gn0, cn0, hBn, hBne⟩, hBx⟩ := hCP
  obtain ⟨f, g, ch, hB⟩ := hBx 0 (by omega)
  have hB : BP cA adr cn 14 f g ch := hB
  have hn10 := hW.1
  have hm12 := hW.2.1
  have hen12 := hE.1
  have hv1 : (x 1).toInt = (nn : Int) := by rw [hx1]; exact hW.2.2.1
  have hv8 : (x 8).toInt = (en : Int) := by rw [hx8]; exact hen
  have hv9 : (x 9).toInt = (mk0 : Int) := by rw [hx9]; exact hmk
  have hN0 : 0 ∈ N := hNm 0 (by omega)
  have hkk : xk.toInt = (xk.toInt.toNat : Int) := by omega
  have hmk12 : mk0 < 2 ^ 12 := Nat.lt_of_lt_of_le hmke (Nat.pow_le_pow_right (by decide) hen12)
  refine lv_aload_n hx hb d_Sht_because_0 rfl (lv_at hl 0 rfl) ?_
  refine lv_iload_n hx hb d_Sht_because_1 rfl (lv_at hl 1 rfl) ?_
  refine x_V (As := [.int xk]) (rest := []) hx hb hml hown hK (k_Sht_isCell l D cA adr N cn x dn hSR.1 (hNm 0 (by omega)) nn hv1 hn10 xk) t_494 t_1 t_491 t_493 ts_9 yk_Sht_isCell ⟨Nat.le_of_ble_eq_true rfl, Nat.le_of_ble_eq_true rfl⟩ (w_rec hK hP (hNm 0 (by omega)) hSR.1 rfl) hP rfl hl.1 rfl (Nat.le_of_ble_eq_true rfl) d_Sht_because_2 ⟨Nat.le_of_ble_eq_true rfl, Nat.le_of_ble_eq_true rfl⟩ hS (fun q h => h.elim) (fun r H locs hq _ hS => ?_)
  obtain ⟨rfl, hP⟩ := hq
  refine W.eq (g2 := F0 m 5 ls [.int (bi (decide (0 ≤ xk.toInt ∧ xk.toInt ≤ (nn : Int) - 1)))]) rfl ?_
  refine r_Sht_need hx hb hml hown hK hl.1 hS ⟨Nat.le_of_ble_eq_true rfl, Nat.le_of_ble_eq_true rfl⟩ ⟨Nat.le_of_ble_eq_true rfl, Nat.le_of_ble_eq_true rfl⟩ (decide_eq_true (by omega)) d_Sht_because_5 (Nat.le_of_ble_eq_true rfl) (fun locs hS => ?_)
  refine lv_aload_n hx hb d_Sht_because_8 rfl (lv_at hl 0 rfl) ?_
  refine lv_aload_n hx hb d_Sht_because_9 rfl (lv_at hl 0 rfl) ?_
  refine w_gf hx hb hK i_Sht hown hP (hNm 0 (by omega)) hSR.1 rfl 9 (by decide) t_94 rfl rfl d_Sht_because_10 ?_
  refine x_V (As := [.int (x 9)]) (rest := []) hx hb hml hown hK (k_Sht_narrowWith l D cA adr N hi cn F I nn mm en mk0 x dn hCP0 hNm hWF0 mk0 (x 9) hv9) t_165 t_1 t_162 t_164 ts_0 yk_Sht_narrowWith ⟨Nat.le_of_ble_eq_true rfl, Nat.le_of_ble_eq_true rfl⟩ (w_rec hK hP (hNm 0 (by omega)) hSR.1 rfl) hP rfl hl.1 rfl (Nat.le_of_ble_eq_true rfl) d_Sht_because_13 ⟨Nat.le_of_ble_eq_true rfl, Nat.le_of_ble_eq_true rfl⟩ hS (fun q h => h) (fun r H locs hq _ hS => ?_)
  obtain ⟨cn_1, f_1, g_1, q_1, c_1, rfl, hFs_1, hRl_1, hB_1, hT_1, hF_1, hP⟩ := hq
  have hCP_1 := CP.fr (d := 0) hCP0 (by omega) hFs_1 hRl_1 hB_1
  have hx_1_2 : cn_1 0 = .inr (1, [.ref (adr 8), .int (x 1), .ref (adr 1), .int (x 3), .ref (adr 2), .ref (adr 3), .ref (adr 4), .ref (adr 5), .int (x 8), .int (x 9), .ref (adr 11), .int (x 11), .ref (adr 6), .int (x 13), .int (x 14), .int (x 15), .int (bi dn), .ref (adr 7), .int (x 18)]) := (hFs_1 0 (by omega) (by omega) (by omega) (by omega)).trans hSR.1
  have hx_1_3 : cn_1 1 = .inl (cA 3, 12, .inr (.inr (.inr (.inr (fun k => if k < mm then some (adr (56 + k)) else none))))) := (hFs_1 1 (by omega) (by omega) (by omega) (by omega)).trans hSR.2.1
  have hx_1_4 : cn_1 3 = .inl (cA 0, 12, .inl (F 14)) := (hFs_1 3 (by omega) (by omega) (by omega) (by omega)).trans hc3
  have hx_1_5 : cn_1 4 = .inl (cA 0, 12, .inl (F 15)) := (hFs_1 4 (by omega) (by omega) (by omega) (by omega)).trans hc4
  have hx_1_6 : cn_1 5 = .inl (cA 0, 12, .inl (F 16)) := (hFs_1 5 (by omega) (by omega) (by omega) (by omega)).trans hc5
  have hx_1_7 : cn_1 7 = .inl (cA 0, 10, .inl (F 33)) := (hFs_1 7 (by omega) (by omega) (by omega) (by omega)).trans hc7
  have hx_1_8 : cn_1 6 = .inl (cA 5, 11, .inr (.inr (.inr (.inr (fun k => if k < 11 then some (adr (14 + 3 * k)) else none))))) := (hFs_1 6 (by omega) (by omega) (by omega) (by omega)).trans hc6
  have hx_1_9 : cn_1 8 = .inr (2, [.ref (adr (8 + 1)), .ref (adr (8 + 2)), .int (bi cf)]) := (hFs_1 8 (by omega) (by omega) (by omega) (by omega)).trans hBf.1
  have hx_1_10 : cn_1 (8 + 1) = .inl (cA 0, 10, .inl (F 2)) := (hFs_1 (8 + 1) (by omega) (by omega) (by omega) (by omega)).trans hBf.2.1
  have hx_1_11 : cn_1 (8 + 2) = .inl (cA 0, 10, .inl (F 3)) := (hFs_1 (8 + 2) (by omega) (by omega) (by omega) (by omega)).trans hBf.2.2
  refine W.eq (g2 := F0 m 16 ls [.int (bi q_1)]) rfl ?_
  refine b_bool_ne (tgt := 23) hx hb d_Sht_because_16 (by decide) (fun c_12 => ?_) (fun c_12 => ?_)
  · obtain ⟨y0, hw0, hEy0⟩ := hT_1 c_12
    refine lv_aload_n hx hb d_Sht_because_23 rfl (lv_at hl 0 rfl) ?_
    refine lv_iload_n hx hb d_Sht_because_24 rfl (lv_at hl 1 rfl) ?_
    refine lv_iload_n hx hb d_Sht_because_25 rfl (lv_at hl 2 rfl) ?_
    refine x_V (As := [.int xk, .int (bi tp)]) (rest := []) hx hb hml hown hK (k_Sht_bound l D cA adr N hi cn_1 F I mm x dn hCP_1 hNm f_1 g_1 c_1 hB_1 xk.toInt.toNat xk hkk (by omega) tp) t_688 t_1 t_685 t_687 ts_11 yk_Sht_bound ⟨Nat.le_of_ble_eq_true rfl, Nat.le_of_ble_eq_true rfl⟩ (w_rec hK hP (hNm 0 (by omega)) hx_1_2 rfl) hP rfl hl.1 rfl (Nat.le_of_ble_eq_true rfl) d_Sht_because_26 ⟨Nat.le_of_ble_eq_true rfl, Nat.le_of_ble_eq_true rfl⟩ hS (fun q h => h) (fun r H locs hq _ hS => ?_)
    obtain ⟨z_13, rfl, hz_13, hP⟩ := hq
    refine W.eq (g2 := F0 m 29 ls [.int z_13]) rfl ?_
    have hdue : z_13.toInt = bnd tp xk.toInt.toNat y0 := hz_13.trans (bnd_eqb hEy0 (by omega))
    refine lv_istore_n (lv' := [(3, .int z_13), (0, .ref (adr 0)), (1, .int xk), (2, .int (bi tp))]) hx hb d_Sht_because_29 rfl hl (by decide) rfl (fun ls hl => ?_)
    refine lv_aload_n hx hb d_Sht_because_30 rfl (lv_at hl 1 rfl) ?_
    refine w_gf hx hb hK i_Sht hown hP (hNm 0 (by omega)) hx_1_2 rfl 9 (by decide) t_94 rfl rfl d_Sht_because_31 ?_
    refine lv_istore (lv' := [(4, .int (x 9)), (3, .int z_13), (0, .ref (adr 0)), (1, .int xk), (2, .int (bi tp))]) hx hb d_Sht_because_34 hl (by decide) rfl (fun ls hl => ?_)
    refine lv_aload_n hx hb d_Sht_because_36 rfl (lv_at hl 2 rfl) ?_
    refine w_gf hx hb hK i_Sht hown hP (hNm 0 (by omega)) hx_1_2 rfl 8 (by decide) t_93 rfl rfl d_Sht_because_37 ?_
    refine lv_iconst (v := 1) hx hb d_Sht_because_40 (by decide) ?_
    refine x_sub hx hb d_Sht_because_41 hv8 kc_1 (by omega) (fun z_14 tz_14 => ?_)
    refine lv_istore (lv' := [(5, .int z_14), (4, .int (x 9)), (3, .int z_13), (0, .ref (adr 0)), (1, .int xk), (2, .int (bi tp))]) hx hb d_Sht_because_42 hl (by decide) rfl (fun ls hl => ?_)
    have L_15 : ∀ (n : Nat) (ex : Nat) (m2 : Nat) (x4 : Int32) (x5 : Int32) (cn1 : Nat → va_E) (H : Heap) (locs : List Loc) (ls : Array Slot), ex < n → (ex ≤ en) → (x4.toInt = (m2 : Int)) → (x5.toInt = (ex : Int) - 1) → (m2 < 2 ^ 12) → (CP cA adr cn1 I F mm x dn) → (bcs F nn mm en tp xk.toInt.toNat (bnd tp xk.toInt.toNat y0) en mk0 = bcs F nn mm en tp xk.toInt.toNat (bnd tp xk.toInt.toNat y0) ex m2) → va_P D classes (wl N adr cn1) H → va_S (wA N adr) s.heap H locs → lv_has ls 7 [(3, .int z_13), (0, .ref (adr 0)), (1, .int xk), (2, .int (bi tp)), (4, .int x4), (5, .int x5)] → W p l e (rl 18) s m args below meth c H locs 0 0 Q (F0 m 44 ls []) := by
      intro n
      induction n with
      | zero => intro ex m2 x4 x5 cn1 H locs ls hmu; exact absurd hmu (Nat.not_lt_zero _)
      | succ n ih_15 =>
        intro ex m2 x4 x5 cn1 H locs ls hmu hex hm2 h2 hm212 hC1 hcf hP hS hl
        refine lv_iload hx hb d_Sht_because_44 (lv_at hl 5 rfl) ?_
        refine b_if_lt (tgt := 116) hx hb d_Sht_because_46 (by decide) h2 (fun c_16 => ?_) (fun c_16 => ?_)
        · refine lv_iload hx hb d_Sht_because_116 (lv_at hl 4 rfl) ?_
          refine e_i hx hb hr hlk hQ hS d_Sht_because_118 ?_
          refine ⟨_, rfl, ?_, CQ.of hC1 hP⟩
          unfold r_bcs; rw [hw0]; show _ = ((bcs _ _ _ _ _ _ _ _ _ : Nat) : Int); rw [hcf, show ex = 0 by omega]; exact hm2
        · obtain ⟨ex0, hex0⟩ : ∃ e0, ex = e0 + 1 := ⟨ex - 1, by omega⟩
          subst hex0
          have hx2 : x5.toInt = (ex0 : Int) := by omega
          have hpx := Nat.pow_lt_pow_right (show 1 < 2 by decide) (show ex0 < 12 by omega)
          refine lv_iload hx hb d_Sht_because_49 (lv_at hl 4 rfl) ?_
          refine lv_iload hx hb d_Sht_because_51 (lv_at hl 5 rfl) ?_
          refine lv_ishr hx hb d_Sht_because_53 ?_
          refine lv_iconst (v := 1) hx hb d_Sht_because_54 (by decide) ?_
          refine x_bit hx hb d_Sht_because_55 hm2 hx2 (by omega) (by omega) ?_
          refine lv_iconst (v := 1) hx hb d_Sht_because_56 (by decide) ?_
          refine b1_icmp_ne (tgt := 88) hx hb d_Sht_because_57 (by decide) (fun c_17 => ?_) (fun c_17 => ?_)
          · refine lv_iconst (v := 0) hx hb d_Sht_because_88 (by decide) ?_
            refine lv_istore (lv' := [(6, .int (0 : Int32)), (3, .int z_13), (0, .ref (adr 0)), (1, .int xk), (2, .int (bi tp)), (4, .int x4), (5, .int x5)]) hx hb d_Sht_because_89 hl (by decide) rfl (fun ls hl => ?_)
            refine lv_iload hx hb d_Sht_because_91 (lv_at hl 0 rfl) ?_
            refine b_if_eq (tgt := 106) hx hb d_Sht_because_93 (by decide) kc_0 (fun c_18 => ?_) (fun c_18 => ?_)
            · refine lv_iload hx hb d_Sht_because_106 (lv_at hl 5 rfl) ?_
              refine lv_istore (lv' := [(4, .int x4), (6, .int (0 : Int32)), (3, .int z_13), (0, .ref (adr 0)), (1, .int xk), (2, .int (bi tp)), (5, .int x5)]) hx hb d_Sht_because_108 hl (by decide) rfl (fun ls hl => ?_)
              refine x_iinc (k := 6) (lv' := fun v_ => [(5, .int v_), (4, .int x4), (6, .int (0 : Int32)), (3, .int z_13), (0, .ref (adr 0)), (1, .int xk), (2, .int (bi tp))]) hx hb d_Sht_because_110 hl rfl hx2 (by decide) (by omega) (by decide) (fun v_ => rfl) (fun z_19 tz_19 ls hl => ?_)
              refine lv_goto (tgt := 44) hx hb d_Sht_because_113 (by decide) ?_
              have hbt : m2.testBit ex0 = false := by have q := c_17; rw [hasN_nat] at q; exact q
              exact ih_15 ex0 m2 x4 z_19 cn1 _ _ _ (by omega) (by omega) (by omega) (by omega) hm212 hC1 (by rw [hcf, bcs, if_neg (by rw [hbt]; simp)]) hP hS (lv_sub hl [3, 4, 5, 6, 1, 0] rfl)
            · exact absurd c_18 (by decide)
          · refine lv_aload_n hx hb d_Sht_because_60 rfl (lv_at hl 1 rfl) ?_
            refine lv_iload hx hb d_Sht_because_61 (lv_at hl 4 rfl) ?_
            refine lv_iconst (v := 1) hx hb d_Sht_because_63 (by decide) ?_
            refine lv_iload hx hb d_Sht_because_64 (lv_at hl 5 rfl) ?_
            refine x_shl1 hx hb d_Sht_because_66 (ex0) hx2 (by omega) (by omega) (fun z_20 tz_20 => ?_)
            refine x_xorN hx hb d_Sht_because_67 (m2) ((2 ^ ex0)) hm2 tz_20 (by omega) (by omega) (fun z_21 tz_21 => ?_)
            refine x_V (As := [.int z_21]) (rest := []) hx hb hml hown hK (k_Sht_narrowWith l D cA adr N hi cn1 F I nn mm en mk0 x dn hC1 hNm hWF0 (m2 ^^^ (2 ^ ex0)) z_21 tz_21) t_165 t_1 t_162 t_164 ts_0 yk_Sht_narrowWith ⟨Nat.le_of_ble_eq_true rfl, Nat.le_of_ble_eq_true rfl⟩ (w_rec hK hP (hNm 0 (by omega)) hC1.1.1 rfl) hP rfl hl.1 rfl (Nat.le_of_ble_eq_true rfl) d_Sht_because_68 ⟨Nat.le_of_ble_eq_true rfl, Nat.le_of_ble_eq_true rfl⟩ hS (fun q h => h) (fun r H locs hq _ hS => ?_)
            obtain ⟨cn_22, f_22, g_22, q_22, c_22, rfl, hFs_22, hRl_22, hB_22, hT_22, hF_22, hP⟩ := hq
            have hCP_22 := CP.fr (d := 0) hC1 (by omega) hFs_22 hRl_22 hB_22
            have hx_22_23 : cn_22 0 = .inr (1, [.ref (adr 8), .int (x 1), .ref (adr 1), .int (x 3), .ref (adr 2), .ref (adr 3), .ref (adr 4), .ref (adr 5), .int (x 8), .int (x 9), .ref (adr 11), .int (x 11), .ref (adr 6), .int (x 13), .int (x 14), .int (x 15), .int (bi dn), .ref (adr 7), .int (x 18)]) := (hFs_22 0 (by omega) (by omega) (by omega) (by omega)).trans hC1.1.1
            refine W.eq (g2 := F0 m 71 ls [.int (bi q_22)]) rfl ?_
            refine b_bool_eq (tgt := 88) hx hb d_Sht_because_71 (by decide) (fun c_24 => ?_) (fun c_24 => ?_)
            · refine lv_iconst (v := 0) hx hb d_Sht_because_88 (by decide) ?_
              refine lv_istore (lv' := [(6, .int (0 : Int32)), (3, .int z_13), (0, .ref (adr 0)), (1, .int xk), (2, .int (bi tp)), (4, .int x4), (5, .int x5)]) hx hb d_Sht_because_89 hl (by decide) rfl (fun ls hl => ?_)
              refine lv_iload hx hb d_Sht_because_91 (lv_at hl 0 rfl) ?_
              refine b_if_eq (tgt := 106) hx hb d_Sht_because_93 (by decide) kc_0 (fun c_25 => ?_) (fun c_25 => ?_)
              · refine lv_iload hx hb d_Sht_because_106 (lv_at hl 5 rfl) ?_
                refine lv_istore (lv' := [(4, .int x4), (6, .int (0 : Int32)), (3, .int z_13), (0, .ref (adr 0)), (1, .int xk), (2, .int (bi tp)), (5, .int x5)]) hx hb d_Sht_because_108 hl (by decide) rfl (fun ls hl => ?_)
                refine x_iinc (k := 6) (lv' := fun v_ => [(5, .int v_), (4, .int x4), (6, .int (0 : Int32)), (3, .int z_13), (0, .ref (adr 0)), (1, .int xk), (2, .int (bi tp))]) hx hb d_Sht_because_110 hl rfl hx2 (by decide) (by omega) (by decide) (fun v_ => rfl) (fun z_26 tz_26 ls hl => ?_)
                refine lv_goto (tgt := 44) hx hb d_Sht_because_113 (by decide) ?_
                have hbt : m2.testBit ex0 = true := by have q := c_17; rw [hasN_nat] at q; exact q
                have hy := hF_22 c_24
                exact ih_15 ex0 m2 x4 z_26 cn_22 _ _ _ (by omega) (by omega) (by omega) (by omega) hm212 hCP_22 (by rw [hcf, bcs, if_neg (by rw [hy]; simp)]) hP hS (lv_sub hl [3, 4, 5, 6, 1, 0] rfl)
              · exact absurd c_25 (by decide)
            · refine lv_aload_n hx hb d_Sht_because_74 rfl (lv_at hl 1 rfl) ?_
              refine lv_iload_n hx hb d_Sht_because_75 rfl (lv_at hl 2 rfl) ?_
              refine lv_iload_n hx hb d_Sht_because_76 rfl (lv_at hl 3 rfl) ?_
              refine x_V (As := [.int xk, .int (bi tp)]) (rest := []) hx hb hml hown hK (k_Sht_bound l D cA adr N hi cn_22 F I mm x dn hCP_22 hNm f_22 g_22 c_22 hB_22 xk.toInt.toNat xk hkk (by omega) tp) t_688 t_1 t_685 t_687 ts_11 yk_Sht_bound ⟨Nat.le_of_ble_eq_true rfl, Nat.le_of_ble_eq_true rfl⟩ (w_rec hK hP (hNm 0 (by omega)) hx_22_23 rfl) hP rfl hl.1 rfl (Nat.le_of_ble_eq_true rfl) d_Sht_because_77 ⟨Nat.le_of_ble_eq_true rfl, Nat.le_of_ble_eq_true rfl⟩ hS (fun q h => h) (fun r H locs hq _ hS => ?_)
              obtain ⟨z_27, rfl, hz_27, hP⟩ := hq
              refine W.eq (g2 := F0 m 80 ls [.int z_27]) rfl ?_
              refine lv_iload_n hx hb d_Sht_because_80 rfl (lv_at hl 0 rfl) ?_
              refine b_icmp_ne (tgt := 88) hx hb d_Sht_because_81 (by decide) rfl hdue (fun c_28 => ?_) (fun c_28 => ?_)
              · refine lv_iconst (v := 0) hx hb d_Sht_because_88 (by decide) ?_
                refine lv_istore (lv' := [(6, .int (0 : Int32)), (3, .int z_13), (0, .ref (adr 0)), (1, .int xk), (2, .int (bi tp)), (4, .int x4), (5, .int x5)]) hx hb d_Sht_because_89 hl (by decide) rfl (fun ls hl => ?_)
                refine lv_iload hx hb d_Sht_because_91 (lv_at hl 0 rfl) ?_
                refine b_if_eq (tgt := 106) hx hb d_Sht_because_93 (by decide) kc_0 (fun c_29 => ?_) (fun c_29 => ?_)
                · refine lv_iload hx hb d_Sht_because_106 (lv_at hl 5 rfl) ?_
                  refine lv_istore (lv' := [(4, .int x4), (6, .int (0 : Int32)), (3, .int z_13), (0, .ref (adr 0)), (1, .int xk), (2, .int (bi tp)), (5, .int x5)]) hx hb d_Sht_because_108 hl (by decide) rfl (fun ls hl => ?_)
                  refine x_iinc (k := 6) (lv' := fun v_ => [(5, .int v_), (4, .int x4), (6, .int (0 : Int32)), (3, .int z_13), (0, .ref (adr 0)), (1, .int xk), (2, .int (bi tp))]) hx hb d_Sht_because_110 hl rfl hx2 (by decide) (by omega) (by decide) (fun v_ => rfl) (fun z_30 tz_30 ls hl => ?_)
                  refine lv_goto (tgt := 44) hx hb d_Sht_because_113 (by decide) ?_
                  have hbt : m2.testBit ex0 = true := by have q := c_17; rw [hasN_nat] at q; exact q
                  obtain ⟨y, hy, hEy⟩ := hT_22 c_24
                  have hbd := hz_27.trans (bnd_eqb (tp := tp) hEy (show xk.toInt.toNat < nn by omega))
                  exact ih_15 ex0 m2 x4 z_30 cn_22 _ _ _ (by omega) (by omega) (by omega) (by omega) hm212 hCP_22 (by rw [hcf, bcs, if_neg (by rw [hy]; intro h; have h2 := Option.some.inj h.2; omega)]) hP hS (lv_sub hl [3, 4, 5, 6, 1, 0] rfl)
                · exact absurd c_29 (by decide)
              · refine lv_iconst (v := 1) hx hb d_Sht_because_84 (by decide) ?_
                refine lv_goto (tgt := 89) hx hb d_Sht_because_85 (by decide) ?_
                refine lv_istore (lv' := [(6, .int (1 : Int32)), (3, .int z_13), (0, .ref (adr 0)), (1, .int xk), (2, .int (bi tp)), (4, .int x4), (5, .int x5)]) hx hb d_Sht_because_89 hl (by decide) rfl (fun ls hl => ?_)
                refine lv_iload hx hb d_Sht_because_91 (lv_at hl 0 rfl) ?_
                refine b_if_eq (tgt := 106) hx hb d_Sht_because_93 (by decide) kc_1 (fun c_31 => ?_) (fun c_31 => ?_)
                · exact absurd c_31 (by decide)
                · refine lv_iload hx hb d_Sht_because_96 (lv_at hl 5 rfl) ?_
                  refine lv_iconst (v := 1) hx hb d_Sht_because_98 (by decide) ?_
                  refine lv_iload hx hb d_Sht_because_99 (lv_at hl 6 rfl) ?_
                  refine x_shl1 hx hb d_Sht_because_101 (ex0) hx2 (by omega) (by omega) (fun z_32 tz_32 => ?_)
                  refine x_xorN hx hb d_Sht_because_102 (m2) ((2 ^ ex0)) hm2 tz_32 (by omega) (by omega) (fun z_33 tz_33 => ?_)
                  refine lv_goto (tgt := 108) hx hb d_Sht_because_103 (by decide) ?_
                  refine lv_istore (lv' := [(4, .int z_33), (6, .int (1 : Int32)), (3, .int z_13), (0, .ref (adr 0)), (1, .int xk), (2, .int (bi tp)), (5, .int x5)]) hx hb d_Sht_because_108 hl (by decide) rfl (fun ls hl => ?_)
                  refine x_iinc (k := 6) (lv' := fun v_ => [(5, .int v_), (4, .int z_33), (6, .int (1 : Int32)), (3, .int z_13), (0, .ref (adr 0)), (1, .int xk), (2, .int (bi tp))]) hx hb d_Sht_because_110 hl rfl hx2 (by decide) (by omega) (by decide) (fun v_ => rfl) (fun z_34 tz_34 ls hl => ?_)
                  refine lv_goto (tgt := 44) hx hb d_Sht_because_113 (by decide) ?_
                  have hbt : m2.testBit ex0 = true := by have q := c_17; rw [hasN_nat] at q; exact q
                  obtain ⟨y, hy, hEy⟩ := hT_22 c_24
                  have hbd := hz_27.trans (bnd_eqb (tp := tp) hEy (show xk.toInt.toNat < nn by omega))
                  exact ih_15 ex0 (m2 ^^^ 2 ^ ex0) z_33 z_34 cn_22 _ _ _ (by omega) (by omega) tz_33 (by omega) (xor_lt hm212 (by omega)) hCP_22 (by rw [hcf, bcs, if_pos ⟨hbt, by rw [hy]; show some (bnd tp xk.toInt.toNat y) = _; rw [show bnd tp xk.toInt.toNat y = bnd tp xk.toInt.toNat y0 by omega]⟩]) hP hS (lv_sub hl [3, 4, 5, 6, 1, 0] rfl)
    exact L_15 (_ + 1) en mk0 (x 9) z_14 cn_1 _ _ _ (Nat.lt_succ_self _) (Nat.le_refl _) hv9 (by omega) hmk12 hCP_1 rfl hP hS (lv_sub hl [2, 3, 4, 5, 1, 0] rfl)
  · have hw0 := hF_1 c_12
    refine lv_sipush (v := (-1000)) hx hb d_Sht_because_19 (by decide) ?_
    refine e_i hx hb hr hlk hQ hS d_Sht_because_22 ?_
    exact ⟨_, rfl, by unfold r_bcs; rw [hw0]; exact kc_m1000, CQ.of hCP_1 hP⟩
theorem d_Sht_begin_0 : decode b_Sht_begin 0 = .ok (.iload_n 3, 1) := by decide +kernel
theorem d_Sht_begin_1 : decode b_Sht_begin 1 = .ok (.iconst 0, 1) := by decide +kernel
theorem d_Sht_begin_2 : decode b_Sht_begin 2 = .ok (.sipush 300, 3) := by decide +kernel
theorem d_Sht_begin_5 : decode b_Sht_begin 5 = .ok (.invokestatic 59, 3) := by decide +kernel
theorem d_Sht_begin_8 : decode b_Sht_begin 8 = .ok (.invokestatic 73, 3) := by decide +kernel
set_option maxHeartbeats 4000000 in
set_option maxRecDepth 20000 in
theorem k_Sht_begin_T (l : Launch) (htr : l.stackTraces = false) (D : va_G) (cA : Nat → ClassId) (adr : Nat → Nat) (N : List Nat) (cn : Nat → va_E) (x : Nat → Int32) (dn : Bool) (h00 : cn 0 = .inr (1, SF adr x dn)) (hN0 : 0 ∈ N) (nn : Nat) (hv1 : (x 1).toInt = (nn : Int)) (hn10 : nn ≤ 10) (xl : Int32) (dw : Bool) (xm : Int32) (h0 : ¬ (0 ≤ xm.toInt ∧ xm.toInt ≤ 300)) : CtT l y_Sht_begin b_Sht_begin 4 (some .int) 9 D cA [.ref (adr 0), .int xl, .int (bi dw), .int xm] (fun H => va_P D classes (wl N adr cn) H) "java/lang/IllegalArgumentException" := by
  refine CtT.mk (by decide) (Nat.le_of_ble_eq_true rfl) ?_
  intro p e s m args below meth c Q H locs ls hx hb hr hml hlk hown hin hK hTh hex hQ hS hP hl
  have hl : lv_has ls 4 [(0, .ref (adr 0)), (1, .int xl), (2, .int (bi dw)), (3, .int xm)] := hl
  have hown : s.vm.findClass "RangeSheet" = some m.cls := hown
  refine lv_iload_n hx hb d_Sht_begin_0 rfl (lv_at hl 3 rfl) ?_
  refine lv_iconst (v := 0) hx hb d_Sht_begin_1 (by decide) ?_
  refine lv_sipush (v := 300) hx hb d_Sht_begin_2 (by decide) ?_
  refine r_wn_Sht hx hb hml hown hK hl.1 hS ⟨Nat.le_of_ble_eq_true rfl, Nat.le_of_ble_eq_true rfl⟩ ⟨Nat.le_of_ble_eq_true rfl, Nat.le_of_ble_eq_true rfl⟩ rfl kc_0 kc_300  d_Sht_begin_5 (Nat.le_of_ble_eq_true rfl) (fun locs hS => ?_)
  exact t_S (As := [.int (bi (decide (0 ≤ xm.toInt ∧ xm.toInt ≤ 300)))]) (rest := []) hx hb hml hown hK hTh (k_Sht_need_T l htr D cA (decide (0 ≤ xm.toInt ∧ xm.toInt ≤ 300)) (decide_eq_false (by omega))) t_399 t_1 t_397 t_398 yk_Sht_need ⟨Nat.le_of_ble_eq_true rfl, Nat.le_of_ble_eq_true rfl⟩ ⟨Nat.le_of_ble_eq_true rfl, Nat.le_of_ble_eq_true rfl⟩ trivial rfl hl.1 rfl (Nat.le_of_ble_eq_true rfl) d_Sht_begin_8 hS hex hlk hQ
theorem d_Sht_begin_11 : decode b_Sht_begin 11 = .ok (.aload_n 0, 1) := by decide +kernel
theorem d_Sht_begin_12 : decode b_Sht_begin 12 = .ok (.iload_n 1, 1) := by decide +kernel
theorem d_Sht_begin_13 : decode b_Sht_begin 13 = .ok (.putfield 180, 3) := by decide +kernel
theorem d_Sht_begin_16 : decode b_Sht_begin 16 = .ok (.aload_n 0, 1) := by decide +kernel
theorem d_Sht_begin_17 : decode b_Sht_begin 17 = .ok (.iload_n 2, 1) := by decide +kernel
theorem d_Sht_begin_18 : decode b_Sht_begin 18 = .ok (.putfield 199, 3) := by decide +kernel
theorem d_Sht_begin_21 : decode b_Sht_begin 21 = .ok (.aload_n 0, 1) := by decide +kernel
theorem d_Sht_begin_22 : decode b_Sht_begin 22 = .ok (.iload_n 3, 1) := by decide +kernel
theorem d_Sht_begin_23 : decode b_Sht_begin 23 = .ok (.putfield 205, 3) := by decide +kernel
theorem d_Sht_begin_26 : decode b_Sht_begin 26 = .ok (.aload_n 0, 1) := by decide +kernel
theorem d_Sht_begin_27 : decode b_Sht_begin 27 = .ok (.iconst 0, 1) := by decide +kernel
theorem d_Sht_begin_28 : decode b_Sht_begin 28 = .ok (.putfield 202, 3) := by decide +kernel
theorem d_Sht_begin_31 : decode b_Sht_begin 31 = .ok (.aload_n 0, 1) := by decide +kernel
theorem d_Sht_begin_32 : decode b_Sht_begin 32 = .ok (.aload_n 0, 1) := by decide +kernel
theorem d_Sht_begin_33 : decode b_Sht_begin 33 = .ok (.getfield 150, 3) := by decide +kernel
theorem d_Sht_begin_36 : decode b_Sht_begin 36 = .ok (.invokevirtual 170, 3) := by decide +kernel
theorem d_Sht_begin_39 : decode b_Sht_begin 39 = .ok (.ifCond .eq 11, 3) := by decide +kernel
theorem d_Sht_begin_42 : decode b_Sht_begin 42 = .ok (.aload_n 0, 1) := by decide +kernel
theorem d_Sht_begin_43 : decode b_Sht_begin 43 = .ok (.iconst 0, 1) := by decide +kernel
theorem d_Sht_begin_44 : decode b_Sht_begin 44 = .ok (.invokevirtual 208, 3) := by decide +kernel
theorem d_Sht_begin_47 : decode b_Sht_begin 47 = .ok (.goto 4, 3) := by decide +kernel
theorem d_Sht_begin_50 : decode b_Sht_begin 50 = .ok (.iconst 0, 1) := by decide +kernel
theorem d_Sht_begin_51 : decode b_Sht_begin 51 = .ok (.ireturn, 1) := by decide +kernel
set_option maxHeartbeats 4000000 in
set_option maxRecDepth 20000 in
theorem k_Sht_begin (l : Launch) (D : va_G) (cA : Nat → ClassId) (adr : Nat → Nat) (N : List Nat) (hi : wI N adr) (cn : Nat → va_E) (F : Nat → Nat → Int32) (I : Nat → Int32) (nn mm en mk0 : Nat) (x : Nat → Int32) (dn : Bool) (hCP : CP cA adr cn I F mm x dn) (hNm : ∀ k, k < 56 + mm → k ∈ N) (hWF : WF I F nn mm en mk0) (xl : Int32) (ld : Int) (hld : (xl.toInt = -1000 ∧ ld = -1) ∨ (xl.toInt = ld ∧ 0 ≤ ld ∧ ld < nn)) (dw : Bool) (xm : Int32) (hxm0 : 0 ≤ xm.toInt ∧ xm.toInt ≤ 300) : Ct l y_Sht_begin b_Sht_begin 4 (some .int) 26 D cA [.ref (adr 0), .int xl, .int (bi dw), .int xm] (fun H => va_P D classes (wl N adr cn) H) (fun r H => ∃ z : Int32, r = some (.int z) ∧ z.toInt = (fnd F nn mm en mk0 xm.toInt.toNat ld dw).1 ∧ (fnd F nn mm en mk0 xm.toInt.toNat ld dw).2.1 ≤ xm.toInt.toNat ∧ CQ D cA adr N (J_fnd I (fnd F nn mm en mk0 xm.toInt.toNat ld dw)) (G_fnd F nn (fnd F nn mm en mk0 xm.toInt.toNat ld dw)) mm H) (wA N adr) := by
  refine Ct.mk (by decide) (Nat.le_of_ble_eq_true rfl) ?_
  intro p e s m args below meth c Q H locs ls hx hb hr hml hlk hown hin hK hQ hS hP hl
  have hl : lv_has ls 4 [(0, .ref (adr 0)), (1, .int xl), (2, .int (bi dw)), (3, .int xm)] := hl
  have hown : s.vm.findClass "RangeSheet" = some m.cls := hown
  have hWF0 := hWF
  have hCP0 := hCP
  obtain ⟨hW, hE, hen, ⟨hmk, hmke⟩, htd, hsp, hsd, hset, hgd⟩ := hWF
  obtain ⟨hSR, ⟨hx1, hx3, hx8, hx9, hx11, hx14, hx18⟩, ⟨hc2, hc3, hc4, hc5, hc6, hc7⟩, ⟨cf, hBf⟩, ⟨fn0, gn0, cn0, hBn, hBne⟩, hBx⟩ := hCP
  obtain ⟨f, g, ch, hB⟩ := hBx 0 (by omega)
  have hB : BP cA adr cn 14 f g ch := hB
  have hn10 := hW.1
  have hm12 := hW.2.1
  have hen12 := hE.1
  have hv1 : (x 1).toInt = (nn : Int) := by rw [hx1]; exact hW.2.2.1
  have hv8 : (x 8).toInt = (en : Int) := by rw [hx8]; exact hen
  have hv9 : (x 9).toInt = (mk0 : Int) := by rw [hx9]; exact hmk
  have hN0 : 0 ∈ N := hNm 0 (by omega)
  refine lv_iload_n hx hb d_Sht_begin_0 rfl (lv_at hl 3 rfl) ?_
  refine lv_iconst (v := 0) hx hb d_Sht_begin_1 (by decide) ?_
  refine lv_sipush (v := 300) hx hb d_Sht_begin_2 (by decide) ?_
  refine r_wn_Sht hx hb hml hown hK hl.1 hS ⟨Nat.le_of_ble_eq_true rfl, Nat.le_of_ble_eq_true rfl⟩ ⟨Nat.le_of_ble_eq_true rfl, Nat.le_of_ble_eq_true rfl⟩ rfl kc_0 kc_300  d_Sht_begin_5 (Nat.le_of_ble_eq_true rfl) (fun locs hS => ?_)
  refine r_Sht_need hx hb hml hown hK hl.1 hS ⟨Nat.le_of_ble_eq_true rfl, Nat.le_of_ble_eq_true rfl⟩ ⟨Nat.le_of_ble_eq_true rfl, Nat.le_of_ble_eq_true rfl⟩ (decide_eq_true (by omega)) d_Sht_begin_8 (Nat.le_of_ble_eq_true rfl) (fun locs hS => ?_)
  refine lv_aload_n hx hb d_Sht_begin_11 rfl (lv_at hl 0 rfl) ?_
  refine lv_iload_n hx hb d_Sht_begin_12 rfl (lv_at hl 1 rfl) ?_
  refine w_pf hx hb hK i_Sht t_Sht t_Sht_ok n_Sht hown hi hP hS wA_mem (hNm 0 (by omega)) hSR.1 rfl 15 (by decide) t_100 rfl rfl rfl rfl rfl d_Sht_begin_13 (fun H locs hP hS => ?_)
  obtain ⟨cn_1, ecn_1⟩ : ∃ q : Nat → va_E, q = va_up cn 0 (.inr (1, [.ref (adr 8), .int (x 1), .ref (adr 1), .int (x 3), .ref (adr 2), .ref (adr 3), .ref (adr 4), .ref (adr 5), .int (x 8), .int (x 9), .ref (adr 11), .int (x 11), .ref (adr 6), .int (x 13), .int (x 14), .int xl, .int (bi dn), .ref (adr 7), .int (x 18)])) := ⟨_, rfl⟩
  have hP : va_P D classes (wl N adr cn_1) H := by rw [ecn_1]; exact hP
  have ho_1_2 : cn_1 0 = .inr (1, [.ref (adr 8), .int (x 1), .ref (adr 1), .int (x 3), .ref (adr 2), .ref (adr 3), .ref (adr 4), .ref (adr 5), .int (x 8), .int (x 9), .ref (adr 11), .int (x 11), .ref (adr 6), .int (x 13), .int (x 14), .int xl, .int (bi dn), .ref (adr 7), .int (x 18)]) := by rw [ecn_1]; exact va_up_self _ _ _
  have ho_1_3 : cn_1 1 = .inl (cA 3, 12, .inr (.inr (.inr (.inr (fun k => if k < mm then some (adr (56 + k)) else none))))) := by rw [ecn_1, va_up_ne _ _ (by omega)]; exact hSR.2.1
  have ho_1_4 : cn_1 3 = .inl (cA 0, 12, .inl (F 14)) := by rw [ecn_1, va_up_ne _ _ (by omega)]; exact hc3
  have ho_1_5 : cn_1 4 = .inl (cA 0, 12, .inl (F 15)) := by rw [ecn_1, va_up_ne _ _ (by omega)]; exact hc4
  have ho_1_6 : cn_1 5 = .inl (cA 0, 12, .inl (F 16)) := by rw [ecn_1, va_up_ne _ _ (by omega)]; exact hc5
  have ho_1_7 : cn_1 7 = .inl (cA 0, 10, .inl (F 33)) := by rw [ecn_1, va_up_ne _ _ (by omega)]; exact hc7
  have ho_1_8 : cn_1 6 = .inl (cA 5, 11, .inr (.inr (.inr (.inr (fun k => if k < 11 then some (adr (14 + 3 * k)) else none))))) := by rw [ecn_1, va_up_ne _ _ (by omega)]; exact hc6
  have ho_1_9 : cn_1 14 = .inr (2, [.ref (adr (14 + 1)), .ref (adr (14 + 2)), .int (bi ch)]) := by rw [ecn_1, va_up_ne _ _ (by omega)]; exact hB.1
  have ho_1_10 : cn_1 (14 + 1) = .inl (cA 0, 10, .inl f) := by rw [ecn_1, va_up_ne _ _ (by omega)]; exact hB.2.1
  have ho_1_11 : cn_1 (14 + 2) = .inl (cA 0, 10, .inl g) := by rw [ecn_1, va_up_ne _ _ (by omega)]; exact hB.2.2
  refine lv_aload_n hx hb d_Sht_begin_16 rfl (lv_at hl 0 rfl) ?_
  refine lv_iload_n hx hb d_Sht_begin_17 rfl (lv_at hl 2 rfl) ?_
  refine w_pf hx hb hK i_Sht t_Sht t_Sht_ok n_Sht hown hi hP hS wA_mem (hNm 0 (by omega)) ho_1_2 rfl 16 (by decide) t_101 rfl rfl (bi_nar _) (bi_fit _) rfl d_Sht_begin_18 (fun H locs hP hS => ?_)
  obtain ⟨cn_12, ecn_12⟩ : ∃ q : Nat → va_E, q = va_up cn_1 0 (.inr (1, [.ref (adr 8), .int (x 1), .ref (adr 1), .int (x 3), .ref (adr 2), .ref (adr 3), .ref (adr 4), .ref (adr 5), .int (x 8), .int (x 9), .ref (adr 11), .int (x 11), .ref (adr 6), .int (x 13), .int (x 14), .int xl, .int (bi dw), .ref (adr 7), .int (x 18)])) := ⟨_, rfl⟩
  have hP : va_P D classes (wl N adr cn_12) H := by rw [ecn_12]; exact hP
  have ho_12_13 : cn_12 0 = .inr (1, [.ref (adr 8), .int (x 1), .ref (adr 1), .int (x 3), .ref (adr 2), .ref (adr 3), .ref (adr 4), .ref (adr 5), .int (x 8), .int (x 9), .ref (adr 11), .int (x 11), .ref (adr 6), .int (x 13), .int (x 14), .int xl, .int (bi dw), .ref (adr 7), .int (x 18)]) := by rw [ecn_12]; exact va_up_self _ _ _
  have ho_12_14 : cn_12 1 = .inl (cA 3, 12, .inr (.inr (.inr (.inr (fun k => if k < mm then some (adr (56 + k)) else none))))) := by rw [ecn_12, va_up_ne _ _ (by omega)]; exact ho_1_3
  have ho_12_15 : cn_12 3 = .inl (cA 0, 12, .inl (F 14)) := by rw [ecn_12, va_up_ne _ _ (by omega)]; exact ho_1_4
  have ho_12_16 : cn_12 4 = .inl (cA 0, 12, .inl (F 15)) := by rw [ecn_12, va_up_ne _ _ (by omega)]; exact ho_1_5
  have ho_12_17 : cn_12 5 = .inl (cA 0, 12, .inl (F 16)) := by rw [ecn_12, va_up_ne _ _ (by omega)]; exact ho_1_6
  have ho_12_18 : cn_12 7 = .inl (cA 0, 10, .inl (F 33)) := by rw [ecn_12, va_up_ne _ _ (by omega)]; exact ho_1_7
  have ho_12_19 : cn_12 6 = .inl (cA 5, 11, .inr (.inr (.inr (.inr (fun k => if k < 11 then some (adr (14 + 3 * k)) else none))))) := by rw [ecn_12, va_up_ne _ _ (by omega)]; exact ho_1_8
  have ho_12_20 : cn_12 14 = .inr (2, [.ref (adr (14 + 1)), .ref (adr (14 + 2)), .int (bi ch)]) := by rw [ecn_12, va_up_ne _ _ (by omega)]; exact ho_1_9
  have ho_12_21 : cn_12 (14 + 1) = .inl (cA 0, 10, .inl f) := by rw [ecn_12, va_up_ne _ _ (by omega)]; exact ho_1_10
  have ho_12_22 : cn_12 (14 + 2) = .inl (cA 0, 10, .inl g) := by rw [ecn_12, va_up_ne _ _ (by omega)]; exact ho_1_11
  refine lv_aload_n hx hb d_Sht_begin_21 rfl (lv_at hl 0 rfl) ?_
  refine lv_iload_n hx hb d_Sht_begin_22 rfl (lv_at hl 3 rfl) ?_
  refine w_pf hx hb hK i_Sht t_Sht t_Sht_ok n_Sht hown hi hP hS wA_mem (hNm 0 (by omega)) ho_12_13 rfl 13 (by decide) t_98 rfl rfl rfl rfl rfl d_Sht_begin_23 (fun H locs hP hS => ?_)
  obtain ⟨cn_23, ecn_23⟩ : ∃ q : Nat → va_E, q = va_up cn_12 0 (.inr (1, [.ref (adr 8), .int (x 1), .ref (adr 1), .int (x 3), .ref (adr 2), .ref (adr 3), .ref (adr 4), .ref (adr 5), .int (x 8), .int (x 9), .ref (adr 11), .int (x 11), .ref (adr 6), .int xm, .int (x 14), .int xl, .int (bi dw), .ref (adr 7), .int (x 18)])) := ⟨_, rfl⟩
  have hP : va_P D classes (wl N adr cn_23) H := by rw [ecn_23]; exact hP
  have ho_23_24 : cn_23 0 = .inr (1, [.ref (adr 8), .int (x 1), .ref (adr 1), .int (x 3), .ref (adr 2), .ref (adr 3), .ref (adr 4), .ref (adr 5), .int (x 8), .int (x 9), .ref (adr 11), .int (x 11), .ref (adr 6), .int xm, .int (x 14), .int xl, .int (bi dw), .ref (adr 7), .int (x 18)]) := by rw [ecn_23]; exact va_up_self _ _ _
  have ho_23_25 : cn_23 1 = .inl (cA 3, 12, .inr (.inr (.inr (.inr (fun k => if k < mm then some (adr (56 + k)) else none))))) := by rw [ecn_23, va_up_ne _ _ (by omega)]; exact ho_12_14
  have ho_23_26 : cn_23 3 = .inl (cA 0, 12, .inl (F 14)) := by rw [ecn_23, va_up_ne _ _ (by omega)]; exact ho_12_15
  have ho_23_27 : cn_23 4 = .inl (cA 0, 12, .inl (F 15)) := by rw [ecn_23, va_up_ne _ _ (by omega)]; exact ho_12_16
  have ho_23_28 : cn_23 5 = .inl (cA 0, 12, .inl (F 16)) := by rw [ecn_23, va_up_ne _ _ (by omega)]; exact ho_12_17
  have ho_23_29 : cn_23 7 = .inl (cA 0, 10, .inl (F 33)) := by rw [ecn_23, va_up_ne _ _ (by omega)]; exact ho_12_18
  have ho_23_30 : cn_23 6 = .inl (cA 5, 11, .inr (.inr (.inr (.inr (fun k => if k < 11 then some (adr (14 + 3 * k)) else none))))) := by rw [ecn_23, va_up_ne _ _ (by omega)]; exact ho_12_19
  have ho_23_31 : cn_23 14 = .inr (2, [.ref (adr (14 + 1)), .ref (adr (14 + 2)), .int (bi ch)]) := by rw [ecn_23, va_up_ne _ _ (by omega)]; exact ho_12_20
  have ho_23_32 : cn_23 (14 + 1) = .inl (cA 0, 10, .inl f) := by rw [ecn_23, va_up_ne _ _ (by omega)]; exact ho_12_21
  have ho_23_33 : cn_23 (14 + 2) = .inl (cA 0, 10, .inl g) := by rw [ecn_23, va_up_ne _ _ (by omega)]; exact ho_12_22
  refine lv_aload_n hx hb d_Sht_begin_26 rfl (lv_at hl 0 rfl) ?_
  refine lv_iconst (v := 0) hx hb d_Sht_begin_27 (by decide) ?_
  refine w_pf hx hb hK i_Sht t_Sht t_Sht_ok n_Sht hown hi hP hS wA_mem (hNm 0 (by omega)) ho_23_24 rfl 14 (by decide) t_99 rfl rfl rfl rfl rfl d_Sht_begin_28 (fun H locs hP hS => ?_)
  obtain ⟨cn_34, ecn_34⟩ : ∃ q : Nat → va_E, q = va_up cn_23 0 (.inr (1, [.ref (adr 8), .int (x 1), .ref (adr 1), .int (x 3), .ref (adr 2), .ref (adr 3), .ref (adr 4), .ref (adr 5), .int (x 8), .int (x 9), .ref (adr 11), .int (x 11), .ref (adr 6), .int xm, .int (0 : Int32), .int xl, .int (bi dw), .ref (adr 7), .int (x 18)])) := ⟨_, rfl⟩
  have hP : va_P D classes (wl N adr cn_34) H := by rw [ecn_34]; exact hP
  have ho_34_35 : cn_34 0 = .inr (1, [.ref (adr 8), .int (x 1), .ref (adr 1), .int (x 3), .ref (adr 2), .ref (adr 3), .ref (adr 4), .ref (adr 5), .int (x 8), .int (x 9), .ref (adr 11), .int (x 11), .ref (adr 6), .int xm, .int (0 : Int32), .int xl, .int (bi dw), .ref (adr 7), .int (x 18)]) := by rw [ecn_34]; exact va_up_self _ _ _
  have ho_34_36 : cn_34 1 = .inl (cA 3, 12, .inr (.inr (.inr (.inr (fun k => if k < mm then some (adr (56 + k)) else none))))) := by rw [ecn_34, va_up_ne _ _ (by omega)]; exact ho_23_25
  have ho_34_37 : cn_34 3 = .inl (cA 0, 12, .inl (F 14)) := by rw [ecn_34, va_up_ne _ _ (by omega)]; exact ho_23_26
  have ho_34_38 : cn_34 4 = .inl (cA 0, 12, .inl (F 15)) := by rw [ecn_34, va_up_ne _ _ (by omega)]; exact ho_23_27
  have ho_34_39 : cn_34 5 = .inl (cA 0, 12, .inl (F 16)) := by rw [ecn_34, va_up_ne _ _ (by omega)]; exact ho_23_28
  have ho_34_40 : cn_34 7 = .inl (cA 0, 10, .inl (F 33)) := by rw [ecn_34, va_up_ne _ _ (by omega)]; exact ho_23_29
  have ho_34_41 : cn_34 6 = .inl (cA 5, 11, .inr (.inr (.inr (.inr (fun k => if k < 11 then some (adr (14 + 3 * k)) else none))))) := by rw [ecn_34, va_up_ne _ _ (by omega)]; exact ho_23_30
  have ho_34_42 : cn_34 14 = .inr (2, [.ref (adr (14 + 1)), .ref (adr (14 + 2)), .int (bi ch)]) := by rw [ecn_34, va_up_ne _ _ (by omega)]; exact ho_23_31
  have ho_34_43 : cn_34 (14 + 1) = .inl (cA 0, 10, .inl f) := by rw [ecn_34, va_up_ne _ _ (by omega)]; exact ho_23_32
  have ho_34_44 : cn_34 (14 + 2) = .inl (cA 0, 10, .inl g) := by rw [ecn_34, va_up_ne _ _ (by omega)]; exact ho_23_33
  have hkk9 := (show ∀ k, k ≠ 0 → cn_34 k = cn k from (fun k a0 => ((congrFun ecn_34 k).trans ((va_up_ne _ _ a0).trans ((congrFun ecn_23 k).trans ((va_up_ne _ _ a0).trans ((congrFun ecn_12 k).trans ((va_up_ne _ _ a0).trans ((congrFun ecn_1 k).trans ((va_up_ne _ _ a0).trans rfl))))))))))
  have hC2 : CP cA adr cn_34 (va_up I 31 (Int32.ofInt ((0 : Nat) : Int))) F mm (va_up (va_up (va_up x 15 xl) 13 xm) 14 0) dw := CP.set (y := (va_up (va_up (va_up x 15 xl) 13 xm) 14 0)) (G := F) hCP0 ho_34_35 ⟨hx1, hx3, hx8, hx9, hx11, rfl, hx18⟩ ((hkk9 3 (by omega)).trans hc3) ((hkk9 4 (by omega)).trans hc4) ((hkk9 5 (by omega)).trans hc5) ((hkk9 7 (by omega)).trans hc7) rfl rfl (fun k a _ _ _ _ => hkk9 k a) (fun _ _ _ _ _ => rfl)
  have hWF2 := hWF0.steps (v := Int32.ofInt ((0 : Nat) : Int)) ⟨by decide, by decide⟩
  refine lv_aload_n hx hb d_Sht_begin_31 rfl (lv_at hl 0 rfl) ?_
  refine lv_aload_n hx hb d_Sht_begin_32 rfl (lv_at hl 0 rfl) ?_
  refine w_gf hx hb hK i_Sht hown hP (hNm 0 (by omega)) ho_34_35 rfl 9 (by decide) t_94 rfl rfl d_Sht_begin_33 ?_
  refine x_V (As := [.int (x 9)]) (rest := []) hx hb hml hown hK (k_Sht_narrowWith l D cA adr N hi cn_34 F (va_up I 31 (Int32.ofInt ((0 : Nat) : Int))) nn mm en mk0 (va_up (va_up (va_up x 15 xl) 13 xm) 14 0) dw hC2 hNm hWF2 mk0 (x 9) hv9) t_165 t_1 t_162 t_164 ts_0 yk_Sht_narrowWith ⟨Nat.le_of_ble_eq_true rfl, Nat.le_of_ble_eq_true rfl⟩ (w_rec hK hP (hNm 0 (by omega)) ho_34_35 rfl) hP rfl hl.1 rfl (Nat.le_of_ble_eq_true rfl) d_Sht_begin_36 ⟨Nat.le_of_ble_eq_true rfl, Nat.le_of_ble_eq_true rfl⟩ hS (fun q h => h) (fun r H locs hq _ hS => ?_)
  obtain ⟨cn_45, f_45, g_45, q_45, c_45, rfl, hFs_45, hRl_45, hB_45, hT_45, hF_45, hP⟩ := hq
  have hCP_45 := CP.fr (d := 0) hC2 (by omega) hFs_45 hRl_45 hB_45
  have hx_45_46 : cn_45 0 = .inr (1, [.ref (adr 8), .int (x 1), .ref (adr 1), .int (x 3), .ref (adr 2), .ref (adr 3), .ref (adr 4), .ref (adr 5), .int (x 8), .int (x 9), .ref (adr 11), .int (x 11), .ref (adr 6), .int xm, .int (0 : Int32), .int xl, .int (bi dw), .ref (adr 7), .int (x 18)]) := (hFs_45 0 (by omega) (by omega) (by omega) (by omega)).trans ho_34_35
  have hx_45_47 : cn_45 1 = .inl (cA 3, 12, .inr (.inr (.inr (.inr (fun k => if k < mm then some (adr (56 + k)) else none))))) := (hFs_45 1 (by omega) (by omega) (by omega) (by omega)).trans ho_34_36
  have hx_45_48 : cn_45 3 = .inl (cA 0, 12, .inl (F 14)) := (hFs_45 3 (by omega) (by omega) (by omega) (by omega)).trans ho_34_37
  have hx_45_49 : cn_45 4 = .inl (cA 0, 12, .inl (F 15)) := (hFs_45 4 (by omega) (by omega) (by omega) (by omega)).trans ho_34_38
  have hx_45_50 : cn_45 5 = .inl (cA 0, 12, .inl (F 16)) := (hFs_45 5 (by omega) (by omega) (by omega) (by omega)).trans ho_34_39
  have hx_45_51 : cn_45 7 = .inl (cA 0, 10, .inl (F 33)) := (hFs_45 7 (by omega) (by omega) (by omega) (by omega)).trans ho_34_40
  have hx_45_52 : cn_45 6 = .inl (cA 5, 11, .inr (.inr (.inr (.inr (fun k => if k < 11 then some (adr (14 + 3 * k)) else none))))) := (hFs_45 6 (by omega) (by omega) (by omega) (by omega)).trans ho_34_41
  refine W.eq (g2 := F0 m 39 ls [.int (bi q_45)]) rfl ?_
  refine b_bool_eq (tgt := 50) hx hb d_Sht_begin_39 (by decide) (fun c_53 => ?_) (fun c_53 => ?_)
  · refine lv_iconst (v := 0) hx hb d_Sht_begin_50 (by decide) ?_
    refine e_i hx hb hr hlk hQ hS d_Sht_begin_51 ?_
    have hfn : (fnd F nn mm en mk0 xm.toInt.toNat ld dw) = (0, 0, bx0) := by unfold fnd; rw [hF_45 c_53]
    rw [hfn]; refine ⟨_, rfl, kc_0, Nat.zero_le _, CQ.of (x := (va_up (va_up (va_up x 15 xl) 13 xm) 14 0)) (dn := dw) ?_ hP⟩
    rw [J_fnd_ne (show ¬ (0 : Int) = 1 by decide), G_fnd_ne (show ¬ (0 : Int) = 1 by decide)]; exact hCP_45
  · refine lv_aload_n hx hb d_Sht_begin_42 rfl (lv_at hl 0 rfl) ?_
    refine lv_iconst (v := 0) hx hb d_Sht_begin_43 (by decide) ?_
    obtain ⟨y, hw0, hEy⟩ := hT_45 c_53
    refine x_V (As := [.int (0 : Int32)]) (rest := []) hx hb hml hown hK (k_Sht_search l D cA adr N hi F I nn mm dw hNm hW xm.toInt.toNat (by omega) ld 11 cn_45 (va_up (va_up (va_up x 15 xl) 13 xm) 14 0) 0 (0 : Int32) y 0 hCP_45 (by show xm.toInt = _; omega) hld f_45 g_45 c_45 hB_45 hEy (nw_rg hE hw0) (Nat.zero_le _) rfl (Nat.zero_le _) kc_0) t_703 t_1 t_700 t_702 ts_13 yk_Sht_search ⟨Nat.le_of_ble_eq_true rfl, Nat.le_of_ble_eq_true rfl⟩ (w_rec hK hP (hNm 0 (by omega)) hx_45_46 rfl) hP rfl hl.1 rfl (Nat.le_of_ble_eq_true rfl) d_Sht_begin_44 ⟨Nat.le_of_ble_eq_true rfl, Nat.le_of_ble_eq_true rfl⟩ hS (fun q h => h) (fun r H locs hq _ hS => ?_)
    obtain ⟨z_54, cn_54, x_54, rfl, hz_54, hCP_54, hle_54, h13_54, h15_54, hkp_54, hP⟩ := hq
    refine W.eq (g2 := F0 m 47 ls [.int z_54]) rfl ?_
    refine lv_goto (tgt := 51) hx hb d_Sht_begin_47 (by decide) ?_
    refine e_i hx hb hr hlk hQ hS d_Sht_begin_51 ?_
    have hfn : (fnd F nn mm en mk0 xm.toInt.toNat ld dw) = srch (stl nn (FA F mm)) nn xm.toInt.toNat ld dw 11 y 0 := by unfold fnd; rw [hw0]
    rw [hfn]; exact ⟨_, rfl, hz_54, hle_54, CQ.of hCP_54 hP⟩
theorem d_Sht_solve_0 : decode b_Sht_solve 0 = .ok (.aload_n 0, 1) := by decide +kernel
theorem d_Sht_solve_1 : decode b_Sht_solve 1 = .ok (.sipush (-1000), 3) := by decide +kernel
theorem d_Sht_solve_4 : decode b_Sht_solve 4 = .ok (.iconst 0, 1) := by decide +kernel
theorem d_Sht_solve_5 : decode b_Sht_solve 5 = .ok (.iload_n 1, 1) := by decide +kernel
theorem d_Sht_solve_6 : decode b_Sht_solve 6 = .ok (.invokevirtual 212, 3) := by decide +kernel
set_option maxHeartbeats 4000000 in
set_option maxRecDepth 20000 in
theorem k_Sht_solve_T (l : Launch) (htr : l.stackTraces = false) (D : va_G) (cA : Nat → ClassId) (adr : Nat → Nat) (N : List Nat) (cn : Nat → va_E) (x : Nat → Int32) (dn : Bool) (h00 : cn 0 = .inr (1, SF adr x dn)) (hN0 : 0 ∈ N) (nn : Nat) (hv1 : (x 1).toInt = (nn : Int)) (hn10 : nn ≤ 10) (xm : Int32) (h0 : ¬ (0 ≤ xm.toInt ∧ xm.toInt ≤ 300)) : CtT l y_Sht_solve b_Sht_solve 2 (some .int) 11 D cA [.ref (adr 0), .int xm] (fun H => va_P D classes (wl N adr cn) H) "java/lang/IllegalArgumentException" := by
  refine CtT.mk (by decide) (Nat.le_of_ble_eq_true rfl) ?_
  intro p e s m args below meth c Q H locs ls hx hb hr hml hlk hown hin hK hTh hex hQ hS hP hl
  have hl : lv_has ls 2 [(0, .ref (adr 0)), (1, .int xm)] := hl
  have hown : s.vm.findClass "RangeSheet" = some m.cls := hown
  refine lv_aload_n hx hb d_Sht_solve_0 rfl (lv_at hl 0 rfl) ?_
  refine lv_sipush (v := (-1000)) hx hb d_Sht_solve_1 (by decide) ?_
  refine lv_iconst (v := 0) hx hb d_Sht_solve_4 (by decide) ?_
  refine lv_iload_n hx hb d_Sht_solve_5 rfl (lv_at hl 1 rfl) ?_
  refine W.eq (g2 := F0 m 6 ls [.int xm, .int (bi false), .int (-1000 : Int32), .ref (adr 0)]) rfl ?_
  exact t_V (As := [.int (-1000 : Int32), .int (bi false), .int xm]) (rest := []) hx hb hml hown hK hTh (k_Sht_begin_T l htr D cA adr N cn x dn h00 hN0 nn hv1 hn10 (-1000 : Int32) false xm (by omega)) t_699 t_1 t_696 t_698 ts_12 yk_Sht_begin ⟨Nat.le_of_ble_eq_true rfl, Nat.le_of_ble_eq_true rfl⟩ ⟨Nat.le_of_ble_eq_true rfl, Nat.le_of_ble_eq_true rfl⟩ (w_rec hK hP hN0 h00 rfl) hP rfl hl.1 rfl (Nat.le_of_ble_eq_true rfl) d_Sht_solve_6 hS hex hlk hQ
theorem d_Sht_solve_9 : decode b_Sht_solve 9 = .ok (.ireturn, 1) := by decide +kernel
set_option maxHeartbeats 4000000 in
set_option maxRecDepth 20000 in
theorem k_Sht_solve (l : Launch) (D : va_G) (cA : Nat → ClassId) (adr : Nat → Nat) (N : List Nat) (hi : wI N adr) (cn : Nat → va_E) (F : Nat → Nat → Int32) (I : Nat → Int32) (nn mm en mk0 : Nat) (x : Nat → Int32) (dn : Bool) (hCP : CP cA adr cn I F mm x dn) (hNm : ∀ k, k < 56 + mm → k ∈ N) (hWF : WF I F nn mm en mk0) (xm : Int32) (h0 : (0 ≤ xm.toInt ∧ xm.toInt ≤ 300)) : Ct l y_Sht_solve b_Sht_solve 2 (some .int) 28 D cA [.ref (adr 0), .int xm] (fun H => va_P D classes (wl N adr cn) H) (fun r H => ∃ z : Int32, r = some (.int z) ∧ z.toInt = (fnd F nn mm en mk0 xm.toInt.toNat (-1) false).1 ∧ CQ D cA adr N (J_fnd I (fnd F nn mm en mk0 xm.toInt.toNat (-1) false)) (G_fnd F nn (fnd F nn mm en mk0 xm.toInt.toNat (-1) false)) mm H) (wA N adr) := by
  refine Ct.mk (by decide) (Nat.le_of_ble_eq_true rfl) ?_
  intro p e s m args below meth c Q H locs ls hx hb hr hml hlk hown hin hK hQ hS hP hl
  have hl : lv_has ls 2 [(0, .ref (adr 0)), (1, .int xm)] := hl
  have hown : s.vm.findClass "RangeSheet" = some m.cls := hown
  have hWF0 := hWF
  have hCP0 := hCP
  obtain ⟨hW, hE, hen, ⟨hmk, hmke⟩, htd, hsp, hsd, hset, hgd⟩ := hWF
  obtain ⟨hSR, ⟨hx1, hx3, hx8, hx9, hx11, hx14, hx18⟩, ⟨hc2, hc3, hc4, hc5, hc6, hc7⟩, ⟨cf, hBf⟩, ⟨fn0, gn0, cn0, hBn, hBne⟩, hBx⟩ := hCP
  obtain ⟨f, g, ch, hB⟩ := hBx 0 (by omega)
  have hB : BP cA adr cn 14 f g ch := hB
  have hn10 := hW.1
  have hm12 := hW.2.1
  have hen12 := hE.1
  have hv1 : (x 1).toInt = (nn : Int) := by rw [hx1]; exact hW.2.2.1
  have hv8 : (x 8).toInt = (en : Int) := by rw [hx8]; exact hen
  have hv9 : (x 9).toInt = (mk0 : Int) := by rw [hx9]; exact hmk
  have hN0 : 0 ∈ N := hNm 0 (by omega)
  refine lv_aload_n hx hb d_Sht_solve_0 rfl (lv_at hl 0 rfl) ?_
  refine lv_sipush (v := (-1000)) hx hb d_Sht_solve_1 (by decide) ?_
  refine lv_iconst (v := 0) hx hb d_Sht_solve_4 (by decide) ?_
  refine lv_iload_n hx hb d_Sht_solve_5 rfl (lv_at hl 1 rfl) ?_
  refine W.eq (g2 := F0 m 6 ls [.int xm, .int (bi false), .int (-1000 : Int32), .ref (adr 0)]) rfl ?_
  refine x_V (As := [.int (-1000 : Int32), .int (bi false), .int xm]) (rest := []) hx hb hml hown hK (k_Sht_begin l D cA adr N hi cn F I nn mm en mk0 x dn hCP0 hNm hWF0 (-1000 : Int32) (-1) (Or.inl ⟨kc_m1000, rfl⟩) false xm (by omega)) t_699 t_1 t_696 t_698 ts_12 yk_Sht_begin ⟨Nat.le_of_ble_eq_true rfl, Nat.le_of_ble_eq_true rfl⟩ (w_rec hK hP (hNm 0 (by omega)) hSR.1 rfl) hP rfl hl.1 rfl (Nat.le_of_ble_eq_true rfl) d_Sht_solve_6 ⟨Nat.le_of_ble_eq_true rfl, Nat.le_of_ble_eq_true rfl⟩ hS (fun q h => h) (fun r H locs hq _ hS => ?_)
  obtain ⟨z_1, rfl, hz_1, hle_1, cn_1, x_1, dn_1, hCP_1, hP⟩ := hq
  refine W.eq (g2 := F0 m 9 ls [.int z_1]) rfl ?_
  refine e_i hx hb hr hlk hQ hS d_Sht_solve_9 ?_
  exact ⟨_, rfl, hz_1, CQ.of hCP_1 hP⟩
theorem d_Sht_extreme_0 : decode b_Sht_extreme 0 = .ok (.aload_n 0, 1) := by decide +kernel
theorem d_Sht_extreme_1 : decode b_Sht_extreme 1 = .ok (.iload_n 1, 1) := by decide +kernel
theorem d_Sht_extreme_2 : decode b_Sht_extreme 2 = .ok (.invokevirtual 86, 3) := by decide +kernel
theorem d_Sht_extreme_5 : decode b_Sht_extreme 5 = .ok (.invokestatic 73, 3) := by decide +kernel
set_option maxHeartbeats 4000000 in
set_option maxRecDepth 20000 in
theorem k_Sht_extreme_T1 (l : Launch) (htr : l.stackTraces = false) (D : va_G) (cA : Nat → ClassId) (adr : Nat → Nat) (N : List Nat) (cn : Nat → va_E) (x : Nat → Int32) (dn : Bool) (h00 : cn 0 = .inr (1, SF adr x dn)) (hN0 : 0 ∈ N) (nn : Nat) (hv1 : (x 1).toInt = (nn : Int)) (hn10 : nn ≤ 10) (xk : Int32) (dw : Bool) (xm : Int32) (h0 : ¬ (0 ≤ xk.toInt ∧ xk.toInt < (nn : Int))) : CtT l y_Sht_extreme b_Sht_extreme 4 (some .int) 11 D cA [.ref (adr 0), .int xk, .int (bi dw), .int xm] (fun H => va_P D classes (wl N adr cn) H) "java/lang/IllegalArgumentException" := by
  refine CtT.mk (by decide) (Nat.le_of_ble_eq_true rfl) ?_
  intro p e s m args below meth c Q H locs ls hx hb hr hml hlk hown hin hK hTh hex hQ hS hP hl
  have hl : lv_has ls 4 [(0, .ref (adr 0)), (1, .int xk), (2, .int (bi dw)), (3, .int xm)] := hl
  have hown : s.vm.findClass "RangeSheet" = some m.cls := hown
  refine lv_aload_n hx hb d_Sht_extreme_0 rfl (lv_at hl 0 rfl) ?_
  refine lv_iload_n hx hb d_Sht_extreme_1 rfl (lv_at hl 1 rfl) ?_
  refine x_V (As := [.int xk]) (rest := []) hx hb hml hown hK (k_Sht_isCell l D cA adr N cn x dn h00 hN0 nn hv1 hn10 xk) t_494 t_1 t_491 t_493 ts_9 yk_Sht_isCell ⟨Nat.le_of_ble_eq_true rfl, Nat.le_of_ble_eq_true rfl⟩ (w_rec hK hP hN0 h00 rfl) hP rfl hl.1 rfl (Nat.le_of_ble_eq_true rfl) d_Sht_extreme_2 ⟨Nat.le_of_ble_eq_true rfl, Nat.le_of_ble_eq_true rfl⟩ hS (fun q h => h.elim) (fun r H locs hq _ hS => ?_)
  obtain ⟨rfl, hP⟩ := hq
  refine W.eq (g2 := F0 m 5 ls [.int (bi (decide (0 ≤ xk.toInt ∧ xk.toInt ≤ (nn : Int) - 1)))]) rfl ?_
  exact t_S (As := [.int (bi (decide (0 ≤ xk.toInt ∧ xk.toInt ≤ (nn : Int) - 1)))]) (rest := []) hx hb hml hown hK hTh (k_Sht_need_T l htr D cA (decide (0 ≤ xk.toInt ∧ xk.toInt ≤ (nn : Int) - 1)) (decide_eq_false (by omega))) t_399 t_1 t_397 t_398 yk_Sht_need ⟨Nat.le_of_ble_eq_true rfl, Nat.le_of_ble_eq_true rfl⟩ ⟨Nat.le_of_ble_eq_true rfl, Nat.le_of_ble_eq_true rfl⟩ trivial rfl hl.1 rfl (Nat.le_of_ble_eq_true rfl) d_Sht_extreme_5 hS hex hlk hQ
theorem d_Sht_extreme_8 : decode b_Sht_extreme 8 = .ok (.aload_n 0, 1) := by decide +kernel
theorem d_Sht_extreme_9 : decode b_Sht_extreme 9 = .ok (.iload_n 1, 1) := by decide +kernel
theorem d_Sht_extreme_10 : decode b_Sht_extreme 10 = .ok (.iload_n 2, 1) := by decide +kernel
theorem d_Sht_extreme_11 : decode b_Sht_extreme 11 = .ok (.iload_n 3, 1) := by decide +kernel
theorem d_Sht_extreme_12 : decode b_Sht_extreme 12 = .ok (.invokevirtual 212, 3) := by decide +kernel
set_option maxHeartbeats 4000000 in
set_option maxRecDepth 20000 in
theorem k_Sht_extreme_T2 (l : Launch) (htr : l.stackTraces = false) (D : va_G) (cA : Nat → ClassId) (adr : Nat → Nat) (N : List Nat) (cn : Nat → va_E) (x : Nat → Int32) (dn : Bool) (h00 : cn 0 = .inr (1, SF adr x dn)) (hN0 : 0 ∈ N) (nn : Nat) (hv1 : (x 1).toInt = (nn : Int)) (hn10 : nn ≤ 10) (xk : Int32) (dw : Bool) (xm : Int32) (h0 : (0 ≤ xk.toInt ∧ xk.toInt < (nn : Int))) (h1 : ¬ (0 ≤ xm.toInt ∧ xm.toInt ≤ 300)) : CtT l y_Sht_extreme b_Sht_extreme 4 (some .int) 11 D cA [.ref (adr 0), .int xk, .int (bi dw), .int xm] (fun H => va_P D classes (wl N adr cn) H) "java/lang/IllegalArgumentException" := by
  refine CtT.mk (by decide) (Nat.le_of_ble_eq_true rfl) ?_
  intro p e s m args below meth c Q H locs ls hx hb hr hml hlk hown hin hK hTh hex hQ hS hP hl
  have hl : lv_has ls 4 [(0, .ref (adr 0)), (1, .int xk), (2, .int (bi dw)), (3, .int xm)] := hl
  have hown : s.vm.findClass "RangeSheet" = some m.cls := hown
  refine lv_aload_n hx hb d_Sht_extreme_0 rfl (lv_at hl 0 rfl) ?_
  refine lv_iload_n hx hb d_Sht_extreme_1 rfl (lv_at hl 1 rfl) ?_
  refine x_V (As := [.int xk]) (rest := []) hx hb hml hown hK (k_Sht_isCell l D cA adr N cn x dn h00 hN0 nn hv1 hn10 xk) t_494 t_1 t_491 t_493 ts_9 yk_Sht_isCell ⟨Nat.le_of_ble_eq_true rfl, Nat.le_of_ble_eq_true rfl⟩ (w_rec hK hP hN0 h00 rfl) hP rfl hl.1 rfl (Nat.le_of_ble_eq_true rfl) d_Sht_extreme_2 ⟨Nat.le_of_ble_eq_true rfl, Nat.le_of_ble_eq_true rfl⟩ hS (fun q h => h.elim) (fun r H locs hq _ hS => ?_)
  obtain ⟨rfl, hP⟩ := hq
  refine W.eq (g2 := F0 m 5 ls [.int (bi (decide (0 ≤ xk.toInt ∧ xk.toInt ≤ (nn : Int) - 1)))]) rfl ?_
  refine r_Sht_need hx hb hml hown hK hl.1 hS ⟨Nat.le_of_ble_eq_true rfl, Nat.le_of_ble_eq_true rfl⟩ ⟨Nat.le_of_ble_eq_true rfl, Nat.le_of_ble_eq_true rfl⟩ (decide_eq_true (by omega)) d_Sht_extreme_5 (Nat.le_of_ble_eq_true rfl) (fun locs hS => ?_)
  refine lv_aload_n hx hb d_Sht_extreme_8 rfl (lv_at hl 0 rfl) ?_
  refine lv_iload_n hx hb d_Sht_extreme_9 rfl (lv_at hl 1 rfl) ?_
  refine lv_iload_n hx hb d_Sht_extreme_10 rfl (lv_at hl 2 rfl) ?_
  refine lv_iload_n hx hb d_Sht_extreme_11 rfl (lv_at hl 3 rfl) ?_
  exact t_V (As := [.int xk, .int (bi dw), .int xm]) (rest := []) hx hb hml hown hK hTh (k_Sht_begin_T l htr D cA adr N cn x dn h00 hN0 nn hv1 hn10 xk dw xm (by omega)) t_699 t_1 t_696 t_698 ts_12 yk_Sht_begin ⟨Nat.le_of_ble_eq_true rfl, Nat.le_of_ble_eq_true rfl⟩ ⟨Nat.le_of_ble_eq_true rfl, Nat.le_of_ble_eq_true rfl⟩ (w_rec hK hP hN0 h00 rfl) hP rfl hl.1 rfl (Nat.le_of_ble_eq_true rfl) d_Sht_extreme_12 hS hex hlk hQ
theorem k_Sht_extreme_T (l : Launch) (htr : l.stackTraces = false) (D : va_G) (cA : Nat → ClassId) (adr : Nat → Nat) (N : List Nat) (cn : Nat → va_E) (x : Nat → Int32) (dn : Bool) (h00 : cn 0 = .inr (1, SF adr x dn)) (hN0 : 0 ∈ N) (nn : Nat) (hv1 : (x 1).toInt = (nn : Int)) (hn10 : nn ≤ 10) (xk : Int32) (dw : Bool) (xm : Int32) (h0 : ¬ ((0 ≤ xk.toInt ∧ xk.toInt < (nn : Int)) ∧ (0 ≤ xm.toInt ∧ xm.toInt ≤ 300))) : CtT l y_Sht_extreme b_Sht_extreme 4 (some .int) 11 D cA [.ref (adr 0), .int xk, .int (bi dw), .int xm] (fun H => va_P D classes (wl N adr cn) H) "java/lang/IllegalArgumentException" := by
  by_cases h : (0 ≤ xk.toInt ∧ xk.toInt < (nn : Int))
  · exact k_Sht_extreme_T2 l htr D cA adr N cn x dn h00 hN0 nn hv1 hn10 xk dw xm h (fun g => h0 ⟨h, g⟩)
  · exact k_Sht_extreme_T1 l htr D cA adr N cn x dn h00 hN0 nn hv1 hn10 xk dw xm h
theorem d_Sht_extreme_15 : decode b_Sht_extreme 15 = .ok (.iconst 1, 1) := by decide +kernel
theorem d_Sht_extreme_16 : decode b_Sht_extreme 16 = .ok (.if_icmp .ne 12, 3) := by decide +kernel
theorem d_Sht_extreme_19 : decode b_Sht_extreme 19 = .ok (.aload_n 0, 1) := by decide +kernel
theorem d_Sht_extreme_20 : decode b_Sht_extreme 20 = .ok (.getfield 52, 3) := by decide +kernel
theorem d_Sht_extreme_23 : decode b_Sht_extreme 23 = .ok (.iload_n 1, 1) := by decide +kernel
theorem d_Sht_extreme_24 : decode b_Sht_extreme 24 = .ok (.iaload, 1) := by decide +kernel
theorem d_Sht_extreme_25 : decode b_Sht_extreme 25 = .ok (.goto 6, 3) := by decide +kernel
theorem d_Sht_extreme_28 : decode b_Sht_extreme 28 = .ok (.sipush (-1000), 3) := by decide +kernel
theorem d_Sht_extreme_31 : decode b_Sht_extreme 31 = .ok (.ireturn, 1) := by decide +kernel
set_option maxHeartbeats 4000000 in
set_option maxRecDepth 20000 in
theorem k_Sht_extreme (l : Launch) (D : va_G) (cA : Nat → ClassId) (adr : Nat → Nat) (N : List Nat) (hi : wI N adr) (cn : Nat → va_E) (F : Nat → Nat → Int32) (I : Nat → Int32) (nn mm en mk0 : Nat) (x : Nat → Int32) (dn : Bool) (hCP : CP cA adr cn I F mm x dn) (hNm : ∀ k, k < 56 + mm → k ∈ N) (hWF : WF I F nn mm en mk0) (xk : Int32) (dw : Bool) (xm : Int32) (h0 : (0 ≤ xk.toInt ∧ xk.toInt < (nn : Int))) (h1 : (0 ≤ xm.toInt ∧ xm.toInt ≤ 300)) : Ct l y_Sht_extreme b_Sht_extreme 4 (some .int) 28 D cA [.ref (adr 0), .int xk, .int (bi dw), .int xm] (fun H => va_P D classes (wl N adr cn) H) (fun r H => ∃ z : Int32, r = some (.int z) ∧ z.toInt = (if (fnd F nn mm en mk0 xm.toInt.toNat xk.toInt dw).1 = 1 then (G_fnd F nn (fnd F nn mm en mk0 xm.toInt.toNat xk.toInt dw) 33 xk.toInt.toNat).toInt else -1000) ∧ CQ D cA adr N (J_fnd I (fnd F nn mm en mk0 xm.toInt.toNat xk.toInt dw)) (G_fnd F nn (fnd F nn mm en mk0 xm.toInt.toNat xk.toInt dw)) mm H) (wA N adr) := by
  refine Ct.mk (by decide) (Nat.le_of_ble_eq_true rfl) ?_
  intro p e s m args below meth c Q H locs ls hx hb hr hml hlk hown hin hK hQ hS hP hl
  have hl : lv_has ls 4 [(0, .ref (adr 0)), (1, .int xk), (2, .int (bi dw)), (3, .int xm)] := hl
  have hown : s.vm.findClass "RangeSheet" = some m.cls := hown
  have hWF0 := hWF
  have hCP0 := hCP
  obtain ⟨hW, hE, hen, ⟨hmk, hmke⟩, htd, hsp, hsd, hset, hgd⟩ := hWF
  obtain ⟨hSR, ⟨hx1, hx3, hx8, hx9, hx11, hx14, hx18⟩, ⟨hc2, hc3, hc4, hc5, hc6, hc7⟩, ⟨cf, hBf⟩, ⟨fn0, gn0, cn0, hBn, hBne⟩, hBx⟩ := hCP
  obtain ⟨f, g, ch, hB⟩ := hBx 0 (by omega)
  have hB : BP cA adr cn 14 f g ch := hB
  have hn10 := hW.1
  have hm12 := hW.2.1
  have hen12 := hE.1
  have hv1 : (x 1).toInt = (nn : Int) := by rw [hx1]; exact hW.2.2.1
  have hv8 : (x 8).toInt = (en : Int) := by rw [hx8]; exact hen
  have hv9 : (x 9).toInt = (mk0 : Int) := by rw [hx9]; exact hmk
  have hN0 : 0 ∈ N := hNm 0 (by omega)
  have hkk : xk.toInt = (xk.toInt.toNat : Int) := by omega
  refine lv_aload_n hx hb d_Sht_extreme_0 rfl (lv_at hl 0 rfl) ?_
  refine lv_iload_n hx hb d_Sht_extreme_1 rfl (lv_at hl 1 rfl) ?_
  refine x_V (As := [.int xk]) (rest := []) hx hb hml hown hK (k_Sht_isCell l D cA adr N cn x dn hSR.1 (hNm 0 (by omega)) nn hv1 hn10 xk) t_494 t_1 t_491 t_493 ts_9 yk_Sht_isCell ⟨Nat.le_of_ble_eq_true rfl, Nat.le_of_ble_eq_true rfl⟩ (w_rec hK hP (hNm 0 (by omega)) hSR.1 rfl) hP rfl hl.1 rfl (Nat.le_of_ble_eq_true rfl) d_Sht_extreme_2 ⟨Nat.le_of_ble_eq_true rfl, Nat.le_of_ble_eq_true rfl⟩ hS (fun q h => h.elim) (fun r H locs hq _ hS => ?_)
  obtain ⟨rfl, hP⟩ := hq
  refine W.eq (g2 := F0 m 5 ls [.int (bi (decide (0 ≤ xk.toInt ∧ xk.toInt ≤ (nn : Int) - 1)))]) rfl ?_
  refine r_Sht_need hx hb hml hown hK hl.1 hS ⟨Nat.le_of_ble_eq_true rfl, Nat.le_of_ble_eq_true rfl⟩ ⟨Nat.le_of_ble_eq_true rfl, Nat.le_of_ble_eq_true rfl⟩ (decide_eq_true (by omega)) d_Sht_extreme_5 (Nat.le_of_ble_eq_true rfl) (fun locs hS => ?_)
  refine lv_aload_n hx hb d_Sht_extreme_8 rfl (lv_at hl 0 rfl) ?_
  refine lv_iload_n hx hb d_Sht_extreme_9 rfl (lv_at hl 1 rfl) ?_
  refine lv_iload_n hx hb d_Sht_extreme_10 rfl (lv_at hl 2 rfl) ?_
  refine lv_iload_n hx hb d_Sht_extreme_11 rfl (lv_at hl 3 rfl) ?_
  refine x_V (As := [.int xk, .int (bi dw), .int xm]) (rest := []) hx hb hml hown hK (k_Sht_begin l D cA adr N hi cn F I nn mm en mk0 x dn hCP0 hNm hWF0 xk xk.toInt (Or.inr ⟨rfl, by omega, by omega⟩) dw xm (by omega)) t_699 t_1 t_696 t_698 ts_12 yk_Sht_begin ⟨Nat.le_of_ble_eq_true rfl, Nat.le_of_ble_eq_true rfl⟩ (w_rec hK hP (hNm 0 (by omega)) hSR.1 rfl) hP rfl hl.1 rfl (Nat.le_of_ble_eq_true rfl) d_Sht_extreme_12 ⟨Nat.le_of_ble_eq_true rfl, Nat.le_of_ble_eq_true rfl⟩ hS (fun q h => h) (fun r H locs hq _ hS => ?_)
  obtain ⟨z_1, rfl, hz_1, hle_1, cn_1, x_1, dn_1, hCP_1, hP⟩ := hq
  refine W.eq (g2 := F0 m 15 ls [.int z_1]) rfl ?_
  refine lv_iconst (v := 1) hx hb d_Sht_extreme_15 (by decide) ?_
  refine b_icmp_ne (tgt := 28) hx hb d_Sht_extreme_16 (by decide) rfl kc_1 (fun c_2 => ?_) (fun c_2 => ?_)
  · refine lv_sipush (v := (-1000)) hx hb d_Sht_extreme_28 (by decide) ?_
    refine e_i hx hb hr hlk hQ hS d_Sht_extreme_31 ?_
    exact ⟨_, rfl, by rw [if_neg (by rw [← hz_1]; exact c_2)]; exact kc_m1000, CQ.of hCP_1 hP⟩
  · refine lv_aload_n hx hb d_Sht_extreme_19 rfl (lv_at hl 0 rfl) ?_
    refine w_gf hx hb hK i_Sht hown hP (hNm 0 (by omega)) hCP_1.1.1 rfl 17 (by decide) t_102 rfl rfl d_Sht_extreme_20 ?_
    refine lv_iload_n hx hb d_Sht_extreme_23 rfl (lv_at hl 1 rfl) ?_
    refine w_ld hx hb hK hP (hNm 7 (by omega)) hCP_1.2.2.1.2.2.2.2.2 (xk.toInt.toNat) hkk (by omega) (show xk.toInt.toNat < 10 by omega) d_Sht_extreme_24 (fun z_3 ez_3 => ?_)
    subst ez_3
    refine lv_goto (tgt := 31) hx hb d_Sht_extreme_25 (by decide) ?_
    refine e_i hx hb hr hlk hQ hS d_Sht_extreme_31 ?_
    exact ⟨_, rfl, by rw [if_pos (by rw [← hz_1]; exact c_2)], CQ.of hCP_1 hP⟩
theorem d_Sht_least_0 : decode b_Sht_least 0 = .ok (.aload_n 0, 1) := by decide +kernel
theorem d_Sht_least_1 : decode b_Sht_least 1 = .ok (.iload_n 1, 1) := by decide +kernel
theorem d_Sht_least_2 : decode b_Sht_least 2 = .ok (.iconst 0, 1) := by decide +kernel
theorem d_Sht_least_3 : decode b_Sht_least 3 = .ok (.iload_n 2, 1) := by decide +kernel
theorem d_Sht_least_4 : decode b_Sht_least 4 = .ok (.invokevirtual 216, 3) := by decide +kernel
set_option maxHeartbeats 4000000 in
set_option maxRecDepth 20000 in
theorem k_Sht_least_T (l : Launch) (htr : l.stackTraces = false) (D : va_G) (cA : Nat → ClassId) (adr : Nat → Nat) (N : List Nat) (cn : Nat → va_E) (x : Nat → Int32) (dn : Bool) (h00 : cn 0 = .inr (1, SF adr x dn)) (hN0 : 0 ∈ N) (nn : Nat) (hv1 : (x 1).toInt = (nn : Int)) (hn10 : nn ≤ 10) (xk xm : Int32) (h0 : ¬ ((0 ≤ xk.toInt ∧ xk.toInt < (nn : Int)) ∧ (0 ≤ xm.toInt ∧ xm.toInt ≤ 300))) : CtT l y_Sht_least b_Sht_least 3 (some .int) 13 D cA [.ref (adr 0), .int xk, .int xm] (fun H => va_P D classes (wl N adr cn) H) "java/lang/IllegalArgumentException" := by
  refine CtT.mk (by decide) (Nat.le_of_ble_eq_true rfl) ?_
  intro p e s m args below meth c Q H locs ls hx hb hr hml hlk hown hin hK hTh hex hQ hS hP hl
  have hl : lv_has ls 3 [(0, .ref (adr 0)), (1, .int xk), (2, .int xm)] := hl
  have hown : s.vm.findClass "RangeSheet" = some m.cls := hown
  refine lv_aload_n hx hb d_Sht_least_0 rfl (lv_at hl 0 rfl) ?_
  refine lv_iload_n hx hb d_Sht_least_1 rfl (lv_at hl 1 rfl) ?_
  refine lv_iconst (v := 0) hx hb d_Sht_least_2 (by decide) ?_
  refine lv_iload_n hx hb d_Sht_least_3 rfl (lv_at hl 2 rfl) ?_
  refine W.eq (g2 := F0 m 4 ls [.int xm, .int (bi false), .int xk, .ref (adr 0)]) rfl ?_
  exact t_V (As := [.int xk, .int (bi false), .int xm]) (rest := []) hx hb hml hown hK hTh (k_Sht_extreme_T l htr D cA adr N cn x dn h00 hN0 nn hv1 hn10 xk false xm h0) t_723 t_1 t_720 t_722 ts_15 yk_Sht_extreme ⟨Nat.le_of_ble_eq_true rfl, Nat.le_of_ble_eq_true rfl⟩ ⟨Nat.le_of_ble_eq_true rfl, Nat.le_of_ble_eq_true rfl⟩ (w_rec hK hP hN0 h00 rfl) hP rfl hl.1 rfl (Nat.le_of_ble_eq_true rfl) d_Sht_least_4 hS hex hlk hQ
theorem d_Sht_least_7 : decode b_Sht_least 7 = .ok (.ireturn, 1) := by decide +kernel
set_option maxHeartbeats 4000000 in
set_option maxRecDepth 20000 in
theorem k_Sht_least (l : Launch) (D : va_G) (cA : Nat → ClassId) (adr : Nat → Nat) (N : List Nat) (hi : wI N adr) (cn : Nat → va_E) (F : Nat → Nat → Int32) (I : Nat → Int32) (nn mm en mk0 : Nat) (x : Nat → Int32) (dn : Bool) (hCP : CP cA adr cn I F mm x dn) (hNm : ∀ k, k < 56 + mm → k ∈ N) (hWF : WF I F nn mm en mk0) (xk xm : Int32) (h0 : (0 ≤ xk.toInt ∧ xk.toInt < (nn : Int))) (h1 : (0 ≤ xm.toInt ∧ xm.toInt ≤ 300)) : Ct l y_Sht_least b_Sht_least 3 (some .int) 30 D cA [.ref (adr 0), .int xk, .int xm] (fun H => va_P D classes (wl N adr cn) H) (fun r H => ∃ z : Int32, r = some (.int z) ∧ z.toInt = (if (fnd F nn mm en mk0 xm.toInt.toNat xk.toInt false).1 = 1 then (G_fnd F nn (fnd F nn mm en mk0 xm.toInt.toNat xk.toInt false) 33 xk.toInt.toNat).toInt else -1000) ∧ CQ D cA adr N (J_fnd I (fnd F nn mm en mk0 xm.toInt.toNat xk.toInt false)) (G_fnd F nn (fnd F nn mm en mk0 xm.toInt.toNat xk.toInt false)) mm H) (wA N adr) := by
  refine Ct.mk (by decide) (Nat.le_of_ble_eq_true rfl) ?_
  intro p e s m args below meth c Q H locs ls hx hb hr hml hlk hown hin hK hQ hS hP hl
  have hl : lv_has ls 3 [(0, .ref (adr 0)), (1, .int xk), (2, .int xm)] := hl
  have hown : s.vm.findClass "RangeSheet" = some m.cls := hown
  have hWF0 := hWF
  have hCP0 := hCP
  obtain ⟨hW, hE, hen, ⟨hmk, hmke⟩, htd, hsp, hsd, hset, hgd⟩ := hWF
  obtain ⟨hSR, ⟨hx1, hx3, hx8, hx9, hx11, hx14, hx18⟩, ⟨hc2, hc3, hc4, hc5, hc6, hc7⟩, ⟨cf, hBf⟩, ⟨fn0, gn0, cn0, hBn, hBne⟩, hBx⟩ := hCP
  obtain ⟨f, g, ch, hB⟩ := hBx 0 (by omega)
  have hB : BP cA adr cn 14 f g ch := hB
  have hn10 := hW.1
  have hm12 := hW.2.1
  have hen12 := hE.1
  have hv1 : (x 1).toInt = (nn : Int) := by rw [hx1]; exact hW.2.2.1
  have hv8 : (x 8).toInt = (en : Int) := by rw [hx8]; exact hen
  have hv9 : (x 9).toInt = (mk0 : Int) := by rw [hx9]; exact hmk
  have hN0 : 0 ∈ N := hNm 0 (by omega)
  refine lv_aload_n hx hb d_Sht_least_0 rfl (lv_at hl 0 rfl) ?_
  refine lv_iload_n hx hb d_Sht_least_1 rfl (lv_at hl 1 rfl) ?_
  refine lv_iconst (v := 0) hx hb d_Sht_least_2 (by decide) ?_
  refine lv_iload_n hx hb d_Sht_least_3 rfl (lv_at hl 2 rfl) ?_
  refine W.eq (g2 := F0 m 4 ls [.int xm, .int (bi false), .int xk, .ref (adr 0)]) rfl ?_
  refine x_V (As := [.int xk, .int (bi false), .int xm]) (rest := []) hx hb hml hown hK (k_Sht_extreme l D cA adr N hi cn F I nn mm en mk0 x dn hCP0 hNm hWF0 xk false xm h0 h1) t_723 t_1 t_720 t_722 ts_15 yk_Sht_extreme ⟨Nat.le_of_ble_eq_true rfl, Nat.le_of_ble_eq_true rfl⟩ (w_rec hK hP (hNm 0 (by omega)) hSR.1 rfl) hP rfl hl.1 rfl (Nat.le_of_ble_eq_true rfl) d_Sht_least_4 ⟨Nat.le_of_ble_eq_true rfl, Nat.le_of_ble_eq_true rfl⟩ hS (fun q h => h) (fun r H locs hq _ hS => ?_)
  obtain ⟨z_1, rfl, hz_1⟩ := hq
  refine W.eq (g2 := F0 m 7 ls [.int z_1]) rfl ?_
  refine e_i hx hb hr hlk hQ hS d_Sht_least_7 ?_
  exact ⟨_, rfl, hz_1⟩
theorem d_Sht_greatest_0 : decode b_Sht_greatest 0 = .ok (.aload_n 0, 1) := by decide +kernel
theorem d_Sht_greatest_1 : decode b_Sht_greatest 1 = .ok (.iload_n 1, 1) := by decide +kernel
theorem d_Sht_greatest_2 : decode b_Sht_greatest 2 = .ok (.iconst 1, 1) := by decide +kernel
theorem d_Sht_greatest_3 : decode b_Sht_greatest 3 = .ok (.iload_n 2, 1) := by decide +kernel
theorem d_Sht_greatest_4 : decode b_Sht_greatest 4 = .ok (.invokevirtual 216, 3) := by decide +kernel
set_option maxHeartbeats 4000000 in
set_option maxRecDepth 20000 in
theorem k_Sht_greatest_T (l : Launch) (htr : l.stackTraces = false) (D : va_G) (cA : Nat → ClassId) (adr : Nat → Nat) (N : List Nat) (cn : Nat → va_E) (x : Nat → Int32) (dn : Bool) (h00 : cn 0 = .inr (1, SF adr x dn)) (hN0 : 0 ∈ N) (nn : Nat) (hv1 : (x 1).toInt = (nn : Int)) (hn10 : nn ≤ 10) (xk xm : Int32) (h0 : ¬ ((0 ≤ xk.toInt ∧ xk.toInt < (nn : Int)) ∧ (0 ≤ xm.toInt ∧ xm.toInt ≤ 300))) : CtT l y_Sht_greatest b_Sht_greatest 3 (some .int) 13 D cA [.ref (adr 0), .int xk, .int xm] (fun H => va_P D classes (wl N adr cn) H) "java/lang/IllegalArgumentException" := by
  refine CtT.mk (by decide) (Nat.le_of_ble_eq_true rfl) ?_
  intro p e s m args below meth c Q H locs ls hx hb hr hml hlk hown hin hK hTh hex hQ hS hP hl
  have hl : lv_has ls 3 [(0, .ref (adr 0)), (1, .int xk), (2, .int xm)] := hl
  have hown : s.vm.findClass "RangeSheet" = some m.cls := hown
  refine lv_aload_n hx hb d_Sht_greatest_0 rfl (lv_at hl 0 rfl) ?_
  refine lv_iload_n hx hb d_Sht_greatest_1 rfl (lv_at hl 1 rfl) ?_
  refine lv_iconst (v := 1) hx hb d_Sht_greatest_2 (by decide) ?_
  refine lv_iload_n hx hb d_Sht_greatest_3 rfl (lv_at hl 2 rfl) ?_
  refine W.eq (g2 := F0 m 4 ls [.int xm, .int (bi true), .int xk, .ref (adr 0)]) rfl ?_
  exact t_V (As := [.int xk, .int (bi true), .int xm]) (rest := []) hx hb hml hown hK hTh (k_Sht_extreme_T l htr D cA adr N cn x dn h00 hN0 nn hv1 hn10 xk true xm h0) t_723 t_1 t_720 t_722 ts_15 yk_Sht_extreme ⟨Nat.le_of_ble_eq_true rfl, Nat.le_of_ble_eq_true rfl⟩ ⟨Nat.le_of_ble_eq_true rfl, Nat.le_of_ble_eq_true rfl⟩ (w_rec hK hP hN0 h00 rfl) hP rfl hl.1 rfl (Nat.le_of_ble_eq_true rfl) d_Sht_greatest_4 hS hex hlk hQ
theorem d_Sht_greatest_7 : decode b_Sht_greatest 7 = .ok (.ireturn, 1) := by decide +kernel
set_option maxHeartbeats 4000000 in
set_option maxRecDepth 20000 in
theorem k_Sht_greatest (l : Launch) (D : va_G) (cA : Nat → ClassId) (adr : Nat → Nat) (N : List Nat) (hi : wI N adr) (cn : Nat → va_E) (F : Nat → Nat → Int32) (I : Nat → Int32) (nn mm en mk0 : Nat) (x : Nat → Int32) (dn : Bool) (hCP : CP cA adr cn I F mm x dn) (hNm : ∀ k, k < 56 + mm → k ∈ N) (hWF : WF I F nn mm en mk0) (xk xm : Int32) (h0 : (0 ≤ xk.toInt ∧ xk.toInt < (nn : Int))) (h1 : (0 ≤ xm.toInt ∧ xm.toInt ≤ 300)) : Ct l y_Sht_greatest b_Sht_greatest 3 (some .int) 30 D cA [.ref (adr 0), .int xk, .int xm] (fun H => va_P D classes (wl N adr cn) H) (fun r H => ∃ z : Int32, r = some (.int z) ∧ z.toInt = (if (fnd F nn mm en mk0 xm.toInt.toNat xk.toInt true).1 = 1 then (G_fnd F nn (fnd F nn mm en mk0 xm.toInt.toNat xk.toInt true) 33 xk.toInt.toNat).toInt else -1000) ∧ CQ D cA adr N (J_fnd I (fnd F nn mm en mk0 xm.toInt.toNat xk.toInt true)) (G_fnd F nn (fnd F nn mm en mk0 xm.toInt.toNat xk.toInt true)) mm H) (wA N adr) := by
  refine Ct.mk (by decide) (Nat.le_of_ble_eq_true rfl) ?_
  intro p e s m args below meth c Q H locs ls hx hb hr hml hlk hown hin hK hQ hS hP hl
  have hl : lv_has ls 3 [(0, .ref (adr 0)), (1, .int xk), (2, .int xm)] := hl
  have hown : s.vm.findClass "RangeSheet" = some m.cls := hown
  have hWF0 := hWF
  have hCP0 := hCP
  obtain ⟨hW, hE, hen, ⟨hmk, hmke⟩, htd, hsp, hsd, hset, hgd⟩ := hWF
  obtain ⟨hSR, ⟨hx1, hx3, hx8, hx9, hx11, hx14, hx18⟩, ⟨hc2, hc3, hc4, hc5, hc6, hc7⟩, ⟨cf, hBf⟩, ⟨fn0, gn0, cn0, hBn, hBne⟩, hBx⟩ := hCP
  obtain ⟨f, g, ch, hB⟩ := hBx 0 (by omega)
  have hB : BP cA adr cn 14 f g ch := hB
  have hn10 := hW.1
  have hm12 := hW.2.1
  have hen12 := hE.1
  have hv1 : (x 1).toInt = (nn : Int) := by rw [hx1]; exact hW.2.2.1
  have hv8 : (x 8).toInt = (en : Int) := by rw [hx8]; exact hen
  have hv9 : (x 9).toInt = (mk0 : Int) := by rw [hx9]; exact hmk
  have hN0 : 0 ∈ N := hNm 0 (by omega)
  refine lv_aload_n hx hb d_Sht_greatest_0 rfl (lv_at hl 0 rfl) ?_
  refine lv_iload_n hx hb d_Sht_greatest_1 rfl (lv_at hl 1 rfl) ?_
  refine lv_iconst (v := 1) hx hb d_Sht_greatest_2 (by decide) ?_
  refine lv_iload_n hx hb d_Sht_greatest_3 rfl (lv_at hl 2 rfl) ?_
  refine W.eq (g2 := F0 m 4 ls [.int xm, .int (bi true), .int xk, .ref (adr 0)]) rfl ?_
  refine x_V (As := [.int xk, .int (bi true), .int xm]) (rest := []) hx hb hml hown hK (k_Sht_extreme l D cA adr N hi cn F I nn mm en mk0 x dn hCP0 hNm hWF0 xk true xm h0 h1) t_723 t_1 t_720 t_722 ts_15 yk_Sht_extreme ⟨Nat.le_of_ble_eq_true rfl, Nat.le_of_ble_eq_true rfl⟩ (w_rec hK hP (hNm 0 (by omega)) hSR.1 rfl) hP rfl hl.1 rfl (Nat.le_of_ble_eq_true rfl) d_Sht_greatest_4 ⟨Nat.le_of_ble_eq_true rfl, Nat.le_of_ble_eq_true rfl⟩ hS (fun q h => h) (fun r H locs hq _ hS => ?_)
  obtain ⟨z_1, rfl, hz_1⟩ := hq
  refine W.eq (g2 := F0 m 7 ls [.int z_1]) rfl ?_
  refine e_i hx hb hr hlk hQ hS d_Sht_greatest_7 ?_
  exact ⟨_, rfl, hz_1⟩
