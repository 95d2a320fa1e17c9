theorem d_Sht_conflict_0 : decode b_Sht_conflict 0 = .ok (.aload_n 0, 1) := by decide +kernel
theorem d_Sht_conflict_1 : decode b_Sht_conflict 1 = .ok (.aload_n 0, 1) := by decide +kernel
theorem d_Sht_conflict_2 : decode b_Sht_conflict 2 = .ok (.getfield 150, 3) := by decide +kernel
theorem d_Sht_conflict_5 : decode b_Sht_conflict 5 = .ok (.invokevirtual 170, 3) := by decide +kernel
theorem d_Sht_conflict_8 : decode b_Sht_conflict 8 = .ok (.ifCond .eq 7, 3) := by decide +kernel
theorem d_Sht_conflict_11 : decode b_Sht_conflict 11 = .ok (.sipush (-1000), 3) := by decide +kernel
theorem d_Sht_conflict_14 : decode b_Sht_conflict 14 = .ok (.ireturn, 1) := by decide +kernel
theorem d_Sht_conflict_15 : decode b_Sht_conflict 15 = .ok (.aload_n 0, 1) := by decide +kernel
theorem d_Sht_conflict_16 : decode b_Sht_conflict 16 = .ok (.getfield 150, 3) := by decide +kernel
theorem d_Sht_conflict_19 : decode b_Sht_conflict 19 = .ok (.istore_n 1, 1) := by decide +kernel
theorem d_Sht_conflict_20 : decode b_Sht_conflict 20 = .ok (.aload_n 0, 1) := by decide +kernel
theorem d_Sht_conflict_21 : decode b_Sht_conflict 21 = .ok (.getfield 147, 3) := by decide +kernel
theorem d_Sht_conflict_24 : decode b_Sht_conflict 24 = .ok (.iconst 1, 1) := by decide +kernel
theorem d_Sht_conflict_25 : decode b_Sht_conflict 25 = .ok (.isub, 1) := by decide +kernel
theorem d_Sht_conflict_26 : decode b_Sht_conflict 26 = .ok (.istore_n 2, 1) := by decide +kernel
theorem d_Sht_conflict_27 : decode b_Sht_conflict 27 = .ok (.iload_n 2, 1) := by decide +kernel
theorem d_Sht_conflict_28 : decode b_Sht_conflict 28 = .ok (.ifCond .lt 40, 3) := by decide +kernel
theorem d_Sht_conflict_31 : decode b_Sht_conflict 31 = .ok (.iload_n 1, 1) := by decide +kernel
theorem d_Sht_conflict_32 : decode b_Sht_conflict 32 = .ok (.iload_n 2, 1) := by decide +kernel
theorem d_Sht_conflict_33 : decode b_Sht_conflict 33 = .ok (.ishr, 1) := by decide +kernel
theorem d_Sht_conflict_34 : decode b_Sht_conflict 34 = .ok (.iconst 1, 1) := by decide +kernel
theorem d_Sht_conflict_35 : decode b_Sht_conflict 35 = .ok (.iand, 1) := by decide +kernel
theorem d_Sht_conflict_36 : decode b_Sht_conflict 36 = .ok (.iconst 1, 1) := by decide +kernel
theorem d_Sht_conflict_37 : decode b_Sht_conflict 37 = .ok (.if_icmp .ne 23, 3) := by decide +kernel
theorem d_Sht_conflict_40 : decode b_Sht_conflict 40 = .ok (.aload_n 0, 1) := by decide +kernel
theorem d_Sht_conflict_41 : decode b_Sht_conflict 41 = .ok (.iload_n 1, 1) := by decide +kernel
theorem d_Sht_conflict_42 : decode b_Sht_conflict 42 = .ok (.iconst 1, 1) := by decide +kernel
theorem d_Sht_conflict_43 : decode b_Sht_conflict 43 = .ok (.iload_n 2, 1) := by decide +kernel
theorem d_Sht_conflict_44 : decode b_Sht_conflict 44 = .ok (.ishl, 1) := by decide +kernel
theorem d_Sht_conflict_45 : decode b_Sht_conflict 45 = .ok (.ixor, 1) := by decide +kernel
theorem d_Sht_conflict_46 : decode b_Sht_conflict 46 = .ok (.invokevirtual 170, 3) := by decide +kernel
theorem d_Sht_conflict_49 : decode b_Sht_conflict 49 = .ok (.ifCond .ne 11, 3) := by decide +kernel
theorem d_Sht_conflict_52 : decode b_Sht_conflict 52 = .ok (.iload_n 1, 1) := by decide +kernel
theorem d_Sht_conflict_53 : decode b_Sht_conflict 53 = .ok (.iconst 1, 1) := by decide +kernel
theorem d_Sht_conflict_54 : decode b_Sht_conflict 54 = .ok (.iload_n 2, 1) := by decide +kernel
theorem d_Sht_conflict_55 : decode b_Sht_conflict 55 = .ok (.ishl, 1) := by decide +kernel
theorem d_Sht_conflict_56 : decode b_Sht_conflict 56 = .ok (.ixor, 1) := by decide +kernel
theorem d_Sht_conflict_57 : decode b_Sht_conflict 57 = .ok (.goto 4, 3) := by decide +kernel
theorem d_Sht_conflict_60 : decode b_Sht_conflict 60 = .ok (.iload_n 1, 1) := by decide +kernel
theorem d_Sht_conflict_61 : decode b_Sht_conflict 61 = .ok (.istore_n 1, 1) := by decide +kernel
theorem d_Sht_conflict_62 : decode b_Sht_conflict 62 = .ok (.iinc 2 (-1), 3) := by decide +kernel
theorem d_Sht_conflict_65 : decode b_Sht_conflict 65 = .ok (.goto (-38), 3) := by decide +kernel
theorem d_Sht_conflict_68 : decode b_Sht_conflict 68 = .ok (.iload_n 1, 1) := by decide +kernel
theorem d_Sht_conflict_69 : decode b_Sht_conflict 69 = .ok (.ireturn, 1) := by decide +kernel
set_option maxHeartbeats 4000000 in
set_option maxRecDepth 20000 in
theorem k_Sht_conflict (l : Launch) (D : va_G) (cA : Nat → ClassId) (adr : Nat → Nat) (N : List Nat) (hi : wI N adr) (cn : Nat → va_E) (F : Nat → Nat → Int32) (I : Nat → Int32) (nn mm en mk0 : Nat) (x : Nat → Int32) (dn : Bool) (hCP : CP cA adr cn I F mm x dn) (hNm : ∀ k, k < 56 + mm → k ∈ N) (hWF : WF I F nn mm en mk0)  : Ct l y_Sht_conflict b_Sht_conflict 3 (some .int) 16 D cA [.ref (adr 0)] (fun H => va_P D classes (wl N adr cn) H) (fun r H => ∃ z : Int32, r = some (.int z) ∧ z.toInt = r_cfl F nn mm en mk0 ∧ CQ D cA adr N I F mm H) (wA N adr) := by
  refine Ct.mk (by decide) (Nat.le_of_ble_eq_true rfl) ?_
  intro p e s m args below meth c Q H locs ls hx hb hr hml hlk hown hin hK hQ hS hP hl
  have hl : lv_has ls 3 [(0, .ref (adr 0))] := hl
  have hown : s.vm.findClass "RangeSheet" = some m.cls := hown
  have hWF0 := hWF
  have hCP0 := hCP
  obtain ⟨hW, hE, hen, ⟨hmk, hmke⟩, htd, hsp, hsd, hset, hgd⟩ := hWF
  obtain ⟨hSR, ⟨hx1, hx3, hx8, hx9, hx11, hx14, hx18⟩, ⟨hc2, hc3, hc4, hc5, hc6, hc7⟩, ⟨cf, hBf⟩, ⟨fn0, gn0, cn0, hBn, hBne⟩, hBx⟩ := hCP
  obtain ⟨f, g, ch, hB⟩ := hBx 0 (by omega)
  have hB : BP cA adr cn 14 f g ch := hB
  have hn10 := hW.1
  have hm12 := hW.2.1
  have hen12 := hE.1
  have hv1 : (x 1).toInt = (nn : Int) := by rw [hx1]; exact hW.2.2.1
  have hv8 : (x 8).toInt = (en : Int) := by rw [hx8]; exact hen
  have hv9 : (x 9).toInt = (mk0 : Int) := by rw [hx9]; exact hmk
  have hmk12 : mk0 < 2 ^ 12 := Nat.lt_of_lt_of_le hmke (Nat.pow_le_pow_right (by decide) hen12)
  refine lv_aload_n hx hb d_Sht_conflict_0 rfl (lv_at hl 0 rfl) ?_
  refine lv_aload_n hx hb d_Sht_conflict_1 rfl (lv_at hl 0 rfl) ?_
  refine w_gf hx hb hK i_Sht hown hP (hNm 0 (by omega)) hSR.1 rfl 9 (by decide) t_94 rfl rfl d_Sht_conflict_2 ?_
  refine x_V (As := [.int (x 9)]) (rest := []) hx hb hml hown hK (k_Sht_narrowWith l D cA adr N hi cn F I nn mm en mk0 x dn hCP0 hNm hWF0 mk0 (x 9) hv9) t_165 t_1 t_162 t_164 ts_0 yk_Sht_narrowWith ⟨Nat.le_of_ble_eq_true rfl, Nat.le_of_ble_eq_true rfl⟩ (w_rec hK hP (hNm 0 (by omega)) hSR.1 rfl) hP rfl hl.1 rfl (Nat.le_of_ble_eq_true rfl) d_Sht_conflict_5 ⟨Nat.le_of_ble_eq_true rfl, Nat.le_of_ble_eq_true rfl⟩ hS (fun q h => h) (fun r H locs hq _ hS => ?_)
  obtain ⟨cn_1, f_1, g_1, q_1, c_1, rfl, hFs_1, hRl_1, hB_1, hT_1, hF_1, hP⟩ := hq
  have hCP_1 := CP.fr (d := 0) hCP0 (by omega) hFs_1 hRl_1 hB_1
  have hx_1_2 : cn_1 0 = .inr (1, [.ref (adr 8), .int (x 1), .ref (adr 1), .int (x 3), .ref (adr 2), .ref (adr 3), .ref (adr 4), .ref (adr 5), .int (x 8), .int (x 9), .ref (adr 11), .int (x 11), .ref (adr 6), .int (x 13), .int (x 14), .int (x 15), .int (bi dn), .ref (adr 7), .int (x 18)]) := (hFs_1 0 (by omega) (by omega) (by omega) (by omega)).trans hSR.1
  have hx_1_3 : cn_1 1 = .inl (cA 3, 12, .inr (.inr (.inr (.inr (fun k => if k < mm then some (adr (56 + k)) else none))))) := (hFs_1 1 (by omega) (by omega) (by omega) (by omega)).trans hSR.2.1
  have hx_1_4 : cn_1 3 = .inl (cA 0, 12, .inl (F 14)) := (hFs_1 3 (by omega) (by omega) (by omega) (by omega)).trans hc3
  have hx_1_5 : cn_1 4 = .inl (cA 0, 12, .inl (F 15)) := (hFs_1 4 (by omega) (by omega) (by omega) (by omega)).trans hc4
  have hx_1_6 : cn_1 5 = .inl (cA 0, 12, .inl (F 16)) := (hFs_1 5 (by omega) (by omega) (by omega) (by omega)).trans hc5
  have hx_1_7 : cn_1 7 = .inl (cA 0, 10, .inl (F 33)) := (hFs_1 7 (by omega) (by omega) (by omega) (by omega)).trans hc7
  have hx_1_8 : cn_1 6 = .inl (cA 5, 11, .inr (.inr (.inr (.inr (fun k => if k < 11 then some (adr (14 + 3 * k)) else none))))) := (hFs_1 6 (by omega) (by omega) (by omega) (by omega)).trans hc6
  have hx_1_9 : cn_1 8 = .inr (2, [.ref (adr (8 + 1)), .ref (adr (8 + 2)), .int (bi cf)]) := (hFs_1 8 (by omega) (by omega) (by omega) (by omega)).trans hBf.1
  have hx_1_10 : cn_1 (8 + 1) = .inl (cA 0, 10, .inl (F 2)) := (hFs_1 (8 + 1) (by omega) (by omega) (by omega) (by omega)).trans hBf.2.1
  have hx_1_11 : cn_1 (8 + 2) = .inl (cA 0, 10, .inl (F 3)) := (hFs_1 (8 + 2) (by omega) (by omega) (by omega) (by omega)).trans hBf.2.2
  refine W.eq (g2 := F0 m 8 ls [.int (bi q_1)]) rfl ?_
  refine b_bool_eq (tgt := 15) hx hb d_Sht_conflict_8 (by decide) (fun c_12 => ?_) (fun c_12 => ?_)
  · have hw0 := hF_1 c_12
    refine lv_aload_n hx hb d_Sht_conflict_15 rfl (lv_at hl 0 rfl) ?_
    refine w_gf hx hb hK i_Sht hown hP (hNm 0 (by omega)) hx_1_2 rfl 9 (by decide) t_94 rfl rfl d_Sht_conflict_16 ?_
    refine lv_istore_n (lv' := [(1, .int (x 9)), (0, .ref (adr 0))]) hx hb d_Sht_conflict_19 rfl hl (by decide) rfl (fun ls hl => ?_)
    refine lv_aload_n hx hb d_Sht_conflict_20 rfl (lv_at hl 1 rfl) ?_
    refine w_gf hx hb hK i_Sht hown hP (hNm 0 (by omega)) hx_1_2 rfl 8 (by decide) t_93 rfl rfl d_Sht_conflict_21 ?_
    refine lv_iconst (v := 1) hx hb d_Sht_conflict_24 (by decide) ?_
    refine x_sub hx hb d_Sht_conflict_25 hv8 kc_1 (by omega) (fun z_13 tz_13 => ?_)
    refine lv_istore_n (lv' := [(2, .int z_13), (1, .int (x 9)), (0, .ref (adr 0))]) hx hb d_Sht_conflict_26 rfl hl (by decide) rfl (fun ls hl => ?_)
    have L_14 : ∀ (n : Nat) (ex : Nat) (m2 : Nat) (x1 : Int32) (x2 : Int32) (cn1 : Nat → va_E) (H : Heap) (locs : List Loc) (ls : Array Slot), ex < n → (ex ≤ en) → (x1.toInt = (m2 : Int)) → (x2.toInt = (ex : Int) - 1) → (m2 < 2 ^ 12) → (CP cA adr cn1 I F mm x dn) → (cfl F nn mm en en mk0 = cfl F nn mm en ex m2) → va_P D classes (wl N adr cn1) H → va_S (wA N adr) s.heap H locs → lv_has ls 3 [(0, .ref (adr 0)), (1, .int x1), (2, .int x2)] → W p l e (rl 16) s m args below meth c H locs 0 0 Q (F0 m 27 ls []) := by
      intro n
      induction n with
      | zero => intro ex m2 x1 x2 cn1 H locs ls hmu; exact absurd hmu (Nat.not_lt_zero _)
      | succ n ih_14 =>
        intro ex m2 x1 x2 cn1 H locs ls hmu hex hm2 h2 hm212 hC1 hcf hP hS hl
        refine lv_iload_n hx hb d_Sht_conflict_27 rfl (lv_at hl 2 rfl) ?_
        refine b_if_lt (tgt := 68) hx hb d_Sht_conflict_28 (by decide) h2 (fun c_15 => ?_) (fun c_15 => ?_)
        · refine lv_iload_n hx hb d_Sht_conflict_68 rfl (lv_at hl 1 rfl) ?_
          refine e_i hx hb hr hlk hQ hS d_Sht_conflict_69 ?_
          refine ⟨_, rfl, ?_, CQ.of hC1 hP⟩
          unfold r_cfl; rw [hw0, if_pos (show (none : Option Bx).isNone = true from rfl), hcf, show ex = 0 by omega]; exact hm2
        · obtain ⟨ex0, hex0⟩ : ∃ e0, ex = e0 + 1 := ⟨ex - 1, by omega⟩
          subst hex0
          have hx2 : x2.toInt = (ex0 : Int) := by omega
          have hpx := Nat.pow_lt_pow_right (show 1 < 2 by decide) (show ex0 < 12 by omega)
          refine lv_iload_n hx hb d_Sht_conflict_31 rfl (lv_at hl 1 rfl) ?_
          refine lv_iload_n hx hb d_Sht_conflict_32 rfl (lv_at hl 2 rfl) ?_
          refine lv_ishr hx hb d_Sht_conflict_33 ?_
          refine lv_iconst (v := 1) hx hb d_Sht_conflict_34 (by decide) ?_
          refine x_bit hx hb d_Sht_conflict_35 hm2 hx2 (by omega) (by omega) ?_
          refine lv_iconst (v := 1) hx hb d_Sht_conflict_36 (by decide) ?_
          refine b1_icmp_ne (tgt := 60) hx hb d_Sht_conflict_37 (by decide) (fun c_16 => ?_) (fun c_16 => ?_)
          · refine lv_iload_n hx hb d_Sht_conflict_60 rfl (lv_at hl 1 rfl) ?_
            refine lv_istore_n (lv' := [(1, .int x1), (0, .ref (adr 0)), (2, .int x2)]) hx hb d_Sht_conflict_61 rfl hl (by decide) rfl (fun ls hl => ?_)
            refine x_iinc (k := 2) (lv' := fun v_ => [(2, .int v_), (1, .int x1), (0, .ref (adr 0))]) hx hb d_Sht_conflict_62 hl rfl hx2 (by decide) (by omega) (by decide) (fun v_ => rfl) (fun z_17 tz_17 ls hl => ?_)
            refine lv_goto (tgt := 27) hx hb d_Sht_conflict_65 (by decide) ?_
            have hbt : m2.testBit ex0 = false := by have q := c_16; rw [hasN_nat] at q; exact q
            exact ih_14 ex0 m2 x1 z_17 cn1 _ _ _ (by omega) (by omega) (by omega) (by omega) hm212 hC1 (by rw [hcf, cfl, if_neg (by rw [hbt]; simp)]) hP hS (lv_sub hl [2, 1, 0] rfl)
          · refine lv_aload_n hx hb d_Sht_conflict_40 rfl (lv_at hl 0 rfl) ?_
            refine lv_iload_n hx hb d_Sht_conflict_41 rfl (lv_at hl 1 rfl) ?_
            refine lv_iconst (v := 1) hx hb d_Sht_conflict_42 (by decide) ?_
            refine lv_iload_n hx hb d_Sht_conflict_43 rfl (lv_at hl 2 rfl) ?_
            refine x_shl1 hx hb d_Sht_conflict_44 (ex0) hx2 (by omega) (by omega) (fun z_18 tz_18 => ?_)
            refine x_xorN hx hb d_Sht_conflict_45 (m2) ((2 ^ ex0)) hm2 tz_18 (by omega) (by omega) (fun z_19 tz_19 => ?_)
            refine x_V (As := [.int z_19]) (rest := []) hx hb hml hown hK (k_Sht_narrowWith l D cA adr N hi cn1 F I nn mm en mk0 x dn hC1 hNm hWF0 (m2 ^^^ (2 ^ ex0)) z_19 tz_19) t_165 t_1 t_162 t_164 ts_0 yk_Sht_narrowWith ⟨Nat.le_of_ble_eq_true rfl, Nat.le_of_ble_eq_true rfl⟩ (w_rec hK hP (hNm 0 (by omega)) hC1.1.1 rfl) hP rfl hl.1 rfl (Nat.le_of_ble_eq_true rfl) d_Sht_conflict_46 ⟨Nat.le_of_ble_eq_true rfl, Nat.le_of_ble_eq_true rfl⟩ hS (fun q h => h) (fun r H locs hq _ hS => ?_)
            obtain ⟨cn_20, f_20, g_20, q_20, c_20, rfl, hFs_20, hRl_20, hB_20, hT_20, hF_20, hP⟩ := hq
            have hCP_20 := CP.fr (d := 0) hC1 (by omega) hFs_20 hRl_20 hB_20
            have hx_20_21 : cn_20 0 = .inr (1, [.ref (adr 8), .int (x 1), .ref (adr 1), .int (x 3), .ref (adr 2), .ref (adr 3), .ref (adr 4), .ref (adr 5), .int (x 8), .int (x 9), .ref (adr 11), .int (x 11), .ref (adr 6), .int (x 13), .int (x 14), .int (x 15), .int (bi dn), .ref (adr 7), .int (x 18)]) := (hFs_20 0 (by omega) (by omega) (by omega) (by omega)).trans hC1.1.1
            refine W.eq (g2 := F0 m 49 ls [.int (bi q_20)]) rfl ?_
            refine b_bool_ne (tgt := 60) hx hb d_Sht_conflict_49 (by decide) (fun c_22 => ?_) (fun c_22 => ?_)
            · refine lv_iload_n hx hb d_Sht_conflict_60 rfl (lv_at hl 1 rfl) ?_
              refine lv_istore_n (lv' := [(1, .int x1), (0, .ref (adr 0)), (2, .int x2)]) hx hb d_Sht_conflict_61 rfl hl (by decide) rfl (fun ls hl => ?_)
              refine x_iinc (k := 2) (lv' := fun v_ => [(2, .int v_), (1, .int x1), (0, .ref (adr 0))]) hx hb d_Sht_conflict_62 hl rfl hx2 (by decide) (by omega) (by decide) (fun v_ => rfl) (fun z_23 tz_23 ls hl => ?_)
              refine lv_goto (tgt := 27) hx hb d_Sht_conflict_65 (by decide) ?_
              have hbt : m2.testBit ex0 = true := by have q := c_16; rw [hasN_nat] at q; exact q
              obtain ⟨y, hy, _⟩ := hT_20 c_22
              exact ih_14 ex0 m2 x1 z_23 cn_20 _ _ _ (by omega) (by omega) (by omega) (by omega) hm212 hCP_20 (by rw [hcf, cfl, if_neg (by rw [hy]; simp)]) hP hS (lv_sub hl [2, 1, 0] rfl)
            · refine lv_iload_n hx hb d_Sht_conflict_52 rfl (lv_at hl 1 rfl) ?_
              refine lv_iconst (v := 1) hx hb d_Sht_conflict_53 (by decide) ?_
              refine lv_iload_n hx hb d_Sht_conflict_54 rfl (lv_at hl 2 rfl) ?_
              refine x_shl1 hx hb d_Sht_conflict_55 (ex0) hx2 (by omega) (by omega) (fun z_24 tz_24 => ?_)
              refine x_xorN hx hb d_Sht_conflict_56 (m2) ((2 ^ ex0)) hm2 tz_24 (by omega) (by omega) (fun z_25 tz_25 => ?_)
              refine lv_goto (tgt := 61) hx hb d_Sht_conflict_57 (by decide) ?_
              refine lv_istore_n (lv' := [(1, .int z_25), (0, .ref (adr 0)), (2, .int x2)]) hx hb d_Sht_conflict_61 rfl hl (by decide) rfl (fun ls hl => ?_)
              refine x_iinc (k := 2) (lv' := fun v_ => [(2, .int v_), (1, .int z_25), (0, .ref (adr 0))]) hx hb d_Sht_conflict_62 hl rfl hx2 (by decide) (by omega) (by decide) (fun v_ => rfl) (fun z_26 tz_26 ls hl => ?_)
              refine lv_goto (tgt := 27) hx hb d_Sht_conflict_65 (by decide) ?_
              have hbt : m2.testBit ex0 = true := by have q := c_16; rw [hasN_nat] at q; exact q
              have hy := hF_20 c_22
              exact ih_14 ex0 (m2 ^^^ 2 ^ ex0) z_25 z_26 cn_20 _ _ _ (by omega) (by omega) tz_25 (by omega) (xor_lt hm212 (by omega)) hCP_20 (by rw [hcf, cfl, if_pos ⟨hbt, by rw [hy]; rfl⟩]) hP hS (lv_sub hl [2, 1, 0] rfl)
    exact L_14 (_ + 1) en mk0 (x 9) z_13 cn_1 _ _ _ (Nat.lt_succ_self _) (Nat.le_refl _) hv9 (by omega) hmk12 hCP_1 rfl hP hS (lv_sub hl [2, 1, 0] rfl)
  · refine lv_sipush (v := (-1000)) hx hb d_Sht_conflict_11 (by decide) ?_
    refine e_i hx hb hr hlk hQ hS d_Sht_conflict_14 ?_
    obtain ⟨y, hw, _⟩ := hT_1 c_12
    exact ⟨_, rfl, by unfold r_cfl; rw [hw]; exact kc_m1000, CQ.of hCP_1 hP⟩
theorem d_Sht_bound_0 : decode b_Sht_bound 0 = .ok (.iload_n 2, 1) := by decide +kernel
theorem d_Sht_bound_1 : decode b_Sht_bound 1 = .ok (.ifCond .eq 17, 3) := by decide +kernel
theorem d_Sht_bound_4 : decode b_Sht_bound 4 = .ok (.aload_n 0, 1) := by decide +kernel
theorem d_Sht_bound_5 : decode b_Sht_bound 5 = .ok (.getfield 48, 3) := by decide +kernel
theorem d_Sht_bound_8 : decode b_Sht_bound 8 = .ok (.iconst 0, 1) := by decide +kernel
theorem d_Sht_bound_9 : decode b_Sht_bound 9 = .ok (.aaload, 1) := by decide +kernel
theorem d_Sht_bound_10 : decode b_Sht_bound 10 = .ok (.getfield 83, 3) := by decide +kernel
theorem d_Sht_bound_13 : decode b_Sht_bound 13 = .ok (.iload_n 1, 1) := by decide +kernel
theorem d_Sht_bound_14 : decode b_Sht_bound 14 = .ok (.iaload, 1) := by decide +kernel
theorem d_Sht_bound_15 : decode b_Sht_bound 15 = .ok (.goto 14, 3) := by decide +kernel
theorem d_Sht_bound_18 : decode b_Sht_bound 18 = .ok (.aload_n 0, 1) := by decide +kernel
theorem d_Sht_bound_19 : decode b_Sht_bound 19 = .ok (.getfield 48, 3) := by decide +kernel
theorem d_Sht_bound_22 : decode b_Sht_bound 22 = .ok (.iconst 0, 1) := by decide +kernel
theorem d_Sht_bound_23 : decode b_Sht_bound 23 = .ok (.aaload, 1) := by decide +kernel
theorem d_Sht_bound_24 : decode b_Sht_bound 24 = .ok (.getfield 80, 3) := by decide +kernel
theorem d_Sht_bound_27 : decode b_Sht_bound 27 = .ok (.iload_n 1, 1) := by decide +kernel
theorem d_Sht_bound_28 : decode b_Sht_bound 28 = .ok (.iaload, 1) := by decide +kernel
theorem d_Sht_bound_29 : decode b_Sht_bound 29 = .ok (.ireturn, 1) := by decide +kernel
set_option maxHeartbeats 4000000 in
set_option maxRecDepth 20000 in
theorem k_Sht_bound (l : Launch) (D : va_G) (cA : Nat → ClassId) (adr : Nat → Nat) (N : List Nat) (hi : wI N adr) (cn : Nat → va_E) (F : Nat → Nat → Int32) (I : Nat → Int32) (mm : Nat) (x : Nat → Int32) (dn : Bool) (hCP : CP cA adr cn I F mm x dn) (hNm : ∀ k, k < 56 + mm → k ∈ N) (f g : Nat → Int32) (ch : Bool) (hB : BP cA adr cn 14 f g ch) (kx : Nat) (xk : Int32) (hxk : xk.toInt = (kx : Int)) (hk : kx < 10) (tp : Bool) : Ct l y_Sht_bound b_Sht_bound 3 (some .int) 1 D cA [.ref (adr 0), .int xk, .int (bi tp)] (fun H => va_P D classes (wl N adr cn) H) (fun r H => ∃ z : Int32, r = some (.int z) ∧ z.toInt = bnd tp kx (tI f, tI g) ∧ va_P D classes (wl N adr cn) H) (wA N adr) := by
  refine Ct.mk (by decide) (Nat.le_of_ble_eq_true rfl) ?_
  intro p e s m args below meth c Q H locs ls hx hb hr hml hlk hown hin hK hQ hS hP hl
  have hl : lv_has ls 3 [(0, .ref (adr 0)), (1, .int xk), (2, .int (bi tp))] := hl
  have hown : s.vm.findClass "RangeSheet" = some m.cls := hown
  obtain ⟨hSR, -, ⟨hc2, hc3, hc4, hc5, hc6, hc7⟩, -, -, -⟩ := hCP
  refine lv_iload_n hx hb d_Sht_bound_0 rfl (lv_at hl 2 rfl) ?_
  refine b_bool_eq (tgt := 18) hx hb d_Sht_bound_1 (by decide) (fun c_1 => ?_) (fun c_1 => ?_)
  · refine lv_aload_n hx hb d_Sht_bound_18 rfl (lv_at hl 0 rfl) ?_
    refine w_gf hx hb hK i_Sht hown hP (hNm 0 (by omega)) hSR.1 rfl 12 (by decide) t_97 rfl rfl d_Sht_bound_19 ?_
    refine lv_iconst (v := 0) hx hb d_Sht_bound_22 (by decide) ?_
    refine w_ald hx hb hK hP (hNm 6 (by omega)) hc6 rfl (0) kc_0 (by omega) (show 0 < 11 by omega) rfl d_Sht_bound_23 ?_
    refine w_gfN hx hb hK i_Box hown hP (hNm 14 (by omega)) hB.1 rfl 0 (by decide) t_42 rfl rfl d_Sht_bound_24 ?_
    refine lv_iload_n hx hb d_Sht_bound_27 rfl (lv_at hl 1 rfl) ?_
    refine w_ld hx hb hK hP (hNm (14 + 1) (by omega)) hB.2.1 (kx) hxk (by omega) (show kx < 10 by omega) d_Sht_bound_28 (fun z_2 ez_2 => ?_)
    subst ez_2
    refine e_i hx hb hr hlk hQ hS d_Sht_bound_29 ?_
    exact ⟨_, rfl, by rw [c_1]; rfl, hP⟩
  · refine lv_aload_n hx hb d_Sht_bound_4 rfl (lv_at hl 0 rfl) ?_
    refine w_gf hx hb hK i_Sht hown hP (hNm 0 (by omega)) hSR.1 rfl 12 (by decide) t_97 rfl rfl d_Sht_bound_5 ?_
    refine lv_iconst (v := 0) hx hb d_Sht_bound_8 (by decide) ?_
    refine w_ald hx hb hK hP (hNm 6 (by omega)) hc6 rfl (0) kc_0 (by omega) (show 0 < 11 by omega) rfl d_Sht_bound_9 ?_
    refine w_gfN hx hb hK i_Box hown hP (hNm 14 (by omega)) hB.1 rfl 1 (by decide) t_48 rfl rfl d_Sht_bound_10 ?_
    refine lv_iload_n hx hb d_Sht_bound_13 rfl (lv_at hl 1 rfl) ?_
    refine w_ld hx hb hK hP (hNm (14 + 2) (by omega)) hB.2.2 (kx) hxk (by omega) (show kx < 10 by omega) d_Sht_bound_14 (fun z_3 ez_3 => ?_)
    subst ez_3
    refine lv_goto (tgt := 29) hx hb d_Sht_bound_15 (by decide) ?_
    refine e_i hx hb hr hlk hQ hS d_Sht_bound_29 ?_
    exact ⟨_, rfl, by rw [c_1]; rfl, hP⟩
