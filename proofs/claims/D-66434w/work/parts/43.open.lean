theorem d_Sht_open_0 : decode b_Sht_open 0 = .ok (.aload_n 0, 1) := by decide +kernel
theorem d_Sht_open_1 : decode b_Sht_open 1 = .ok (.getfield 180, 3) := by decide +kernel
theorem d_Sht_open_4 : decode b_Sht_open 4 = .ok (.sipush (-1000), 3) := by decide +kernel
theorem d_Sht_open_7 : decode b_Sht_open 7 = .ok (.if_icmp .eq 19, 3) := by decide +kernel
theorem d_Sht_open_10 : decode b_Sht_open 10 = .ok (.aload_n 1, 1) := by decide +kernel
theorem d_Sht_open_11 : decode b_Sht_open 11 = .ok (.aload_n 0, 1) := by decide +kernel
theorem d_Sht_open_12 : decode b_Sht_open 12 = .ok (.getfield 180, 3) := by decide +kernel
theorem d_Sht_open_15 : decode b_Sht_open 15 = .ok (.invokevirtual 183, 3) := by decide +kernel
theorem d_Sht_open_18 : decode b_Sht_open 18 = .ok (.ifCond .ne 8, 3) := by decide +kernel
theorem d_Sht_open_21 : decode b_Sht_open 21 = .ok (.aload_n 0, 1) := by decide +kernel
theorem d_Sht_open_22 : decode b_Sht_open 22 = .ok (.getfield 180, 3) := by decide +kernel
theorem d_Sht_open_25 : decode b_Sht_open 25 = .ok (.ireturn, 1) := by decide +kernel
theorem d_Sht_open_26 : decode b_Sht_open 26 = .ok (.iconst 0, 1) := by decide +kernel
theorem d_Sht_open_27 : decode b_Sht_open 27 = .ok (.istore_n 2, 1) := by decide +kernel
theorem d_Sht_open_28 : decode b_Sht_open 28 = .ok (.iload_n 2, 1) := by decide +kernel
theorem d_Sht_open_29 : decode b_Sht_open 29 = .ok (.aload_n 0, 1) := by decide +kernel
theorem d_Sht_open_30 : decode b_Sht_open 30 = .ok (.getfield 55, 3) := by decide +kernel
theorem d_Sht_open_33 : decode b_Sht_open 33 = .ok (.if_icmp .ge 17, 3) := by decide +kernel
theorem d_Sht_open_36 : decode b_Sht_open 36 = .ok (.aload_n 1, 1) := by decide +kernel
theorem d_Sht_open_37 : decode b_Sht_open 37 = .ok (.iload_n 2, 1) := by decide +kernel
theorem d_Sht_open_38 : decode b_Sht_open 38 = .ok (.invokevirtual 183, 3) := by decide +kernel
theorem d_Sht_open_41 : decode b_Sht_open 41 = .ok (.ifCond .eq 9, 3) := by decide +kernel
theorem d_Sht_open_44 : decode b_Sht_open 44 = .ok (.iinc 2 1, 3) := by decide +kernel
theorem d_Sht_open_47 : decode b_Sht_open 47 = .ok (.goto (-19), 3) := by decide +kernel
theorem d_Sht_open_50 : decode b_Sht_open 50 = .ok (.iload_n 2, 1) := by decide +kernel
theorem d_Sht_open_51 : decode b_Sht_open 51 = .ok (.aload_n 0, 1) := by decide +kernel
theorem d_Sht_open_52 : decode b_Sht_open 52 = .ok (.getfield 55, 3) := by decide +kernel
theorem d_Sht_open_55 : decode b_Sht_open 55 = .ok (.if_icmp .ge 7, 3) := by decide +kernel
theorem d_Sht_open_58 : decode b_Sht_open 58 = .ok (.iload_n 2, 1) := by decide +kernel
theorem d_Sht_open_59 : decode b_Sht_open 59 = .ok (.goto 6, 3) := by decide +kernel
theorem d_Sht_open_62 : decode b_Sht_open 62 = .ok (.sipush (-1000), 3) := by decide +kernel
theorem d_Sht_open_65 : decode b_Sht_open 65 = .ok (.ireturn, 1) := by decide +kernel
set_option maxHeartbeats 4000000 in
set_option maxRecDepth 20000 in
theorem k_Sht_open (l : Launch) (D : va_G) (cA : Nat → ClassId) (adr : Nat → Nat) (N : List Nat) (hi : wI N adr) (cn : Nat → va_E) (F : Nat → Nat → Int32) (nn mm : Nat) (x : Nat → Int32) (dn : Bool) (hSR : SR cA adr cn F mm x dn) (hNm : ∀ k, k < 56 + mm → k ∈ N) (hn10 : nn ≤ 10) (hv1 : (x 1).toInt = (nn : Int)) (b : Nat) (f g : Nat → Int32) (ch : Bool) (hB : BP cA adr cn b f g ch) (hbd : 8 ≤ b ∧ b + 2 < 47) (hne : Ne nn (tI f) (tI g)) (xq : Bx) (hxx : Eqb nn (tI f) (tI g) xq.1 xq.2) (ld : Int) (hld : ((x 15).toInt = -1000 ∧ ld = -1) ∨ ((x 15).toInt = ld ∧ 0 ≤ ld ∧ ld < nn)) : Ct l y_Sht_open b_Sht_open 3 (some .int) 3 D cA [.ref (adr 0), .ref (adr b)] (fun H => va_P D classes (wl N adr cn) H) (fun r H => ∃ z : Int32, r = some (.int z) ∧ ((opn nn ld xq = none ∧ z.toInt = -1000) ∨ ∃ k, opn nn ld xq = some k ∧ z.toInt = (k : Int)) ∧ va_P D classes (wl N adr cn) H) (wA N adr) := by
  refine Ct.mk (by decide) (Nat.le_of_ble_eq_true rfl) ?_
  intro p e s m args below meth c Q H locs ls hx hb hr hml hlk hown hin hK hQ hS hP hl
  have hl : lv_has ls 3 [(0, .ref (adr 0)), (1, .ref (adr b))] := hl
  have hown : s.vm.findClass "RangeSheet" = some m.cls := hown
  have hMb : BM N b := ⟨hNm _ (by omega), hNm _ (by omega), hNm _ (by omega)⟩
  refine lv_aload_n hx hb d_Sht_open_0 rfl (lv_at hl 0 rfl) ?_
  refine w_gf hx hb hK i_Sht hown hP (hNm 0 (by omega)) hSR.1 rfl 15 (by decide) t_100 rfl rfl d_Sht_open_1 ?_
  refine lv_sipush (v := (-1000)) hx hb d_Sht_open_4 (by decide) ?_
  refine b_icmp_eq (tgt := 26) hx hb d_Sht_open_7 (by decide) rfl kc_m1000 (fun c_1 => ?_) (fun c_1 => ?_)
  · have hnl : ¬ (0 ≤ ld ∧ xq.1 ld.toNat < xq.2 ld.toNat) := fun h => by omega
    refine lv_iconst (v := 0) hx hb d_Sht_open_26 (by decide) ?_
    refine lv_istore_n (lv' := [(2, .int (0 : Int32)), (0, .ref (adr 0)), (1, .ref (adr b))]) hx hb d_Sht_open_27 rfl hl (by decide) rfl (fun ls hl => ?_)
    have L_2 : ∀ (n : Nat) (kx : Nat) (x2 : Int32) (H : Heap) (locs : List Loc) (ls : Array Slot), (nn - kx) < n → (kx ≤ nn) → (x2.toInt = (kx : Int)) → (∀ i, i < kx → ¬ tI f i < tI g i) → va_P D classes (wl N adr cn) H → va_S (wA N adr) s.heap H locs → lv_has ls 3 [(0, .ref (adr 0)), (1, .ref (adr b)), (2, .int x2)] → W p l e (rl 3) s m args below meth c H locs 0 0 Q (F0 m 28 ls []) := by
      intro n
      induction n with
      | zero => intro kx x2 H locs ls hmu; exact absurd hmu (Nat.not_lt_zero _)
      | succ n ih_2 =>
        intro kx x2 H locs ls hmu hkx h2 hno hP hS hl
        refine lv_iload_n hx hb d_Sht_open_28 rfl (lv_at hl 2 rfl) ?_
        refine lv_aload_n hx hb d_Sht_open_29 rfl (lv_at hl 0 rfl) ?_
        refine w_gf hx hb hK i_Sht hown hP (hNm 0 (by omega)) hSR.1 rfl 1 (by decide) t_86 rfl rfl d_Sht_open_30 ?_
        refine b_icmp_ge (tgt := 50) hx hb d_Sht_open_33 (by decide) h2 hv1 (fun c_3 => ?_) (fun c_3 => ?_)
        · refine lv_iload_n hx hb d_Sht_open_50 rfl (lv_at hl 2 rfl) ?_
          refine lv_aload_n hx hb d_Sht_open_51 rfl (lv_at hl 0 rfl) ?_
          refine w_gf hx hb hK i_Sht hown hP (hNm 0 (by omega)) hSR.1 rfl 1 (by decide) t_86 rfl rfl d_Sht_open_52 ?_
          refine b_icmp_ge (tgt := 62) hx hb d_Sht_open_55 (by decide) h2 hv1 (fun c_4 => ?_) (fun c_4 => ?_)
          · refine lv_sipush (v := (-1000)) hx hb d_Sht_open_62 (by decide) ?_
            refine e_i hx hb hr hlk hQ hS d_Sht_open_65 ?_
            refine ⟨_, rfl, Or.inl ⟨?_, kc_m1000⟩, hP⟩
            unfold opn; rw [if_neg hnl]; exact fop_none (fun i hi => by have e0 := hxx i hi; have := hno i (by omega); unfold tI at *; omega)
          · refine lv_iload_n hx hb d_Sht_open_58 rfl (lv_at hl 2 rfl) ?_
            refine lv_goto (tgt := 65) hx hb d_Sht_open_59 (by decide) ?_
            refine e_i hx hb hr hlk hQ hS d_Sht_open_65 ?_
            refine ⟨_, rfl, Or.inr ⟨kx, ?_, h2⟩, hP⟩
            unfold opn; rw [if_neg hnl]; exact fop_some (by omega) (by have e0 := hxx kx (by omega); have n0 := hne kx (by omega); unfold tI at *; omega) (fun i hi => by have e0 := hxx i (by omega); have := hno i hi; unfold tI at *; omega)
        · refine lv_aload_n hx hb d_Sht_open_36 rfl (lv_at hl 1 rfl) ?_
          refine lv_iload_n hx hb d_Sht_open_37 rfl (lv_at hl 2 rfl) ?_
          refine x_V (As := [.int x2]) (rest := []) hx hb hml hown hK (k_Box_isFixed l D cA adr N hi cn b f g ch ⟨hB.1, hB.2.1, hB.2.2⟩ ⟨hNm _ (by omega), hNm _ (by omega), hNm _ (by omega)⟩ kx x2 h2 (by omega)) t_711 t_2 t_708 t_709 t_710 yk_Box_isFixed ⟨Nat.le_of_ble_eq_true rfl, Nat.le_of_ble_eq_true rfl⟩ (w_rec hK hP hMb.1 hB.1 rfl) hP rfl hl.1 rfl (Nat.le_of_ble_eq_true rfl) d_Sht_open_38 ⟨Nat.le_of_ble_eq_true rfl, Nat.le_of_ble_eq_true rfl⟩ hS (fun q h => h) (fun r H locs hq _ hS => ?_)
          obtain ⟨rfl, hP⟩ := hq
          refine W.eq (g2 := F0 m 41 ls [.int (bi (decide ((f kx).toInt = (g kx).toInt)))]) rfl ?_
          refine b_bool_eq (tgt := 50) hx hb d_Sht_open_41 (by decide) (fun c_5 => ?_) (fun c_5 => ?_)
          · have hc_5 := of_decide_eq_false c_5
            refine lv_iload_n hx hb d_Sht_open_50 rfl (lv_at hl 2 rfl) ?_
            refine lv_aload_n hx hb d_Sht_open_51 rfl (lv_at hl 0 rfl) ?_
            refine w_gf hx hb hK i_Sht hown hP (hNm 0 (by omega)) hSR.1 rfl 1 (by decide) t_86 rfl rfl d_Sht_open_52 ?_
            refine b_icmp_ge (tgt := 62) hx hb d_Sht_open_55 (by decide) h2 hv1 (fun c_6 => ?_) (fun c_6 => ?_)
            · refine lv_sipush (v := (-1000)) hx hb d_Sht_open_62 (by decide) ?_
              refine e_i hx hb hr hlk hQ hS d_Sht_open_65 ?_
              refine ⟨_, rfl, Or.inl ⟨?_, kc_m1000⟩, hP⟩
              unfold opn; rw [if_neg hnl]; exact fop_none (fun i hi => by have e0 := hxx i hi; have := hno i (by omega); unfold tI at *; omega)
            · refine lv_iload_n hx hb d_Sht_open_58 rfl (lv_at hl 2 rfl) ?_
              refine lv_goto (tgt := 65) hx hb d_Sht_open_59 (by decide) ?_
              refine e_i hx hb hr hlk hQ hS d_Sht_open_65 ?_
              refine ⟨_, rfl, Or.inr ⟨kx, ?_, h2⟩, hP⟩
              unfold opn; rw [if_neg hnl]; exact fop_some (by omega) (by have e0 := hxx kx (by omega); have n0 := hne kx (by omega); unfold tI at *; omega) (fun i hi => by have e0 := hxx i (by omega); have := hno i hi; unfold tI at *; omega)
          · have hc_5 := of_decide_eq_true c_5
            refine x_iinc (k := 2) (lv' := fun v_ => [(2, .int v_), (0, .ref (adr 0)), (1, .ref (adr b))]) hx hb d_Sht_open_44 hl rfl h2 (by decide) (by omega) (by decide) (fun v_ => rfl) (fun z_7 tz_7 ls hl => ?_)
            refine lv_goto (tgt := 28) hx hb d_Sht_open_47 (by decide) ?_
            exact ih_2 (kx + 1) z_7 _ _ _ (by omega) (by omega) (by omega) (fun i hi => by rcases (by omega : i < kx ∨ i = kx) with z | z; exact hno i z; (rw [z]; unfold tI; omega)) hP hS (lv_sub hl [1, 2, 0] rfl)
    exact L_2 (_ + 1) 0 (0 : Int32) _ _ _ (Nat.lt_succ_self _) (by omega) kc_0 (fun i hi => absurd hi (by omega)) hP hS (lv_sub hl [1, 2, 0] rfl)
  · have hld2 : (x 15).toInt = (ld.toNat : Int) := by omega
    refine lv_aload_n hx hb d_Sht_open_10 rfl (lv_at hl 1 rfl) ?_
    refine lv_aload_n hx hb d_Sht_open_11 rfl (lv_at hl 0 rfl) ?_
    refine w_gf hx hb hK i_Sht hown hP (hNm 0 (by omega)) hSR.1 rfl 15 (by decide) t_100 rfl rfl d_Sht_open_12 ?_
    refine x_V (As := [.int (x 15)]) (rest := []) hx hb hml hown hK (k_Box_isFixed l D cA adr N hi cn b f g ch ⟨hB.1, hB.2.1, hB.2.2⟩ ⟨hNm _ (by omega), hNm _ (by omega), hNm _ (by omega)⟩ ld.toNat (x 15) hld2 (by omega)) t_711 t_2 t_708 t_709 t_710 yk_Box_isFixed ⟨Nat.le_of_ble_eq_true rfl, Nat.le_of_ble_eq_true rfl⟩ (w_rec hK hP hMb.1 hB.1 rfl) hP rfl hl.1 rfl (Nat.le_of_ble_eq_true rfl) d_Sht_open_15 ⟨Nat.le_of_ble_eq_true rfl, Nat.le_of_ble_eq_true rfl⟩ hS (fun q h => h) (fun r H locs hq _ hS => ?_)
    obtain ⟨rfl, hP⟩ := hq
    refine W.eq (g2 := F0 m 18 ls [.int (bi (decide ((f ld.toNat).toInt = (g ld.toNat).toInt)))]) rfl ?_
    refine b_bool_ne (tgt := 26) hx hb d_Sht_open_18 (by decide) (fun c_8 => ?_) (fun c_8 => ?_)
    · have hc_8 := of_decide_eq_true c_8
      have hnl : ¬ (0 ≤ ld ∧ xq.1 ld.toNat < xq.2 ld.toNat) := fun h => by have e0 := hxx ld.toNat (by omega); have h2 := h.2; unfold tI at *; omega
      refine lv_iconst (v := 0) hx hb d_Sht_open_26 (by decide) ?_
      refine lv_istore_n (lv' := [(2, .int (0 : Int32)), (0, .ref (adr 0)), (1, .ref (adr b))]) hx hb d_Sht_open_27 rfl hl (by decide) rfl (fun ls hl => ?_)
      have L_9 : ∀ (n : Nat) (kx : Nat) (x2 : Int32) (H : Heap) (locs : List Loc) (ls : Array Slot), (nn - kx) < n → (kx ≤ nn) → (x2.toInt = (kx : Int)) → (∀ i, i < kx → ¬ tI f i < tI g i) → va_P D classes (wl N adr cn) H → va_S (wA N adr) s.heap H locs → lv_has ls 3 [(0, .ref (adr 0)), (1, .ref (adr b)), (2, .int x2)] → W p l e (rl 3) s m args below meth c H locs 0 0 Q (F0 m 28 ls []) := by
        intro n
        induction n with
        | zero => intro kx x2 H locs ls hmu; exact absurd hmu (Nat.not_lt_zero _)
        | succ n ih_9 =>
          intro kx x2 H locs ls hmu hkx h2 hno hP hS hl
          refine lv_iload_n hx hb d_Sht_open_28 rfl (lv_at hl 2 rfl) ?_
          refine lv_aload_n hx hb d_Sht_open_29 rfl (lv_at hl 0 rfl) ?_
          refine w_gf hx hb hK i_Sht hown hP (hNm 0 (by omega)) hSR.1 rfl 1 (by decide) t_86 rfl rfl d_Sht_open_30 ?_
          refine b_icmp_ge (tgt := 50) hx hb d_Sht_open_33 (by decide) h2 hv1 (fun c_10 => ?_) (fun c_10 => ?_)
          · refine lv_iload_n hx hb d_Sht_open_50 rfl (lv_at hl 2 rfl) ?_
            refine lv_aload_n hx hb d_Sht_open_51 rfl (lv_at hl 0 rfl) ?_
            refine w_gf hx hb hK i_Sht hown hP (hNm 0 (by omega)) hSR.1 rfl 1 (by decide) t_86 rfl rfl d_Sht_open_52 ?_
            refine b_icmp_ge (tgt := 62) hx hb d_Sht_open_55 (by decide) h2 hv1 (fun c_11 => ?_) (fun c_11 => ?_)
            · refine lv_sipush (v := (-1000)) hx hb d_Sht_open_62 (by decide) ?_
              refine e_i hx hb hr hlk hQ hS d_Sht_open_65 ?_
              refine ⟨_, rfl, Or.inl ⟨?_, kc_m1000⟩, hP⟩
              unfold opn; rw [if_neg hnl]; exact fop_none (fun i hi => by have e0 := hxx i hi; have := hno i (by omega); unfold tI at *; omega)
            · refine lv_iload_n hx hb d_Sht_open_58 rfl (lv_at hl 2 rfl) ?_
              refine lv_goto (tgt := 65) hx hb d_Sht_open_59 (by decide) ?_
              refine e_i hx hb hr hlk hQ hS d_Sht_open_65 ?_
              refine ⟨_, rfl, Or.inr ⟨kx, ?_, h2⟩, hP⟩
              unfold opn; rw [if_neg hnl]; exact fop_some (by omega) (by have e0 := hxx kx (by omega); have n0 := hne kx (by omega); unfold tI at *; omega) (fun i hi => by have e0 := hxx i (by omega); have := hno i hi; unfold tI at *; omega)
          · refine lv_aload_n hx hb d_Sht_open_36 rfl (lv_at hl 1 rfl) ?_
            refine lv_iload_n hx hb d_Sht_open_37 rfl (lv_at hl 2 rfl) ?_
            refine x_V (As := [.int x2]) (rest := []) hx hb hml hown hK (k_Box_isFixed l D cA adr N hi cn b f g ch ⟨hB.1, hB.2.1, hB.2.2⟩ ⟨hNm _ (by omega), hNm _ (by omega), hNm _ (by omega)⟩ kx x2 h2 (by omega)) t_711 t_2 t_708 t_709 t_710 yk_Box_isFixed ⟨Nat.le_of_ble_eq_true rfl, Nat.le_of_ble_eq_true rfl⟩ (w_rec hK hP hMb.1 hB.1 rfl) hP rfl hl.1 rfl (Nat.le_of_ble_eq_true rfl) d_Sht_open_38 ⟨Nat.le_of_ble_eq_true rfl, Nat.le_of_ble_eq_true rfl⟩ hS (fun q h => h) (fun r H locs hq _ hS => ?_)
            obtain ⟨rfl, hP⟩ := hq
            refine W.eq (g2 := F0 m 41 ls [.int (bi (decide ((f kx).toInt = (g kx).toInt)))]) rfl ?_
            refine b_bool_eq (tgt := 50) hx hb d_Sht_open_41 (by decide) (fun c_12 => ?_) (fun c_12 => ?_)
            · have hc_12 := of_decide_eq_false c_12
              refine lv_iload_n hx hb d_Sht_open_50 rfl (lv_at hl 2 rfl) ?_
              refine lv_aload_n hx hb d_Sht_open_51 rfl (lv_at hl 0 rfl) ?_
              refine w_gf hx hb hK i_Sht hown hP (hNm 0 (by omega)) hSR.1 rfl 1 (by decide) t_86 rfl rfl d_Sht_open_52 ?_
              refine b_icmp_ge (tgt := 62) hx hb d_Sht_open_55 (by decide) h2 hv1 (fun c_13 => ?_) (fun c_13 => ?_)
              · refine lv_sipush (v := (-1000)) hx hb d_Sht_open_62 (by decide) ?_
                refine e_i hx hb hr hlk hQ hS d_Sht_open_65 ?_
                refine ⟨_, rfl, Or.inl ⟨?_, kc_m1000⟩, hP⟩
                unfold opn; rw [if_neg hnl]; exact fop_none (fun i hi => by have e0 := hxx i hi; have := hno i (by omega); unfold tI at *; omega)
              · refine lv_iload_n hx hb d_Sht_open_58 rfl (lv_at hl 2 rfl) ?_
                refine lv_goto (tgt := 65) hx hb d_Sht_open_59 (by decide) ?_
                refine e_i hx hb hr hlk hQ hS d_Sht_open_65 ?_
                refine ⟨_, rfl, Or.inr ⟨kx, ?_, h2⟩, hP⟩
                unfold opn; rw [if_neg hnl]; exact fop_some (by omega) (by have e0 := hxx kx (by omega); have n0 := hne kx (by omega); unfold tI at *; omega) (fun i hi => by have e0 := hxx i (by omega); have := hno i hi; unfold tI at *; omega)
            · have hc_12 := of_decide_eq_true c_12
              refine x_iinc (k := 2) (lv' := fun v_ => [(2, .int v_), (0, .ref (adr 0)), (1, .ref (adr b))]) hx hb d_Sht_open_44 hl rfl h2 (by decide) (by omega) (by decide) (fun v_ => rfl) (fun z_14 tz_14 ls hl => ?_)
              refine lv_goto (tgt := 28) hx hb d_Sht_open_47 (by decide) ?_
              exact ih_9 (kx + 1) z_14 _ _ _ (by omega) (by omega) (by omega) (fun i hi => by rcases (by omega : i < kx ∨ i = kx) with z | z; exact hno i z; (rw [z]; unfold tI; omega)) hP hS (lv_sub hl [1, 2, 0] rfl)
      exact L_9 (_ + 1) 0 (0 : Int32) _ _ _ (Nat.lt_succ_self _) (by omega) kc_0 (fun i hi => absurd hi (by omega)) hP hS (lv_sub hl [1, 2, 0] rfl)
    · have hc_8 := of_decide_eq_false c_8
      refine lv_aload_n hx hb d_Sht_open_21 rfl (lv_at hl 0 rfl) ?_
      refine w_gf hx hb hK i_Sht hown hP (hNm 0 (by omega)) hSR.1 rfl 15 (by decide) t_100 rfl rfl d_Sht_open_22 ?_
      refine e_i hx hb hr hlk hQ hS d_Sht_open_25 ?_
      refine ⟨_, rfl, Or.inr ⟨ld.toNat, ?_, by omega⟩, hP⟩
      unfold opn; rw [if_pos ⟨by omega, by have e0 := hxx ld.toNat (by omega); have n0 := hne ld.toNat (by omega); unfold tI at *; omega⟩]
