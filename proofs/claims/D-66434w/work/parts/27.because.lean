theorem bnd_eq {F : Nat → Nat → Int32} {n k : Nat} {y : Bx} {tp : Bool} {z : Int} (hk : k < n) (hE : Eqb n (bl F 0) (bh F 0) y.1 y.2) (hz : z = if tp = false then (F 18 k).toInt else (F 19 k).toInt) : z = bnd tp k y := by
  have h := hE k hk
  rw [bl_0, bh_0] at h
  unfold bnd
  rw [hz, h.1, h.2]
  cases tp <;> simp
theorem d_Mod_because_0 : decode b_Mod_because 0 = .ok (.aload_n 0, 1) := by decide +kernel
theorem d_Mod_because_1 : decode b_Mod_because 1 = .ok (.iconst 0, 1) := by decide +kernel
theorem d_Mod_because_2 : decode b_Mod_because 2 = .ok (.putfield 74, 3) := by decide +kernel
theorem d_Mod_because_5 : decode b_Mod_because 5 = .ok (.aload_n 0, 1) := by decide +kernel
theorem d_Mod_because_6 : decode b_Mod_because 6 = .ok (.iload_n 1, 1) := by decide +kernel
theorem d_Mod_because_7 : decode b_Mod_because 7 = .ok (.invokevirtual 96, 3) := by decide +kernel
theorem d_Mod_because_10 : decode b_Mod_because 10 = .ok (.ifCond .ne 9, 3) := by decide +kernel
theorem d_Mod_because_13 : decode b_Mod_because 13 = .ok (.aload_n 0, 1) := by decide +kernel
theorem d_Mod_because_14 : decode b_Mod_because 14 = .ok (.iconst 1, 1) := by decide +kernel
theorem d_Mod_because_15 : decode b_Mod_because 15 = .ok (.invokevirtual 82, 3) := by decide +kernel
theorem d_Mod_because_18 : decode b_Mod_because 18 = .ok (.ireturn, 1) := by decide +kernel
theorem d_Mod_because_19 : decode b_Mod_because 19 = .ok (.aload_n 0, 1) := by decide +kernel
theorem d_Mod_because_20 : decode b_Mod_because 20 = .ok (.aload_n 0, 1) := by decide +kernel
theorem d_Mod_because_21 : decode b_Mod_because 21 = .ok (.getfield 110, 3) := by decide +kernel
theorem d_Mod_because_24 : decode b_Mod_because 24 = .ok (.invokevirtual 208, 3) := by decide +kernel
theorem d_Mod_because_27 : decode b_Mod_because 27 = .ok (.ifCond .ne 7, 3) := by decide +kernel
theorem d_Mod_because_30 : decode b_Mod_because 30 = .ok (.sipush (-1000), 3) := by decide +kernel
theorem d_Mod_because_33 : decode b_Mod_because 33 = .ok (.ireturn, 1) := by decide +kernel
theorem d_Mod_because_34 : decode b_Mod_because 34 = .ok (.iload_n 2, 1) := by decide +kernel
theorem d_Mod_because_35 : decode b_Mod_because 35 = .ok (.ifCond .eq 12, 3) := by decide +kernel
theorem d_Mod_because_38 : decode b_Mod_because 38 = .ok (.aload_n 0, 1) := by decide +kernel
theorem d_Mod_because_39 : decode b_Mod_because 39 = .ok (.getfield 53, 3) := by decide +kernel
theorem d_Mod_because_42 : decode b_Mod_because 42 = .ok (.iload_n 1, 1) := by decide +kernel
theorem d_Mod_because_43 : decode b_Mod_because 43 = .ok (.iaload, 1) := by decide +kernel
theorem d_Mod_because_44 : decode b_Mod_because 44 = .ok (.goto 9, 3) := by decide +kernel
theorem d_Mod_because_47 : decode b_Mod_because 47 = .ok (.aload_n 0, 1) := by decide +kernel
theorem d_Mod_because_48 : decode b_Mod_because 48 = .ok (.getfield 50, 3) := by decide +kernel
theorem d_Mod_because_51 : decode b_Mod_because 51 = .ok (.iload_n 1, 1) := by decide +kernel
theorem d_Mod_because_52 : decode b_Mod_because 52 = .ok (.iaload, 1) := by decide +kernel
theorem d_Mod_because_53 : decode b_Mod_because 53 = .ok (.istore_n 3, 1) := by decide +kernel
theorem d_Mod_because_54 : decode b_Mod_because 54 = .ok (.aload_n 0, 1) := by decide +kernel
theorem d_Mod_because_55 : decode b_Mod_because 55 = .ok (.getfield 110, 3) := by decide +kernel
theorem d_Mod_because_58 : decode b_Mod_because 58 = .ok (.istore 4, 2) := by decide +kernel
theorem d_Mod_because_60 : decode b_Mod_because 60 = .ok (.bipush 11, 2) := by decide +kernel
theorem d_Mod_because_62 : decode b_Mod_because 62 = .ok (.istore 5, 2) := by decide +kernel
theorem d_Mod_because_64 : decode b_Mod_because 64 = .ok (.iload 5, 2) := by decide +kernel
theorem d_Mod_because_66 : decode b_Mod_because 66 = .ok (.ifCond .lt 82, 3) := by decide +kernel
theorem d_Mod_because_69 : decode b_Mod_because 69 = .ok (.iload 4, 2) := by decide +kernel
theorem d_Mod_because_71 : decode b_Mod_because 71 = .ok (.iload 5, 2) := by decide +kernel
theorem d_Mod_because_73 : decode b_Mod_because 73 = .ok (.invokestatic 113, 3) := by decide +kernel
theorem d_Mod_because_76 : decode b_Mod_because 76 = .ok (.ifCond .eq 44, 3) := by decide +kernel
theorem d_Mod_because_79 : decode b_Mod_because 79 = .ok (.aload_n 0, 1) := by decide +kernel
theorem d_Mod_because_80 : decode b_Mod_because 80 = .ok (.iload 4, 2) := by decide +kernel
theorem d_Mod_because_82 : decode b_Mod_because 82 = .ok (.iconst 1, 1) := by decide +kernel
theorem d_Mod_because_83 : decode b_Mod_because 83 = .ok (.iload 5, 2) := by decide +kernel
theorem d_Mod_because_85 : decode b_Mod_because 85 = .ok (.ishl, 1) := by decide +kernel
theorem d_Mod_because_86 : decode b_Mod_because 86 = .ok (.ixor, 1) := by decide +kernel
theorem d_Mod_because_87 : decode b_Mod_because 87 = .ok (.invokevirtual 208, 3) := by decide +kernel
theorem d_Mod_because_90 : decode b_Mod_because 90 = .ok (.ifCond .eq 30, 3) := by decide +kernel
theorem d_Mod_because_93 : decode b_Mod_because 93 = .ok (.iload_n 2, 1) := by decide +kernel
theorem d_Mod_because_94 : decode b_Mod_because 94 = .ok (.ifCond .eq 12, 3) := by decide +kernel
theorem d_Mod_because_97 : decode b_Mod_because 97 = .ok (.aload_n 0, 1) := by decide +kernel
theorem d_Mod_because_98 : decode b_Mod_because 98 = .ok (.getfield 53, 3) := by decide +kernel
theorem d_Mod_because_101 : decode b_Mod_because 101 = .ok (.iload_n 1, 1) := by decide +kernel
theorem d_Mod_because_102 : decode b_Mod_because 102 = .ok (.iaload, 1) := by decide +kernel
theorem d_Mod_because_103 : decode b_Mod_because 103 = .ok (.goto 9, 3) := by decide +kernel
theorem d_Mod_because_106 : decode b_Mod_because 106 = .ok (.aload_n 0, 1) := by decide +kernel
theorem d_Mod_because_107 : decode b_Mod_because 107 = .ok (.getfield 50, 3) := by decide +kernel
theorem d_Mod_because_110 : decode b_Mod_because 110 = .ok (.iload_n 1, 1) := by decide +kernel
theorem d_Mod_because_111 : decode b_Mod_because 111 = .ok (.iaload, 1) := by decide +kernel
theorem d_Mod_because_112 : decode b_Mod_because 112 = .ok (.iload_n 3, 1) := by decide +kernel
theorem d_Mod_because_113 : decode b_Mod_because 113 = .ok (.if_icmp .ne 7, 3) := by decide +kernel
theorem d_Mod_because_116 : decode b_Mod_because 116 = .ok (.iconst 1, 1) := by decide +kernel
theorem d_Mod_because_117 : decode b_Mod_because 117 = .ok (.goto 4, 3) := by decide +kernel
theorem d_Mod_because_120 : decode b_Mod_because 120 = .ok (.iconst 0, 1) := by decide +kernel
theorem d_Mod_because_121 : decode b_Mod_because 121 = .ok (.istore 6, 2) := by decide +kernel
theorem d_Mod_because_123 : decode b_Mod_because 123 = .ok (.iload 6, 2) := by decide +kernel
theorem d_Mod_because_125 : decode b_Mod_because 125 = .ok (.ifCond .eq 13, 3) := by decide +kernel
theorem d_Mod_because_128 : decode b_Mod_because 128 = .ok (.iload 4, 2) := by decide +kernel
theorem d_Mod_because_130 : decode b_Mod_because 130 = .ok (.iconst 1, 1) := by decide +kernel
theorem d_Mod_because_131 : decode b_Mod_because 131 = .ok (.iload 5, 2) := by decide +kernel
theorem d_Mod_because_133 : decode b_Mod_because 133 = .ok (.ishl, 1) := by decide +kernel
theorem d_Mod_because_134 : decode b_Mod_because 134 = .ok (.ixor, 1) := by decide +kernel
theorem d_Mod_because_135 : decode b_Mod_because 135 = .ok (.goto 5, 3) := by decide +kernel
theorem d_Mod_because_138 : decode b_Mod_because 138 = .ok (.iload 4, 2) := by decide +kernel
theorem d_Mod_because_140 : decode b_Mod_because 140 = .ok (.istore 4, 2) := by decide +kernel
theorem d_Mod_because_142 : decode b_Mod_because 142 = .ok (.iinc 5 (-1), 3) := by decide +kernel
theorem d_Mod_because_145 : decode b_Mod_because 145 = .ok (.goto (-81), 3) := by decide +kernel
theorem d_Mod_because_148 : decode b_Mod_because 148 = .ok (.iload 4, 2) := by decide +kernel
theorem d_Mod_because_150 : decode b_Mod_because 150 = .ok (.ireturn, 1) := by decide +kernel
set_option maxHeartbeats 4000000 in
set_option maxRecDepth 20000 in
theorem k_Mod_because (l : Launch) (D : va_G) (cA : Nat → ClassId) (adr : Nat → Nat) (hi : wI mN adr) (I : Nat → Int32) (F : Nat → Nat → Int32) (nn mm en mk : Nat) (ch : Bool) (hch : I 20 = bi ch) (hWF : WF I F nn mm en mk) (xk : Int32) (tp : Bool) : Ct l y_Mod_because b_Mod_because 7 (some .int) 18 D cA [.ref (adr 0), .int xk, .int (bi tp)] (fun H => MP D cA adr I F H) (fun r H => ∃ z : Int32, r = some (.int z) ∧ ((¬ (0 ≤ xk.toInt ∧ xk.toInt < nn) ∧ MQ2 D cA adr 1 I F H) ∨ ((0 ≤ xk.toInt ∧ xk.toInt < nn) ∧ z.toInt = r_bcs F nn mm en mk tp xk.toInt.toNat ∧ MQ2 D cA adr 0 I F H))) (wA mN adr) := by
  refine Ct.mk (by decide) (Nat.le_of_ble_eq_true rfl) ?_
  intro p e s m args below meth c Q H locs ls hx hb hr hml hlk hown hin hK hQ hS hP hl
  have hl : lv_has ls 7 [(0, .ref (adr 0)), (1, .int xk), (2, .int (bi tp))] := hl
  have hown : s.vm.findClass "RangeSheetModel" = some m.cls := hown
  obtain ⟨hW, hE, hen, ⟨hmk, hmke⟩, htd, hsp, hsd, hset, hgd⟩ := hWF
  have hn1 : (I 1).toInt = (nn : Int) := hW.2.2.1
  have hm1 : (I 4).toInt = (mm : Int) := hW.2.2.2.1
  have hn10 := hW.1
  have hm12 := hW.2.1
  have hen12 := hE.1
  have hmk12 : mk < 2 ^ 12 := Nat.lt_of_lt_of_le hmke (Nat.pow_le_pow_right (by decide) hen12)
  refine lv_aload_n hx hb d_Mod_because_0 rfl (lv_at hl 0 rfl) ?_
  refine lv_iconst (v := 0) hx hb d_Mod_because_1 (by decide) ?_
  refine m_pi hx hb hK hown hi hP hS wA_mem 0 (by decide) t_737 rfl rfl d_Mod_because_2 (fun H locs hP hS => ?_)
  refine lv_aload_n hx hb d_Mod_because_5 rfl (lv_at hl 0 rfl) ?_
  refine lv_iload_n hx hb d_Mod_because_6 rfl (lv_at hl 1 rfl) ?_
  refine x_V (As := [.int xk]) (rest := []) hx hb hml hown hK (k_Mod_isCell l D cA adr hi (va_up I 0 (0 : Int32)) F nn xk hn10 hn1) t_879 t_4 t_876 t_878 ts_18 yk_Mod_isCell ⟨Nat.le_of_ble_eq_true rfl, Nat.le_of_ble_eq_true rfl⟩ (m_rec hK hP) hP rfl hl.1 rfl (Nat.le_of_ble_eq_true rfl) d_Mod_because_7 ⟨Nat.le_of_ble_eq_true rfl, Nat.le_of_ble_eq_true rfl⟩ hS (fun q h => h) (fun r H locs hq _ hS => ?_)
  obtain ⟨rfl, hP⟩ := hq
  refine W.eq (g2 := F0 m 10 ls [.int (bi (decide (0 ≤ xk.toInt ∧ xk.toInt ≤ (nn : Int) - 1)))]) rfl ?_
  refine b_bool_ne (tgt := 19) hx hb d_Mod_because_10 (by decide) (fun c_1 => ?_) (fun c_1 => ?_)
  · have hc_1 := of_decide_eq_true c_1
    have hxk : xk.toInt = (xk.toInt.toNat : Int) := by omega
    refine lv_aload_n hx hb d_Mod_because_19 rfl (lv_at hl 0 rfl) ?_
    refine lv_aload_n hx hb d_Mod_because_20 rfl (lv_at hl 0 rfl) ?_
    refine m_gi (v := (I 17)) hx hb hK hown hP 17 (by decide) t_754 rfl d_Mod_because_21 ?_
    refine x_V (As := [.int (I 17)]) (rest := []) hx hb hml hown hK (k_Mod_narrowWith l D cA adr hi (va_up I 0 (0 : Int32)) F nn mm en mk (I 17) ch hmk hch (hW.fr rfl rfl ⟨rfl, rfl, rfl, rfl, rfl, rfl, rfl, rfl⟩) hE hen) t_906 t_4 t_903 t_905 ts_19 yk_Mod_narrowWith ⟨Nat.le_of_ble_eq_true rfl, Nat.le_of_ble_eq_true rfl⟩ (m_rec hK hP) hP rfl hl.1 rfl (Nat.le_of_ble_eq_true rfl) d_Mod_because_24 ⟨Nat.le_of_ble_eq_true rfl, Nat.le_of_ble_eq_true rfl⟩ hS (fun q h => h) (fun r H locs hq _ hS => ?_)
    obtain ⟨I_2, F_2, q_2, c_2, rfl, hFr_2, h20_2, hT_2, hF_2, hP⟩ := hq
    refine W.eq (g2 := F0 m 27 ls [.int (bi q_2)]) rfl ?_
    refine b_bool_ne (tgt := 34) hx hb d_Mod_because_27 (by decide) (fun c_3 => ?_) (fun c_3 => ?_)
    · obtain ⟨y0, hw0, hE0⟩ := hT_2 c_3
      refine lv_iload_n hx hb d_Mod_because_34 rfl (lv_at hl 2 rfl) ?_
      have K_204 : ∀ (z_204_0 : Int32), z_204_0.toInt = (if tp = false then (F_2 18 (xk.toInt.toNat)).toInt else (F_2 19 (xk.toInt.toNat)).toInt) → W p l e (rl 18) s m args below meth c H locs 0 0 Q (F0 m 53 ls [.int z_204_0]) := by
        intro z_204_0 hz_204_0
        have hdue := bnd_eq (tp := tp) (show xk.toInt.toNat < nn by omega) hE0 hz_204_0
        refine lv_istore_n (lv' := [(3, .int z_204_0), (0, .ref (adr 0)), (1, .int xk), (2, .int (bi tp))]) hx hb d_Mod_because_53 rfl hl (by decide) rfl (fun ls hl => ?_)
        refine lv_aload_n hx hb d_Mod_because_54 rfl (lv_at hl 1 rfl) ?_
        refine m_gi (v := (I 17)) hx hb hK hown hP 17 (by decide) t_754 (hFr_2.1 17 (by omega)) d_Mod_because_55 ?_
        refine lv_istore (lv' := [(4, .int (I 17)), (3, .int z_204_0), (0, .ref (adr 0)), (1, .int xk), (2, .int (bi tp))]) hx hb d_Mod_because_58 hl (by decide) rfl (fun ls hl => ?_)
        refine lv_bipush (v := 11) hx hb d_Mod_because_60 (by decide) ?_
        refine lv_istore (lv' := [(5, .int (11 : Int32)), (4, .int (I 17)), (3, .int z_204_0), (0, .ref (adr 0)), (1, .int xk), (2, .int (bi tp))]) hx hb d_Mod_because_62 hl (by decide) rfl (fun ls hl => ?_)
        have L_205 : ∀ (n : Nat) (ex : Nat) (m2 : Nat) (x1 : Int32) (x2 : Int32) (I1 : Nat → Int32) (F1 : Nat → Nat → Int32) (c1 : Bool) (H : Heap) (locs : List Loc) (ls : Array Slot), ex < n → (ex ≤ 12) → (x1.toInt = (m2 : Int)) → (x2.toInt = (ex : Int) - 1) → (FrD 0 (va_up I 0 0) I1 F F1) → (I1 20 = bi c1) → (m2 < 2 ^ 12) → (bcs F nn mm en tp xk.toInt.toNat (bnd tp xk.toInt.toNat y0) 12 mk = bcs F nn mm en tp xk.toInt.toNat (bnd tp xk.toInt.toNat y0) ex m2) → MP D cA adr I1 F1 H → va_S (wA mN adr) s.heap H locs → lv_has ls 7 [(0, .ref (adr 0)), (1, .int xk), (2, .int (bi tp)), (3, .int z_204_0), (4, .int x1), (5, .int x2)] → W p l e (rl 18) s m args below meth c H locs 0 0 Q (F0 m 64 ls []) := by
          intro n
          induction n with
          | zero => intro ex m2 x1 x2 I1 F1 c1 H locs ls hmu; exact absurd hmu (Nat.not_lt_zero _)
          | succ n ih_205 =>
            intro ex m2 x1 x2 I1 F1 c1 H locs ls hmu hex hm2 h2 hFr h20 hm212 hcf hP hS hl
            refine lv_iload hx hb d_Mod_because_64 (lv_at hl 5 rfl) ?_
            refine b_if_lt (tgt := 148) hx hb d_Mod_because_66 (by decide) h2 (fun c_206 => ?_) (fun c_206 => ?_)
            · refine lv_iload hx hb d_Mod_because_148 (lv_at hl 4 rfl) ?_
              refine e_i hx hb hr hlk hQ hS d_Mod_because_150 ?_
              refine ⟨_, rfl, Or.inr ⟨by omega, ?_, I1, F1, c1, ?_, h20, Sm.d (I := va_up I 0 0) hFr, hP⟩⟩
              · unfold r_bcs; rw [hw0]; show _ = (bcs F nn mm en tp xk.toInt.toNat (bnd tp xk.toInt.toNat y0) en mk : Int); rw [← bcs_hi hmke hen12, hcf, show ex = 0 by omega]; exact hm2
              · rw [hFr.1 0 (by omega)]; rfl
            · obtain ⟨ex0, hex0⟩ : ∃ e0, ex = e0 + 1 := ⟨ex - 1, by omega⟩
              subst hex0
              have hx2 : x2.toInt = (ex0 : Int) := by omega
              have hpx := Nat.pow_lt_pow_right (show 1 < 2 by decide) (show ex0 < 12 by omega)
              refine lv_iload hx hb d_Mod_because_69 (lv_at hl 4 rfl) ?_
              refine lv_iload hx hb d_Mod_because_71 (lv_at hl 5 rfl) ?_
              refine r_Mod_has hx hb hml hown hK hl.1 hS ⟨Nat.le_of_ble_eq_true rfl, Nat.le_of_ble_eq_true rfl⟩ ⟨Nat.le_of_ble_eq_true rfl, Nat.le_of_ble_eq_true rfl⟩ hm2 hx2 (by omega) (by omega) d_Mod_because_73 (Nat.le_of_ble_eq_true rfl) (fun locs hS => ?_)
              refine b_bool_eq (tgt := 120) hx hb d_Mod_because_76 (by decide) (fun c_207 => ?_) (fun c_207 => ?_)
              · refine lv_iconst (v := 0) hx hb d_Mod_because_120 (by decide) ?_
                refine lv_istore (lv' := [(6, .int (0 : Int32)), (0, .ref (adr 0)), (1, .int xk), (2, .int (bi tp)), (3, .int z_204_0), (4, .int x1), (5, .int x2)]) hx hb d_Mod_because_121 hl (by decide) rfl (fun ls hl => ?_)
                refine lv_iload hx hb d_Mod_because_123 (lv_at hl 0 rfl) ?_
                refine b_if_eq (tgt := 138) hx hb d_Mod_because_125 (by decide) kc_0 (fun c_208 => ?_) (fun c_208 => ?_)
                · refine lv_iload hx hb d_Mod_because_138 (lv_at hl 5 rfl) ?_
                  refine lv_istore (lv' := [(4, .int x1), (6, .int (0 : Int32)), (0, .ref (adr 0)), (1, .int xk), (2, .int (bi tp)), (3, .int z_204_0), (5, .int x2)]) hx hb d_Mod_because_140 hl (by decide) rfl (fun ls hl => ?_)
                  refine x_iinc (k := 6) (lv' := fun v_ => [(5, .int v_), (4, .int x1), (6, .int (0 : Int32)), (0, .ref (adr 0)), (1, .int xk), (2, .int (bi tp)), (3, .int z_204_0)]) hx hb d_Mod_because_142 hl rfl hx2 (by decide) (by omega) (by decide) (fun v_ => rfl) (fun z_209 tz_209 ls hl => ?_)
                  refine lv_goto (tgt := 64) hx hb d_Mod_because_145 (by decide) ?_
                  have hbt : m2.testBit ex0 = false := by have q := c_207; rw [hasN_nat] at q; exact q
                  exact ih_205 ex0 m2 x1 z_209 I1 F1 c1 _ _ _ (by omega) (by omega) (by omega) (by omega) hFr h20 hm212 (by rw [hcf, bcs, if_neg (by rw [hbt]; simp)]) hP hS (lv_sub hl [3, 4, 5, 6, 1, 0] rfl)
                · exact absurd rfl c_208
              · refine lv_aload_n hx hb d_Mod_because_79 rfl (lv_at hl 0 rfl) ?_
                refine lv_iload hx hb d_Mod_because_80 (lv_at hl 4 rfl) ?_
                refine lv_iconst (v := 1) hx hb d_Mod_because_82 (by decide) ?_
                refine lv_iload hx hb d_Mod_because_83 (lv_at hl 5 rfl) ?_
                refine x_shl1 hx hb d_Mod_because_85 (ex0) hx2 (by omega) (by omega) (fun z_210 tz_210 => ?_)
                refine x_xorN hx hb d_Mod_because_86 (m2) ((2 ^ ex0)) hm2 tz_210 (by omega) (by omega) (fun z_211 tz_211 => ?_)
                refine x_V (As := [.int z_211]) (rest := []) hx hb hml hown hK (k_Mod_narrowWith l D cA adr hi I1 F1 nn mm en (m2 ^^^ (2 ^ ex0)) z_211 c1 tz_211 h20 (hW.fr (hFr.1 1 (by omega)) (hFr.1 4 (by omega)) hFr.ft) (WE.fr hE hFr) (by rw [hFr.1 13 (by omega)]; exact hen)) t_906 t_4 t_903 t_905 ts_19 yk_Mod_narrowWith ⟨Nat.le_of_ble_eq_true rfl, Nat.le_of_ble_eq_true rfl⟩ (m_rec hK hP) hP rfl hl.1 rfl (Nat.le_of_ble_eq_true rfl) d_Mod_because_87 ⟨Nat.le_of_ble_eq_true rfl, Nat.le_of_ble_eq_true rfl⟩ hS (fun q h => h) (fun r H locs hq _ hS => ?_)
                obtain ⟨I_212, F_212, q_212, c_212, rfl, hFr_212, h20_212, hT_212, hF_212, hP⟩ := hq
                refine W.eq (g2 := F0 m 90 ls [.int (bi q_212)]) rfl ?_
                refine b_bool_eq (tgt := 120) hx hb d_Mod_because_90 (by decide) (fun c_213 => ?_) (fun c_213 => ?_)
                · refine lv_iconst (v := 0) hx hb d_Mod_because_120 (by decide) ?_
                  refine lv_istore (lv' := [(6, .int (0 : Int32)), (0, .ref (adr 0)), (1, .int xk), (2, .int (bi tp)), (3, .int z_204_0), (4, .int x1), (5, .int x2)]) hx hb d_Mod_because_121 hl (by decide) rfl (fun ls hl => ?_)
                  refine lv_iload hx hb d_Mod_because_123 (lv_at hl 0 rfl) ?_
                  refine b_if_eq (tgt := 138) hx hb d_Mod_because_125 (by decide) kc_0 (fun c_214 => ?_) (fun c_214 => ?_)
                  · refine lv_iload hx hb d_Mod_because_138 (lv_at hl 5 rfl) ?_
                    refine lv_istore (lv' := [(4, .int x1), (6, .int (0 : Int32)), (0, .ref (adr 0)), (1, .int xk), (2, .int (bi tp)), (3, .int z_204_0), (5, .int x2)]) hx hb d_Mod_because_140 hl (by decide) rfl (fun ls hl => ?_)
                    refine x_iinc (k := 6) (lv' := fun v_ => [(5, .int v_), (4, .int x1), (6, .int (0 : Int32)), (0, .ref (adr 0)), (1, .int xk), (2, .int (bi tp)), (3, .int z_204_0)]) hx hb d_Mod_because_142 hl rfl hx2 (by decide) (by omega) (by decide) (fun v_ => rfl) (fun z_215 tz_215 ls hl => ?_)
                    refine lv_goto (tgt := 64) hx hb d_Mod_because_145 (by decide) ?_
                    have hbt : m2.testBit ex0 = true := by have q := c_207; rw [hasN_nat] at q; exact q
                    have hnk : nw F1 nn mm en (m2 ^^^ 2 ^ ex0) = nw F nn mm en (m2 ^^^ 2 ^ ex0) := nw_fr hFr
                    have hy := hF_212 c_213; rw [hnk] at hy
                    exact ih_205 ex0 m2 x1 z_215 I_212 F_212 c_212 _ _ _ (by omega) (by omega) hm2 (by omega) (hFr.tr hFr_212) h20_212 hm212 (by rw [hcf, bcs, if_neg (by rw [hy]; simp)]) hP hS (lv_sub hl [3, 4, 5, 6, 1, 0] rfl)
                  · exact absurd rfl c_214
                · obtain ⟨y9, hy, hE9⟩ := hT_212 c_213
                  refine lv_iload_n hx hb d_Mod_because_93 rfl (lv_at hl 2 rfl) ?_
                  have K_416 : ∀ (z_416_0 : Int32), z_416_0.toInt = (if tp = false then (F_212 18 (xk.toInt.toNat)).toInt else (F_212 19 (xk.toInt.toNat)).toInt) → W p l e (rl 18) s m args below meth c H locs 0 0 Q (F0 m 112 ls [.int z_416_0]) := by
                    intro z_416_0 hz_416_0
                    have hb9 := bnd_eq (tp := tp) (show xk.toInt.toNat < nn by omega) hE9 hz_416_0
                    refine lv_iload_n hx hb d_Mod_because_112 rfl (lv_at hl 3 rfl) ?_
                    refine b_icmp_ne (tgt := 120) hx hb d_Mod_because_113 (by decide) hb9 hdue (fun c_417 => ?_) (fun c_417 => ?_)
                    · have hne9 := c_417
                      refine lv_iconst (v := 0) hx hb d_Mod_because_120 (by decide) ?_
                      refine lv_istore (lv' := [(6, .int (0 : Int32)), (0, .ref (adr 0)), (1, .int xk), (2, .int (bi tp)), (3, .int z_204_0), (4, .int x1), (5, .int x2)]) hx hb d_Mod_because_121 hl (by decide) rfl (fun ls hl => ?_)
                      refine lv_iload hx hb d_Mod_because_123 (lv_at hl 0 rfl) ?_
                      refine b_if_eq (tgt := 138) hx hb d_Mod_because_125 (by decide) kc_0 (fun c_418 => ?_) (fun c_418 => ?_)
                      · refine lv_iload hx hb d_Mod_because_138 (lv_at hl 5 rfl) ?_
                        refine lv_istore (lv' := [(4, .int x1), (6, .int (0 : Int32)), (0, .ref (adr 0)), (1, .int xk), (2, .int (bi tp)), (3, .int z_204_0), (5, .int x2)]) hx hb d_Mod_because_140 hl (by decide) rfl (fun ls hl => ?_)
                        refine x_iinc (k := 6) (lv' := fun v_ => [(5, .int v_), (4, .int x1), (6, .int (0 : Int32)), (0, .ref (adr 0)), (1, .int xk), (2, .int (bi tp)), (3, .int z_204_0)]) hx hb d_Mod_because_142 hl rfl hx2 (by decide) (by omega) (by decide) (fun v_ => rfl) (fun z_419 tz_419 ls hl => ?_)
                        refine lv_goto (tgt := 64) hx hb d_Mod_because_145 (by decide) ?_
                        have hbt : m2.testBit ex0 = true := by have q := c_207; rw [hasN_nat] at q; exact q
                        have hnk : nw F1 nn mm en (m2 ^^^ 2 ^ ex0) = nw F nn mm en (m2 ^^^ 2 ^ ex0) := nw_fr hFr
                        exact ih_205 ex0 m2 x1 z_419 I_212 F_212 c_212 _ _ _ (by omega) (by omega) hm2 (by omega) (hFr.tr hFr_212) h20_212 hm212 (by rw [hcf, bcs, if_neg (by rw [← hnk, hy]; intro h; exact hne9 (Option.some.inj h.2))]) hP hS (lv_sub hl [3, 4, 5, 6, 1, 0] rfl)
                      · exact absurd rfl c_418
                    · have heq9 := c_417
                      refine lv_iconst (v := 1) hx hb d_Mod_because_116 (by decide) ?_
                      refine lv_goto (tgt := 121) hx hb d_Mod_because_117 (by decide) ?_
                      refine lv_istore (lv' := [(6, .int (1 : Int32)), (0, .ref (adr 0)), (1, .int xk), (2, .int (bi tp)), (3, .int z_204_0), (4, .int x1), (5, .int x2)]) hx hb d_Mod_because_121 hl (by decide) rfl (fun ls hl => ?_)
                      refine lv_iload hx hb d_Mod_because_123 (lv_at hl 0 rfl) ?_
                      refine b_if_eq (tgt := 138) hx hb d_Mod_because_125 (by decide) kc_1 (fun c_420 => ?_) (fun c_420 => ?_)
                      · exact absurd c_420 (by decide)
                      · refine lv_iload hx hb d_Mod_because_128 (lv_at hl 5 rfl) ?_
                        refine lv_iconst (v := 1) hx hb d_Mod_because_130 (by decide) ?_
                        refine lv_iload hx hb d_Mod_because_131 (lv_at hl 6 rfl) ?_
                        refine x_shl1 hx hb d_Mod_because_133 (ex0) hx2 (by omega) (by omega) (fun z_421 tz_421 => ?_)
                        refine x_xorN hx hb d_Mod_because_134 (m2) ((2 ^ ex0)) hm2 tz_421 (by omega) (by omega) (fun z_422 tz_422 => ?_)
                        refine lv_goto (tgt := 140) hx hb d_Mod_because_135 (by decide) ?_
                        refine lv_istore (lv' := [(4, .int z_422), (6, .int (1 : Int32)), (0, .ref (adr 0)), (1, .int xk), (2, .int (bi tp)), (3, .int z_204_0), (5, .int x2)]) hx hb d_Mod_because_140 hl (by decide) rfl (fun ls hl => ?_)
                        refine x_iinc (k := 6) (lv' := fun v_ => [(5, .int v_), (4, .int z_422), (6, .int (1 : Int32)), (0, .ref (adr 0)), (1, .int xk), (2, .int (bi tp)), (3, .int z_204_0)]) hx hb d_Mod_because_142 hl rfl hx2 (by decide) (by omega) (by decide) (fun v_ => rfl) (fun z_423 tz_423 ls hl => ?_)
                        refine lv_goto (tgt := 64) hx hb d_Mod_because_145 (by decide) ?_
                        have hbt : m2.testBit ex0 = true := by have q := c_207; rw [hasN_nat] at q; exact q
                        have hnk : nw F1 nn mm en (m2 ^^^ 2 ^ ex0) = nw F nn mm en (m2 ^^^ 2 ^ ex0) := nw_fr hFr
                        exact ih_205 ex0 (m2 ^^^ 2 ^ ex0) z_422 z_423 I_212 F_212 c_212 _ _ _ (by omega) (by omega) tz_422 (by omega) (hFr.tr hFr_212) h20_212 (xor_lt hm212 (by omega)) (by rw [hcf, bcs, if_pos ⟨hbt, by rw [← hnk, hy]; exact congrArg some heq9⟩]) hP hS (lv_sub hl [3, 4, 5, 6, 1, 0] rfl)
                  refine b_bool_eq (tgt := 106) hx hb d_Mod_because_94 (by decide) (fun c_424 => ?_) (fun c_424 => ?_)
                  · refine lv_aload_n hx hb d_Mod_because_106 rfl (lv_at hl 0 rfl) ?_
                    refine m_gr hx hb hK hown hP 18 (by decide) t_755 d_Mod_because_107 ?_
                    refine lv_iload_n hx hb d_Mod_because_110 rfl (lv_at hl 1 rfl) ?_
                    refine m_ld hx hb hK hP 18 (by decide) (xk.toInt.toNat) hxk (by omega) (show xk.toInt.toNat < 120 by omega) d_Mod_because_111 (fun z_425 ez_425 => ?_)
                    subst ez_425
                    exact K_416 (F_212 18 (xk.toInt.toNat)) (by first | omega | (simp [c_424]; done) | (simp [c_424]; omega) | (simp only [decide_eq_true_eq, decide_eq_false_iff_not]; omega))
                  · refine lv_aload_n hx hb d_Mod_because_97 rfl (lv_at hl 0 rfl) ?_
                    refine m_gr hx hb hK hown hP 19 (by decide) t_756 d_Mod_because_98 ?_
                    refine lv_iload_n hx hb d_Mod_because_101 rfl (lv_at hl 1 rfl) ?_
                    refine m_ld hx hb hK hP 19 (by decide) (xk.toInt.toNat) hxk (by omega) (show xk.toInt.toNat < 120 by omega) d_Mod_because_102 (fun z_426 ez_426 => ?_)
                    subst ez_426
                    refine lv_goto (tgt := 112) hx hb d_Mod_because_103 (by decide) ?_
                    exact K_416 (F_212 19 (xk.toInt.toNat)) (by first | omega | (simp [c_424]; done) | (simp [c_424]; omega) | (simp only [decide_eq_true_eq, decide_eq_false_iff_not]; omega))
        exact L_205 (_ + 1) 12 mk (I 17) (11 : Int32) I_2 F_2 c_2 _ _ _ (Nat.lt_succ_self _) (by omega) hmk (by rw [kc_11]; rfl) hFr_2 h20_2 hmk12 rfl hP hS (lv_sub hl [3, 4, 5, 2, 1, 0] rfl)
      refine b_bool_eq (tgt := 47) hx hb d_Mod_because_35 (by decide) (fun c_427 => ?_) (fun c_427 => ?_)
      · refine lv_aload_n hx hb d_Mod_because_47 rfl (lv_at hl 0 rfl) ?_
        refine m_gr hx hb hK hown hP 18 (by decide) t_755 d_Mod_because_48 ?_
        refine lv_iload_n hx hb d_Mod_because_51 rfl (lv_at hl 1 rfl) ?_
        refine m_ld hx hb hK hP 18 (by decide) (xk.toInt.toNat) hxk (by omega) (show xk.toInt.toNat < 120 by omega) d_Mod_because_52 (fun z_428 ez_428 => ?_)
        subst ez_428
        exact K_204 (F_2 18 (xk.toInt.toNat)) (by first | omega | (simp [c_427]; done) | (simp [c_427]; omega) | (simp only [decide_eq_true_eq, decide_eq_false_iff_not]; omega))
      · refine lv_aload_n hx hb d_Mod_because_38 rfl (lv_at hl 0 rfl) ?_
        refine m_gr hx hb hK hown hP 19 (by decide) t_756 d_Mod_because_39 ?_
        refine lv_iload_n hx hb d_Mod_because_42 rfl (lv_at hl 1 rfl) ?_
        refine m_ld hx hb hK hP 19 (by decide) (xk.toInt.toNat) hxk (by omega) (show xk.toInt.toNat < 120 by omega) d_Mod_because_43 (fun z_429 ez_429 => ?_)
        subst ez_429
        refine lv_goto (tgt := 53) hx hb d_Mod_because_44 (by decide) ?_
        exact K_204 (F_2 19 (xk.toInt.toNat)) (by first | omega | (simp [c_427]; done) | (simp [c_427]; omega) | (simp only [decide_eq_true_eq, decide_eq_false_iff_not]; omega))
    · refine lv_sipush (v := (-1000)) hx hb d_Mod_because_30 (by decide) ?_
      refine e_i hx hb hr hlk hQ hS d_Mod_because_33 ?_
      have hw := hF_2 c_3
      refine ⟨_, rfl, Or.inr ⟨by omega, by unfold r_bcs; rw [hw]; exact kc_m1000, I_2, F_2, c_2, ?_, h20_2, Sm.d (I := va_up I 0 0) hFr_2, hP⟩⟩
      rw [hFr_2.1 0 (by omega)]; rfl
  · have hc_1 := of_decide_eq_false c_1
    refine lv_aload_n hx hb d_Mod_because_13 rfl (lv_at hl 0 rfl) ?_
    refine lv_iconst (v := 1) hx hb d_Mod_because_14 (by decide) ?_
    refine x_V (As := [.int (1 : Int32)]) (rest := []) hx hb hml hown hK (k_Mod_refuse l D cA adr hi (va_up I 0 (0 : Int32)) F (1 : Int32)) t_861 t_4 t_858 t_860 ts_16 yk_Mod_refuse ⟨Nat.le_of_ble_eq_true rfl, Nat.le_of_ble_eq_true rfl⟩ (m_rec hK hP) hP rfl hl.1 rfl (Nat.le_of_ble_eq_true rfl) d_Mod_because_15 ⟨Nat.le_of_ble_eq_true rfl, Nat.le_of_ble_eq_true rfl⟩ hS (fun q h => h) (fun r H locs hq _ hS => ?_)
    obtain ⟨rfl, hP⟩ := hq
    refine W.eq (g2 := F0 m 18 ls [.int (0 : Int32)]) rfl ?_
    refine e_i hx hb hr hlk hQ hS d_Mod_because_18 ?_
    exact ⟨_, rfl, Or.inl ⟨by omega, (va_up (va_up I 0 (0 : Int32)) 0 (1 : Int32)), F, ch, rfl, hch, ⟨⟨rfl, rfl, rfl, rfl, rfl, rfl, rfl⟩, fun _ _ _ _ _ _ _ _ => rfl, fun _ _ => ⟨rfl, rfl⟩⟩, hP⟩⟩
theorem d_Mod_solve_0 : decode b_Mod_solve 0 = .ok (.aload_n 0, 1) := by decide +kernel
theorem d_Mod_solve_1 : decode b_Mod_solve 1 = .ok (.iconst 0, 1) := by decide +kernel
theorem d_Mod_solve_2 : decode b_Mod_solve 2 = .ok (.putfield 74, 3) := by decide +kernel
theorem d_Mod_solve_5 : decode b_Mod_solve 5 = .ok (.iload_n 1, 1) := by decide +kernel
theorem d_Mod_solve_6 : decode b_Mod_solve 6 = .ok (.iconst 0, 1) := by decide +kernel
theorem d_Mod_solve_7 : decode b_Mod_solve 7 = .ok (.sipush 300, 3) := by decide +kernel
theorem d_Mod_solve_10 : decode b_Mod_solve 10 = .ok (.invokestatic 89, 3) := by decide +kernel
theorem d_Mod_solve_13 : decode b_Mod_solve 13 = .ok (.ifCond .eq 13, 3) := by decide +kernel
theorem d_Mod_solve_16 : decode b_Mod_solve 16 = .ok (.aload_n 0, 1) := by decide +kernel
theorem d_Mod_solve_17 : decode b_Mod_solve 17 = .ok (.iconst (-1), 1) := by decide +kernel
theorem d_Mod_solve_18 : decode b_Mod_solve 18 = .ok (.iconst 0, 1) := by decide +kernel
theorem d_Mod_solve_19 : decode b_Mod_solve 19 = .ok (.iload_n 1, 1) := by decide +kernel
theorem d_Mod_solve_20 : decode b_Mod_solve 20 = .ok (.invokevirtual 230, 3) := by decide +kernel
theorem d_Mod_solve_23 : decode b_Mod_solve 23 = .ok (.goto 8, 3) := by decide +kernel
theorem d_Mod_solve_26 : decode b_Mod_solve 26 = .ok (.aload_n 0, 1) := by decide +kernel
theorem d_Mod_solve_27 : decode b_Mod_solve 27 = .ok (.iconst 1, 1) := by decide +kernel
theorem d_Mod_solve_28 : decode b_Mod_solve 28 = .ok (.invokevirtual 82, 3) := by decide +kernel
theorem d_Mod_solve_31 : decode b_Mod_solve 31 = .ok (.ireturn, 1) := by decide +kernel
set_option maxHeartbeats 4000000 in
set_option maxRecDepth 20000 in
theorem k_Mod_solve (l : Launch) (D : va_G) (cA : Nat → ClassId) (adr : Nat → Nat) (hi : wI mN adr) (I : Nat → Int32) (F : Nat → Nat → Int32) (nn mm en mk : Nat) (ch : Bool) (hch : I 20 = bi ch) (hWF : WF I F nn mm en mk) (xlim : Int32) : Ct l y_Mod_solve b_Mod_solve 2 (some .int) 20 D cA [.ref (adr 0), .int xlim] (fun H => MP D cA adr I F H) (fun r H => ∃ z : Int32, r = some (.int z) ∧ ((¬ (0 ≤ xlim.toInt ∧ xlim.toInt ≤ 300) ∧ MQ2 D cA adr 1 I F H) ∨ ((0 ≤ xlim.toInt ∧ xlim.toInt ≤ 300) ∧ z.toInt = (fnd F nn mm en mk xlim.toInt.toNat (-1) false).1 ∧ ((fnd F nn mm en mk xlim.toInt.toNat (-1) false).2.1 ≤ 300 ∧ ((fnd F nn mm en mk xlim.toInt.toNat (-1) false).1 = 1 → ∀ k, k < nn → -100 ≤ (fnd F nn mm en mk xlim.toInt.toNat (-1) false).2.2.1 k ∧ (fnd F nn mm en mk xlim.toInt.toNat (-1) false).2.2.1 k ≤ 100)) ∧ MQ2 D cA adr 0 (J_fnd I (fnd F nn mm en mk xlim.toInt.toNat (-1) false)) (G_fnd F nn (fnd F nn mm en mk xlim.toInt.toNat (-1) false)) H))) (wA mN adr) := by
  refine Ct.mk (by decide) (Nat.le_of_ble_eq_true rfl) ?_
  intro p e s m args below meth c Q H locs ls hx hb hr hml hlk hown hin hK hQ hS hP hl
  have hl : lv_has ls 2 [(0, .ref (adr 0)), (1, .int xlim)] := hl
  have hown : s.vm.findClass "RangeSheetModel" = some m.cls := hown
  obtain ⟨hW, hE, hen, ⟨hmk, hmke⟩, htd, hsp, hsd, hset, hgd⟩ := hWF
  have hn1 : (I 1).toInt = (nn : Int) := hW.2.2.1
  have hm1 : (I 4).toInt = (mm : Int) := hW.2.2.2.1
  have hn10 := hW.1
  have hm12 := hW.2.1
  have hen12 := hE.1
  refine lv_aload_n hx hb d_Mod_solve_0 rfl (lv_at hl 0 rfl) ?_
  refine lv_iconst (v := 0) hx hb d_Mod_solve_1 (by decide) ?_
  refine m_pi hx hb hK hown hi hP hS wA_mem 0 (by decide) t_737 rfl rfl d_Mod_solve_2 (fun H locs hP hS => ?_)
  refine lv_iload_n hx hb d_Mod_solve_5 rfl (lv_at hl 1 rfl) ?_
  refine lv_iconst (v := 0) hx hb d_Mod_solve_6 (by decide) ?_
  refine lv_sipush (v := 300) hx hb d_Mod_solve_7 (by decide) ?_
  refine r_Mod_within hx hb hml hown hK hl.1 hS ⟨Nat.le_of_ble_eq_true rfl, Nat.le_of_ble_eq_true rfl⟩ ⟨Nat.le_of_ble_eq_true rfl, Nat.le_of_ble_eq_true rfl⟩ rfl kc_0 kc_300  d_Mod_solve_10 (Nat.le_of_ble_eq_true rfl) (fun locs hS => ?_)
  refine b_bool_eq (tgt := 26) hx hb d_Mod_solve_13 (by decide) (fun c_1 => ?_) (fun c_1 => ?_)
  · have hc_1 := of_decide_eq_false c_1
    refine lv_aload_n hx hb d_Mod_solve_26 rfl (lv_at hl 0 rfl) ?_
    refine lv_iconst (v := 1) hx hb d_Mod_solve_27 (by decide) ?_
    refine x_V (As := [.int (1 : Int32)]) (rest := []) hx hb hml hown hK (k_Mod_refuse l D cA adr hi (va_up I 0 (0 : Int32)) F (1 : Int32)) t_861 t_4 t_858 t_860 ts_16 yk_Mod_refuse ⟨Nat.le_of_ble_eq_true rfl, Nat.le_of_ble_eq_true rfl⟩ (m_rec hK hP) hP rfl hl.1 rfl (Nat.le_of_ble_eq_true rfl) d_Mod_solve_28 ⟨Nat.le_of_ble_eq_true rfl, Nat.le_of_ble_eq_true rfl⟩ hS (fun q h => h) (fun r H locs hq _ hS => ?_)
    obtain ⟨rfl, hP⟩ := hq
    refine W.eq (g2 := F0 m 31 ls [.int (0 : Int32)]) rfl ?_
    refine e_i hx hb hr hlk hQ hS d_Mod_solve_31 ?_
    exact ⟨_, rfl, Or.inl ⟨by omega, (va_up (va_up I 0 (0 : Int32)) 0 (1 : Int32)), F, ch, rfl, hch, ⟨⟨rfl, rfl, rfl, rfl, rfl, rfl, rfl⟩, fun _ _ _ _ _ _ _ _ => rfl, fun _ _ => ⟨rfl, rfl⟩⟩, hP⟩⟩
  · have hc_1 := of_decide_eq_true c_1
    have hxm : xlim.toInt = (xlim.toInt.toNat : Int) := by omega
    refine lv_aload_n hx hb d_Mod_solve_16 rfl (lv_at hl 0 rfl) ?_
    refine lv_iconst (v := (-1)) hx hb d_Mod_solve_17 (by decide) ?_
    refine lv_iconst (v := 0) hx hb d_Mod_solve_18 (by decide) ?_
    refine lv_iload_n hx hb d_Mod_solve_19 rfl (lv_at hl 1 rfl) ?_
    refine x_V (As := [.int (-1 : Int32), .int (0 : Int32), .int xlim]) (rest := []) hx hb hml hown hK (k_Mod_search l D cA adr hi (va_up I 0 (0 : Int32)) F nn mm en mk xlim.toInt.toNat (-1 : Int32) xlim false ch hch (hW.fr rfl rfl ⟨rfl, rfl, rfl, rfl, rfl, rfl, rfl, rfl⟩) hE hen hmk (by rw [kc_m1]; omega) hxm (by omega)) t_1009 t_4 t_1006 t_1008 ts_35 yk_Mod_search ⟨Nat.le_of_ble_eq_true rfl, Nat.le_of_ble_eq_true rfl⟩ (m_rec hK hP) hP rfl hl.1 rfl (Nat.le_of_ble_eq_true rfl) d_Mod_solve_20 ⟨Nat.le_of_ble_eq_true rfl, Nat.le_of_ble_eq_true rfl⟩ hS (fun q h => h) (fun r H locs hq _ hS => ?_)
    obtain ⟨I_2, F_2, z_2, c_2, rfl, hz_2, h20_2, h31_2, hsl_2, hFS_2, h1_2, h0_2, hP⟩ := hq
    refine W.eq (g2 := F0 m 23 ls [.int z_2]) rfl ?_
    refine lv_goto (tgt := 31) hx hb d_Mod_solve_23 (by decide) ?_
    refine e_i hx hb hr hlk hQ hS d_Mod_solve_31 ?_
    rw [kc_m1] at hz_2 h31_2 hsl_2 h1_2 h0_2
    exact ⟨_, rfl, Or.inr ⟨by omega, hz_2, ⟨Nat.le_trans hsl_2 (by omega), fun h => (h1_2 h).2⟩, I_2, F_2, c_2, by rw [hFS_2.1 0 (by omega)]; rfl, h20_2, Sm.fnd (I := va_up I 0 0) (lim := 0) hFS_2 h31_2 (fun h => (h1_2 h).1) h0_2, hP⟩⟩
theorem ofI32 {v : Int} (h : -100 ≤ v ∧ v ≤ 100) : (Int32.ofInt v).toInt = v := Int32.toInt_ofInt_of_le (by have : Int32.minValue.toInt = -2147483648 := rfl; omega) (by have : Int32.maxValue.toInt = 2147483647 := rfl; omega)
theorem d_Mod_farthest_0 : decode b_Mod_farthest 0 = .ok (.aload_n 0, 1) := by decide +kernel
theorem d_Mod_farthest_1 : decode b_Mod_farthest 1 = .ok (.iconst 0, 1) := by decide +kernel
theorem d_Mod_farthest_2 : decode b_Mod_farthest 2 = .ok (.putfield 74, 3) := by decide +kernel
theorem d_Mod_farthest_5 : decode b_Mod_farthest 5 = .ok (.aload_n 0, 1) := by decide +kernel
theorem d_Mod_farthest_6 : decode b_Mod_farthest 6 = .ok (.iload_n 1, 1) := by decide +kernel
theorem d_Mod_farthest_7 : decode b_Mod_farthest 7 = .ok (.invokevirtual 96, 3) := by decide +kernel
theorem d_Mod_farthest_10 : decode b_Mod_farthest 10 = .ok (.ifCond .eq 14, 3) := by decide +kernel
theorem d_Mod_farthest_13 : decode b_Mod_farthest 13 = .ok (.iload_n 3, 1) := by decide +kernel
theorem d_Mod_farthest_14 : decode b_Mod_farthest 14 = .ok (.iconst 0, 1) := by decide +kernel
theorem d_Mod_farthest_15 : decode b_Mod_farthest 15 = .ok (.sipush 300, 3) := by decide +kernel
theorem d_Mod_farthest_18 : decode b_Mod_farthest 18 = .ok (.invokestatic 89, 3) := by decide +kernel
theorem d_Mod_farthest_21 : decode b_Mod_farthest 21 = .ok (.ifCond .ne 9, 3) := by decide +kernel
theorem d_Mod_farthest_24 : decode b_Mod_farthest 24 = .ok (.aload_n 0, 1) := by decide +kernel
theorem d_Mod_farthest_25 : decode b_Mod_farthest 25 = .ok (.iconst 1, 1) := by decide +kernel
theorem d_Mod_farthest_26 : decode b_Mod_farthest 26 = .ok (.invokevirtual 82, 3) := by decide +kernel
theorem d_Mod_farthest_29 : decode b_Mod_farthest 29 = .ok (.ireturn, 1) := by decide +kernel
theorem d_Mod_farthest_30 : decode b_Mod_farthest 30 = .ok (.aload_n 0, 1) := by decide +kernel
theorem d_Mod_farthest_31 : decode b_Mod_farthest 31 = .ok (.iload_n 1, 1) := by decide +kernel
theorem d_Mod_farthest_32 : decode b_Mod_farthest 32 = .ok (.iload_n 2, 1) := by decide +kernel
theorem d_Mod_farthest_33 : decode b_Mod_farthest 33 = .ok (.iload_n 3, 1) := by decide +kernel
theorem d_Mod_farthest_34 : decode b_Mod_farthest 34 = .ok (.invokevirtual 230, 3) := by decide +kernel
theorem d_Mod_farthest_37 : decode b_Mod_farthest 37 = .ok (.iconst 1, 1) := by decide +kernel
theorem d_Mod_farthest_38 : decode b_Mod_farthest 38 = .ok (.if_icmp .ne 12, 3) := by decide +kernel
theorem d_Mod_farthest_41 : decode b_Mod_farthest 41 = .ok (.aload_n 0, 1) := by decide +kernel
theorem d_Mod_farthest_42 : decode b_Mod_farthest 42 = .ok (.getfield 65, 3) := by decide +kernel
theorem d_Mod_farthest_45 : decode b_Mod_farthest 45 = .ok (.iload_n 1, 1) := by decide +kernel
theorem d_Mod_farthest_46 : decode b_Mod_farthest 46 = .ok (.iaload, 1) := by decide +kernel
theorem d_Mod_farthest_47 : decode b_Mod_farthest 47 = .ok (.goto 6, 3) := by decide +kernel
theorem d_Mod_farthest_50 : decode b_Mod_farthest 50 = .ok (.sipush (-1000), 3) := by decide +kernel
theorem d_Mod_farthest_53 : decode b_Mod_farthest 53 = .ok (.ireturn, 1) := by decide +kernel
set_option maxHeartbeats 4000000 in
set_option maxRecDepth 20000 in
theorem k_Mod_farthest (l : Launch) (D : va_G) (cA : Nat → ClassId) (adr : Nat → Nat) (hi : wI mN adr) (I : Nat → Int32) (F : Nat → Nat → Int32) (nn mm en mk : Nat) (ch : Bool) (hch : I 20 = bi ch) (hWF : WF I F nn mm en mk) (xk : Int32) (dn : Bool) (xlim : Int32) : Ct l y_Mod_farthest b_Mod_farthest 4 (some .int) 20 D cA [.ref (adr 0), .int xk, .int (bi dn), .int xlim] (fun H => MP D cA adr I F H) (fun r H => ∃ z : Int32, r = some (.int z) ∧ ((¬ ((0 ≤ xk.toInt ∧ xk.toInt < nn) ∧ 0 ≤ xlim.toInt ∧ xlim.toInt ≤ 300) ∧ MQ2 D cA adr 1 I F H) ∨ (((0 ≤ xk.toInt ∧ xk.toInt < nn) ∧ 0 ≤ xlim.toInt ∧ xlim.toInt ≤ 300) ∧ z.toInt = (if (fnd F nn mm en mk xlim.toInt.toNat xk.toInt dn).1 = 1 then (fnd F nn mm en mk xlim.toInt.toNat xk.toInt dn).2.2.1 xk.toInt.toNat else -1000) ∧ ((fnd F nn mm en mk xlim.toInt.toNat xk.toInt dn).2.1 ≤ 300 ∧ ((fnd F nn mm en mk xlim.toInt.toNat xk.toInt dn).1 = 1 → ∀ k, k < nn → -100 ≤ (fnd F nn mm en mk xlim.toInt.toNat xk.toInt dn).2.2.1 k ∧ (fnd F nn mm en mk xlim.toInt.toNat xk.toInt dn).2.2.1 k ≤ 100)) ∧ MQ2 D cA adr 0 (J_fnd I (fnd F nn mm en mk xlim.toInt.toNat xk.toInt dn)) (G_fnd F nn (fnd F nn mm en mk xlim.toInt.toNat xk.toInt dn)) H))) (wA mN adr) := by
  refine Ct.mk (by decide) (Nat.le_of_ble_eq_true rfl) ?_
  intro p e s m args below meth c Q H locs ls hx hb hr hml hlk hown hin hK hQ hS hP hl
  have hl : lv_has ls 4 [(0, .ref (adr 0)), (1, .int xk), (2, .int (bi dn)), (3, .int xlim)] := hl
  have hown : s.vm.findClass "RangeSheetModel" = some m.cls := hown
  obtain ⟨hW, hE, hen, ⟨hmk, hmke⟩, htd, hsp, hsd, hset, hgd⟩ := hWF
  have hn1 : (I 1).toInt = (nn : Int) := hW.2.2.1
  have hm1 : (I 4).toInt = (mm : Int) := hW.2.2.2.1
  have hn10 := hW.1
  have hm12 := hW.2.1
  have hen12 := hE.1
  refine lv_aload_n hx hb d_Mod_farthest_0 rfl (lv_at hl 0 rfl) ?_
  refine lv_iconst (v := 0) hx hb d_Mod_farthest_1 (by decide) ?_
  refine m_pi hx hb hK hown hi hP hS wA_mem 0 (by decide) t_737 rfl rfl d_Mod_farthest_2 (fun H locs hP hS => ?_)
  refine lv_aload_n hx hb d_Mod_farthest_5 rfl (lv_at hl 0 rfl) ?_
  refine lv_iload_n hx hb d_Mod_farthest_6 rfl (lv_at hl 1 rfl) ?_
  refine x_V (As := [.int xk]) (rest := []) hx hb hml hown hK (k_Mod_isCell l D cA adr hi (va_up I 0 (0 : Int32)) F nn xk hn10 hn1) t_879 t_4 t_876 t_878 ts_18 yk_Mod_isCell ⟨Nat.le_of_ble_eq_true rfl, Nat.le_of_ble_eq_true rfl⟩ (m_rec hK hP) hP rfl hl.1 rfl (Nat.le_of_ble_eq_true rfl) d_Mod_farthest_7 ⟨Nat.le_of_ble_eq_true rfl, Nat.le_of_ble_eq_true rfl⟩ hS (fun q h => h) (fun r H locs hq _ hS => ?_)
  obtain ⟨rfl, hP⟩ := hq
  refine W.eq (g2 := F0 m 10 ls [.int (bi (decide (0 ≤ xk.toInt ∧ xk.toInt ≤ (nn : Int) - 1)))]) rfl ?_
  refine b_bool_eq (tgt := 24) hx hb d_Mod_farthest_10 (by decide) (fun c_1 => ?_) (fun c_1 => ?_)
  · have hc_1 := of_decide_eq_false c_1
    refine lv_aload_n hx hb d_Mod_farthest_24 rfl (lv_at hl 0 rfl) ?_
    refine lv_iconst (v := 1) hx hb d_Mod_farthest_25 (by decide) ?_
    refine x_V (As := [.int (1 : Int32)]) (rest := []) hx hb hml hown hK (k_Mod_refuse l D cA adr hi (va_up I 0 (0 : Int32)) F (1 : Int32)) t_861 t_4 t_858 t_860 ts_16 yk_Mod_refuse ⟨Nat.le_of_ble_eq_true rfl, Nat.le_of_ble_eq_true rfl⟩ (m_rec hK hP) hP rfl hl.1 rfl (Nat.le_of_ble_eq_true rfl) d_Mod_farthest_26 ⟨Nat.le_of_ble_eq_true rfl, Nat.le_of_ble_eq_true rfl⟩ hS (fun q h => h) (fun r H locs hq _ hS => ?_)
    obtain ⟨rfl, hP⟩ := hq
    refine W.eq (g2 := F0 m 29 ls [.int (0 : Int32)]) rfl ?_
    refine e_i hx hb hr hlk hQ hS d_Mod_farthest_29 ?_
    exact ⟨_, rfl, Or.inl ⟨by omega, (va_up (va_up I 0 (0 : Int32)) 0 (1 : Int32)), F, ch, rfl, hch, ⟨⟨rfl, rfl, rfl, rfl, rfl, rfl, rfl⟩, fun _ _ _ _ _ _ _ _ => rfl, fun _ _ => ⟨rfl, rfl⟩⟩, hP⟩⟩
  · have hc_1 := of_decide_eq_true c_1
    refine lv_iload_n hx hb d_Mod_farthest_13 rfl (lv_at hl 3 rfl) ?_
    refine lv_iconst (v := 0) hx hb d_Mod_farthest_14 (by decide) ?_
    refine lv_sipush (v := 300) hx hb d_Mod_farthest_15 (by decide) ?_
    refine r_Mod_within hx hb hml hown hK hl.1 hS ⟨Nat.le_of_ble_eq_true rfl, Nat.le_of_ble_eq_true rfl⟩ ⟨Nat.le_of_ble_eq_true rfl, Nat.le_of_ble_eq_true rfl⟩ rfl kc_0 kc_300  d_Mod_farthest_18 (Nat.le_of_ble_eq_true rfl) (fun locs hS => ?_)
    refine b_bool_ne (tgt := 30) hx hb d_Mod_farthest_21 (by decide) (fun c_2 => ?_) (fun c_2 => ?_)
    · have hc_2 := of_decide_eq_true c_2
      have hxm : xlim.toInt = (xlim.toInt.toNat : Int) := by omega
      refine lv_aload_n hx hb d_Mod_farthest_30 rfl (lv_at hl 0 rfl) ?_
      refine lv_iload_n hx hb d_Mod_farthest_31 rfl (lv_at hl 1 rfl) ?_
      refine lv_iload_n hx hb d_Mod_farthest_32 rfl (lv_at hl 2 rfl) ?_
      refine lv_iload_n hx hb d_Mod_farthest_33 rfl (lv_at hl 3 rfl) ?_
      refine x_V (As := [.int xk, .int (bi dn), .int xlim]) (rest := []) hx hb hml hown hK (k_Mod_search l D cA adr hi (va_up I 0 (0 : Int32)) F nn mm en mk xlim.toInt.toNat xk xlim dn ch hch (hW.fr rfl rfl ⟨rfl, rfl, rfl, rfl, rfl, rfl, rfl, rfl⟩) hE hen hmk (by omega) hxm (by omega)) t_1009 t_4 t_1006 t_1008 ts_35 yk_Mod_search ⟨Nat.le_of_ble_eq_true rfl, Nat.le_of_ble_eq_true rfl⟩ (m_rec hK hP) hP rfl hl.1 rfl (Nat.le_of_ble_eq_true rfl) d_Mod_farthest_34 ⟨Nat.le_of_ble_eq_true rfl, Nat.le_of_ble_eq_true rfl⟩ hS (fun q h => h) (fun r H locs hq _ hS => ?_)
      obtain ⟨I_3, F_3, z_3, c_3, rfl, hz_3, h20_3, h31_3, hsl_3, hFS_3, h1_3, h0_3, hP⟩ := hq
      refine W.eq (g2 := F0 m 37 ls [.int z_3]) rfl ?_
      refine lv_iconst (v := 1) hx hb d_Mod_farthest_37 (by decide) ?_
      refine b_icmp_ne (tgt := 50) hx hb d_Mod_farthest_38 (by decide) rfl kc_1 (fun c_4 => ?_) (fun c_4 => ?_)
      · refine lv_sipush (v := (-1000)) hx hb d_Mod_farthest_50 (by decide) ?_
        refine e_i hx hb hr hlk hQ hS d_Mod_farthest_53 ?_
        exact ⟨_, rfl, Or.inr ⟨by omega, by rw [if_neg (by rw [← hz_3]; exact c_4)]; exact kc_m1000, ⟨Nat.le_trans hsl_3 (by omega), fun h => (h1_3 h).2⟩, I_3, F_3, c_3, by rw [hFS_3.1 0 (by omega)]; rfl, h20_3, Sm.fnd (I := va_up I 0 0) (lim := 0) hFS_3 h31_3 (fun h => (h1_3 h).1) h0_3, hP⟩⟩
      · refine lv_aload_n hx hb d_Mod_farthest_41 rfl (lv_at hl 0 rfl) ?_
        refine m_gr hx hb hK hown hP 33 (by decide) t_770 d_Mod_farthest_42 ?_
        refine lv_iload_n hx hb d_Mod_farthest_45 rfl (lv_at hl 1 rfl) ?_
        refine m_ld hx hb hK hP 33 (by decide) ((xk.toInt).toNat) rfl (by omega) (show (xk.toInt).toNat < 10 by omega) d_Mod_farthest_46 (fun z_5 ez_5 => ?_)
        subst ez_5
        refine lv_goto (tgt := 53) hx hb d_Mod_farthest_47 (by decide) ?_
        refine e_i hx hb hr hlk hQ hS d_Mod_farthest_53 ?_
        have hf1 : (fnd F nn mm en mk xlim.toInt.toNat xk.toInt dn).1 = 1 := by rw [← hz_3]; exact c_4
        have hrk := (h1_3 hf1).2 xk.toInt.toNat (by omega)
        have hv : (F_3 33 (xk.toInt).toNat).toInt = (fnd F nn mm en mk xlim.toInt.toNat xk.toInt dn).2.2.1 xk.toInt.toNat := by rw [(h1_3 hf1).1.2]; show (if xk.toInt.toNat < nn then _ else _ : Int32).toInt = _; rw [if_pos (by omega)]; exact ofI32 (by omega)
        exact ⟨_, rfl, Or.inr ⟨by omega, by rw [if_pos hf1]; exact hv, ⟨Nat.le_trans hsl_3 (by omega), fun h => (h1_3 h).2⟩, I_3, F_3, c_3, by rw [hFS_3.1 0 (by omega)]; rfl, h20_3, Sm.fnd (I := va_up I 0 0) (lim := 0) hFS_3 h31_3 (fun h => (h1_3 h).1) h0_3, hP⟩⟩
    · have hc_2 := of_decide_eq_false c_2
      refine lv_aload_n hx hb d_Mod_farthest_24 rfl (lv_at hl 0 rfl) ?_
      refine lv_iconst (v := 1) hx hb d_Mod_farthest_25 (by decide) ?_
      refine x_V (As := [.int (1 : Int32)]) (rest := []) hx hb hml hown hK (k_Mod_refuse l D cA adr hi (va_up I 0 (0 : Int32)) F (1 : Int32)) t_861 t_4 t_858 t_860 ts_16 yk_Mod_refuse ⟨Nat.le_of_ble_eq_true rfl, Nat.le_of_ble_eq_true rfl⟩ (m_rec hK hP) hP rfl hl.1 rfl (Nat.le_of_ble_eq_true rfl) d_Mod_farthest_26 ⟨Nat.le_of_ble_eq_true rfl, Nat.le_of_ble_eq_true rfl⟩ hS (fun q h => h) (fun r H locs hq _ hS => ?_)
      obtain ⟨rfl, hP⟩ := hq
      refine W.eq (g2 := F0 m 29 ls [.int (0 : Int32)]) rfl ?_
      refine e_i hx hb hr hlk hQ hS d_Mod_farthest_29 ?_
      exact ⟨_, rfl, Or.inl ⟨by omega, (va_up (va_up I 0 (0 : Int32)) 0 (1 : Int32)), F, ch, rfl, hch, ⟨⟨rfl, rfl, rfl, rfl, rfl, rfl, rfl⟩, fun _ _ _ _ _ _ _ _ => rfl, fun _ _ => ⟨rfl, rfl⟩⟩, hP⟩⟩
theorem d_Mod_least_0 : decode b_Mod_least 0 = .ok (.aload_n 0, 1) := by decide +kernel
theorem d_Mod_least_1 : decode b_Mod_least 1 = .ok (.iload_n 1, 1) := by decide +kernel
theorem d_Mod_least_2 : decode b_Mod_least 2 = .ok (.iconst 0, 1) := by decide +kernel
theorem d_Mod_least_3 : decode b_Mod_least 3 = .ok (.iload_n 2, 1) := by decide +kernel
theorem d_Mod_least_4 : decode b_Mod_least 4 = .ok (.invokevirtual 234, 3) := by decide +kernel
theorem d_Mod_least_7 : decode b_Mod_least 7 = .ok (.ireturn, 1) := by decide +kernel
set_option maxHeartbeats 4000000 in
set_option maxRecDepth 20000 in
theorem k_Mod_least (l : Launch) (D : va_G) (cA : Nat → ClassId) (adr : Nat → Nat) (hi : wI mN adr) (I : Nat → Int32) (F : Nat → Nat → Int32) (nn mm en mk : Nat) (ch : Bool) (hch : I 20 = bi ch) (hWF : WF I F nn mm en mk) (xk xlim : Int32) : Ct l y_Mod_least b_Mod_least 3 (some .int) 22 D cA [.ref (adr 0), .int xk, .int xlim] (fun H => MP D cA adr I F H) (fun r H => ∃ z : Int32, r = some (.int z) ∧ ((¬ ((0 ≤ xk.toInt ∧ xk.toInt < nn) ∧ 0 ≤ xlim.toInt ∧ xlim.toInt ≤ 300) ∧ MQ2 D cA adr 1 I F H) ∨ (((0 ≤ xk.toInt ∧ xk.toInt < nn) ∧ 0 ≤ xlim.toInt ∧ xlim.toInt ≤ 300) ∧ z.toInt = (if (fnd F nn mm en mk xlim.toInt.toNat xk.toInt false).1 = 1 then (fnd F nn mm en mk xlim.toInt.toNat xk.toInt false).2.2.1 xk.toInt.toNat else -1000) ∧ ((fnd F nn mm en mk xlim.toInt.toNat xk.toInt false).2.1 ≤ 300 ∧ ((fnd F nn mm en mk xlim.toInt.toNat xk.toInt false).1 = 1 → ∀ k, k < nn → -100 ≤ (fnd F nn mm en mk xlim.toInt.toNat xk.toInt false).2.2.1 k ∧ (fnd F nn mm en mk xlim.toInt.toNat xk.toInt false).2.2.1 k ≤ 100)) ∧ MQ2 D cA adr 0 (J_fnd I (fnd F nn mm en mk xlim.toInt.toNat xk.toInt false)) (G_fnd F nn (fnd F nn mm en mk xlim.toInt.toNat xk.toInt false)) H))) (wA mN adr) := by
  refine Ct.mk (by decide) (Nat.le_of_ble_eq_true rfl) ?_
  intro p e s m args below meth c Q H locs ls hx hb hr hml hlk hown hin hK hQ hS hP hl
  have hl : lv_has ls 3 [(0, .ref (adr 0)), (1, .int xk), (2, .int xlim)] := hl
  have hown : s.vm.findClass "RangeSheetModel" = some m.cls := hown
  refine lv_aload_n hx hb d_Mod_least_0 rfl (lv_at hl 0 rfl) ?_
  refine lv_iload_n hx hb d_Mod_least_1 rfl (lv_at hl 1 rfl) ?_
  refine lv_iconst (v := 0) hx hb d_Mod_least_2 (by decide) ?_
  refine lv_iload_n hx hb d_Mod_least_3 rfl (lv_at hl 2 rfl) ?_
  refine x_V (As := [.int xk, .int (0 : Int32), .int xlim]) (rest := []) hx hb hml hown hK (k_Mod_farthest l D cA adr hi I F nn mm en mk ch hch hWF xk false xlim) t_1029 t_4 t_1026 t_1028 ts_39 yk_Mod_farthest ⟨Nat.le_of_ble_eq_true rfl, Nat.le_of_ble_eq_true rfl⟩ (m_rec hK hP) hP rfl hl.1 rfl (Nat.le_of_ble_eq_true rfl) d_Mod_least_4 ⟨Nat.le_of_ble_eq_true rfl, Nat.le_of_ble_eq_true rfl⟩ hS (fun q h => h) (fun r H locs hq _ hS => ?_)
  obtain ⟨z, rfl, hz⟩ := hq
  refine W.eq (g2 := F0 m 7 ls [.int z]) rfl ?_
  refine e_i hx hb hr hlk hQ hS d_Mod_least_7 ?_
  exact ⟨_, rfl, hz⟩
theorem d_Mod_greatest_0 : decode b_Mod_greatest 0 = .ok (.aload_n 0, 1) := by decide +kernel
theorem d_Mod_greatest_1 : decode b_Mod_greatest 1 = .ok (.iload_n 1, 1) := by decide +kernel
theorem d_Mod_greatest_2 : decode b_Mod_greatest 2 = .ok (.iconst 1, 1) := by decide +kernel
theorem d_Mod_greatest_3 : decode b_Mod_greatest 3 = .ok (.iload_n 2, 1) := by decide +kernel
theorem d_Mod_greatest_4 : decode b_Mod_greatest 4 = .ok (.invokevirtual 234, 3) := by decide +kernel
theorem d_Mod_greatest_7 : decode b_Mod_greatest 7 = .ok (.ireturn, 1) := by decide +kernel
set_option maxHeartbeats 4000000 in
set_option maxRecDepth 20000 in
theorem k_Mod_greatest (l : Launch) (D : va_G) (cA : Nat → ClassId) (adr : Nat → Nat) (hi : wI mN adr) (I : Nat → Int32) (F : Nat → Nat → Int32) (nn mm en mk : Nat) (ch : Bool) (hch : I 20 = bi ch) (hWF : WF I F nn mm en mk) (xk xlim : Int32) : Ct l y_Mod_greatest b_Mod_greatest 3 (some .int) 22 D cA [.ref (adr 0), .int xk, .int xlim] (fun H => MP D cA adr I F H) (fun r H => ∃ z : Int32, r = some (.int z) ∧ ((¬ ((0 ≤ xk.toInt ∧ xk.toInt < nn) ∧ 0 ≤ xlim.toInt ∧ xlim.toInt ≤ 300) ∧ MQ2 D cA adr 1 I F H) ∨ (((0 ≤ xk.toInt ∧ xk.toInt < nn) ∧ 0 ≤ xlim.toInt ∧ xlim.toInt ≤ 300) ∧ z.toInt = (if (fnd F nn mm en mk xlim.toInt.toNat xk.toInt true).1 = 1 then (fnd F nn mm en mk xlim.toInt.toNat xk.toInt true).2.2.1 xk.toInt.toNat else -1000) ∧ ((fnd F nn mm en mk xlim.toInt.toNat xk.toInt true).2.1 ≤ 300 ∧ ((fnd F nn mm en mk xlim.toInt.toNat xk.toInt true).1 = 1 → ∀ k, k < nn → -100 ≤ (fnd F nn mm en mk xlim.toInt.toNat xk.toInt true).2.2.1 k ∧ (fnd F nn mm en mk xlim.toInt.toNat xk.toInt true).2.2.1 k ≤ 100)) ∧ MQ2 D cA adr 0 (J_fnd I (fnd F nn mm en mk xlim.toInt.toNat xk.toInt true)) (G_fnd F nn (fnd F nn mm en mk xlim.toInt.toNat xk.toInt true)) H))) (wA mN adr) := by
  refine Ct.mk (by decide) (Nat.le_of_ble_eq_true rfl) ?_
  intro p e s m args below meth c Q H locs ls hx hb hr hml hlk hown hin hK hQ hS hP hl
  have hl : lv_has ls 3 [(0, .ref (adr 0)), (1, .int xk), (2, .int xlim)] := hl
  have hown : s.vm.findClass "RangeSheetModel" = some m.cls := hown
  refine lv_aload_n hx hb d_Mod_greatest_0 rfl (lv_at hl 0 rfl) ?_
  refine lv_iload_n hx hb d_Mod_greatest_1 rfl (lv_at hl 1 rfl) ?_
  refine lv_iconst (v := 1) hx hb d_Mod_greatest_2 (by decide) ?_
  refine lv_iload_n hx hb d_Mod_greatest_3 rfl (lv_at hl 2 rfl) ?_
  refine x_V (As := [.int xk, .int (1 : Int32), .int xlim]) (rest := []) hx hb hml hown hK (k_Mod_farthest l D cA adr hi I F nn mm en mk ch hch hWF xk true xlim) t_1029 t_4 t_1026 t_1028 ts_39 yk_Mod_farthest ⟨Nat.le_of_ble_eq_true rfl, Nat.le_of_ble_eq_true rfl⟩ (m_rec hK hP) hP rfl hl.1 rfl (Nat.le_of_ble_eq_true rfl) d_Mod_greatest_4 ⟨Nat.le_of_ble_eq_true rfl, Nat.le_of_ble_eq_true rfl⟩ hS (fun q h => h) (fun r H locs hq _ hS => ?_)
  obtain ⟨z, rfl, hz⟩ := hq
  refine W.eq (g2 := F0 m 7 ls [.int z]) rfl ?_
  refine e_i hx hb hr hlk hQ hS d_Mod_greatest_7 ?_
  exact ⟨_, rfl, hz⟩
