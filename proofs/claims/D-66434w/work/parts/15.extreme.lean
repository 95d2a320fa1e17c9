theorem d_Mod_extreme_0 : decode b_Mod_extreme 0 = .ok (.bipush 10, 2) := by decide +kernel
theorem d_Mod_extreme_2 : decode b_Mod_extreme 2 = .ok (.iload_n 1, 1) := by decide +kernel
theorem d_Mod_extreme_3 : decode b_Mod_extreme 3 = .ok (.imul, 1) := by decide +kernel
theorem d_Mod_extreme_4 : decode b_Mod_extreme 4 = .ok (.istore 6, 2) := by decide +kernel
theorem d_Mod_extreme_6 : decode b_Mod_extreme 6 = .ok (.iload 5, 2) := by decide +kernel
theorem d_Mod_extreme_8 : decode b_Mod_extreme 8 = .ok (.ifCond .eq 27, 3) := by decide +kernel
theorem d_Mod_extreme_11 : decode b_Mod_extreme 11 = .ok (.aload_n 0, 1) := by decide +kernel
theorem d_Mod_extreme_12 : decode b_Mod_extreme 12 = .ok (.getfield 50, 3) := by decide +kernel
theorem d_Mod_extreme_15 : decode b_Mod_extreme 15 = .ok (.iload 6, 2) := by decide +kernel
theorem d_Mod_extreme_17 : decode b_Mod_extreme 17 = .ok (.iload_n 2, 1) := by decide +kernel
theorem d_Mod_extreme_18 : decode b_Mod_extreme 18 = .ok (.iadd, 1) := by decide +kernel
theorem d_Mod_extreme_19 : decode b_Mod_extreme 19 = .ok (.iaload, 1) := by decide +kernel
theorem d_Mod_extreme_20 : decode b_Mod_extreme 20 = .ok (.aload_n 0, 1) := by decide +kernel
theorem d_Mod_extreme_21 : decode b_Mod_extreme 21 = .ok (.getfield 50, 3) := by decide +kernel
theorem d_Mod_extreme_24 : decode b_Mod_extreme 24 = .ok (.iload 6, 2) := by decide +kernel
theorem d_Mod_extreme_26 : decode b_Mod_extreme 26 = .ok (.iload_n 3, 1) := by decide +kernel
theorem d_Mod_extreme_27 : decode b_Mod_extreme 27 = .ok (.iadd, 1) := by decide +kernel
theorem d_Mod_extreme_28 : decode b_Mod_extreme 28 = .ok (.iaload, 1) := by decide +kernel
theorem d_Mod_extreme_29 : decode b_Mod_extreme 29 = .ok (.invokestatic 124, 3) := by decide +kernel
theorem d_Mod_extreme_32 : decode b_Mod_extreme 32 = .ok (.goto 24, 3) := by decide +kernel
theorem d_Mod_extreme_35 : decode b_Mod_extreme 35 = .ok (.aload_n 0, 1) := by decide +kernel
theorem d_Mod_extreme_36 : decode b_Mod_extreme 36 = .ok (.getfield 50, 3) := by decide +kernel
theorem d_Mod_extreme_39 : decode b_Mod_extreme 39 = .ok (.iload 6, 2) := by decide +kernel
theorem d_Mod_extreme_41 : decode b_Mod_extreme 41 = .ok (.iload_n 2, 1) := by decide +kernel
theorem d_Mod_extreme_42 : decode b_Mod_extreme 42 = .ok (.iadd, 1) := by decide +kernel
theorem d_Mod_extreme_43 : decode b_Mod_extreme 43 = .ok (.iaload, 1) := by decide +kernel
theorem d_Mod_extreme_44 : decode b_Mod_extreme 44 = .ok (.aload_n 0, 1) := by decide +kernel
theorem d_Mod_extreme_45 : decode b_Mod_extreme 45 = .ok (.getfield 50, 3) := by decide +kernel
theorem d_Mod_extreme_48 : decode b_Mod_extreme 48 = .ok (.iload 6, 2) := by decide +kernel
theorem d_Mod_extreme_50 : decode b_Mod_extreme 50 = .ok (.iload_n 3, 1) := by decide +kernel
theorem d_Mod_extreme_51 : decode b_Mod_extreme 51 = .ok (.iadd, 1) := by decide +kernel
theorem d_Mod_extreme_52 : decode b_Mod_extreme 52 = .ok (.iaload, 1) := by decide +kernel
theorem d_Mod_extreme_53 : decode b_Mod_extreme 53 = .ok (.invokestatic 120, 3) := by decide +kernel
theorem d_Mod_extreme_56 : decode b_Mod_extreme 56 = .ok (.istore 7, 2) := by decide +kernel
theorem d_Mod_extreme_58 : decode b_Mod_extreme 58 = .ok (.iload 5, 2) := by decide +kernel
theorem d_Mod_extreme_60 : decode b_Mod_extreme 60 = .ok (.ifCond .eq 27, 3) := by decide +kernel
theorem d_Mod_extreme_63 : decode b_Mod_extreme 63 = .ok (.aload_n 0, 1) := by decide +kernel
theorem d_Mod_extreme_64 : decode b_Mod_extreme 64 = .ok (.getfield 53, 3) := by decide +kernel
theorem d_Mod_extreme_67 : decode b_Mod_extreme 67 = .ok (.iload 6, 2) := by decide +kernel
theorem d_Mod_extreme_69 : decode b_Mod_extreme 69 = .ok (.iload_n 2, 1) := by decide +kernel
theorem d_Mod_extreme_70 : decode b_Mod_extreme 70 = .ok (.iadd, 1) := by decide +kernel
theorem d_Mod_extreme_71 : decode b_Mod_extreme 71 = .ok (.iaload, 1) := by decide +kernel
theorem d_Mod_extreme_72 : decode b_Mod_extreme 72 = .ok (.aload_n 0, 1) := by decide +kernel
theorem d_Mod_extreme_73 : decode b_Mod_extreme 73 = .ok (.getfield 53, 3) := by decide +kernel
theorem d_Mod_extreme_76 : decode b_Mod_extreme 76 = .ok (.iload 6, 2) := by decide +kernel
theorem d_Mod_extreme_78 : decode b_Mod_extreme 78 = .ok (.iload_n 3, 1) := by decide +kernel
theorem d_Mod_extreme_79 : decode b_Mod_extreme 79 = .ok (.iadd, 1) := by decide +kernel
theorem d_Mod_extreme_80 : decode b_Mod_extreme 80 = .ok (.iaload, 1) := by decide +kernel
theorem d_Mod_extreme_81 : decode b_Mod_extreme 81 = .ok (.invokestatic 124, 3) := by decide +kernel
theorem d_Mod_extreme_84 : decode b_Mod_extreme 84 = .ok (.goto 24, 3) := by decide +kernel
theorem d_Mod_extreme_87 : decode b_Mod_extreme 87 = .ok (.aload_n 0, 1) := by decide +kernel
theorem d_Mod_extreme_88 : decode b_Mod_extreme 88 = .ok (.getfield 53, 3) := by decide +kernel
theorem d_Mod_extreme_91 : decode b_Mod_extreme 91 = .ok (.iload 6, 2) := by decide +kernel
theorem d_Mod_extreme_93 : decode b_Mod_extreme 93 = .ok (.iload_n 2, 1) := by decide +kernel
theorem d_Mod_extreme_94 : decode b_Mod_extreme 94 = .ok (.iadd, 1) := by decide +kernel
theorem d_Mod_extreme_95 : decode b_Mod_extreme 95 = .ok (.iaload, 1) := by decide +kernel
theorem d_Mod_extreme_96 : decode b_Mod_extreme 96 = .ok (.aload_n 0, 1) := by decide +kernel
theorem d_Mod_extreme_97 : decode b_Mod_extreme 97 = .ok (.getfield 53, 3) := by decide +kernel
theorem d_Mod_extreme_100 : decode b_Mod_extreme 100 = .ok (.iload 6, 2) := by decide +kernel
theorem d_Mod_extreme_102 : decode b_Mod_extreme 102 = .ok (.iload_n 3, 1) := by decide +kernel
theorem d_Mod_extreme_103 : decode b_Mod_extreme 103 = .ok (.iadd, 1) := by decide +kernel
theorem d_Mod_extreme_104 : decode b_Mod_extreme 104 = .ok (.iaload, 1) := by decide +kernel
theorem d_Mod_extreme_105 : decode b_Mod_extreme 105 = .ok (.invokestatic 120, 3) := by decide +kernel
theorem d_Mod_extreme_108 : decode b_Mod_extreme 108 = .ok (.istore 8, 2) := by decide +kernel
theorem d_Mod_extreme_110 : decode b_Mod_extreme 110 = .ok (.aload_n 0, 1) := by decide +kernel
theorem d_Mod_extreme_111 : decode b_Mod_extreme 111 = .ok (.iload_n 1, 1) := by decide +kernel
theorem d_Mod_extreme_112 : decode b_Mod_extreme 112 = .ok (.iload_n 2, 1) := by decide +kernel
theorem d_Mod_extreme_113 : decode b_Mod_extreme 113 = .ok (.iload_n 3, 1) := by decide +kernel
theorem d_Mod_extreme_114 : decode b_Mod_extreme 114 = .ok (.iload 4, 2) := by decide +kernel
theorem d_Mod_extreme_116 : decode b_Mod_extreme 116 = .ok (.iload 7, 2) := by decide +kernel
theorem d_Mod_extreme_118 : decode b_Mod_extreme 118 = .ok (.iload 8, 2) := by decide +kernel
theorem d_Mod_extreme_120 : decode b_Mod_extreme 120 = .ok (.invokevirtual 170, 3) := by decide +kernel
theorem d_Mod_extreme_123 : decode b_Mod_extreme 123 = .ok (.ifCond .eq 35, 3) := by decide +kernel
theorem d_Mod_extreme_126 : decode b_Mod_extreme 126 = .ok (.aload_n 0, 1) := by decide +kernel
theorem d_Mod_extreme_127 : decode b_Mod_extreme 127 = .ok (.iload_n 1, 1) := by decide +kernel
theorem d_Mod_extreme_128 : decode b_Mod_extreme 128 = .ok (.iload_n 2, 1) := by decide +kernel
theorem d_Mod_extreme_129 : decode b_Mod_extreme 129 = .ok (.iload_n 3, 1) := by decide +kernel
theorem d_Mod_extreme_130 : decode b_Mod_extreme 130 = .ok (.iload 4, 2) := by decide +kernel
theorem d_Mod_extreme_132 : decode b_Mod_extreme 132 = .ok (.iload 5, 2) := by decide +kernel
theorem d_Mod_extreme_134 : decode b_Mod_extreme 134 = .ok (.invokevirtual 174, 3) := by decide +kernel
theorem d_Mod_extreme_137 : decode b_Mod_extreme 137 = .ok (.ifCond .eq 21, 3) := by decide +kernel
theorem d_Mod_extreme_140 : decode b_Mod_extreme 140 = .ok (.aload_n 0, 1) := by decide +kernel
theorem d_Mod_extreme_141 : decode b_Mod_extreme 141 = .ok (.iload_n 1, 1) := by decide +kernel
theorem d_Mod_extreme_142 : decode b_Mod_extreme 142 = .ok (.iload_n 3, 1) := by decide +kernel
theorem d_Mod_extreme_143 : decode b_Mod_extreme 143 = .ok (.iload_n 2, 1) := by decide +kernel
theorem d_Mod_extreme_144 : decode b_Mod_extreme 144 = .ok (.iload 4, 2) := by decide +kernel
theorem d_Mod_extreme_146 : decode b_Mod_extreme 146 = .ok (.iload 5, 2) := by decide +kernel
theorem d_Mod_extreme_148 : decode b_Mod_extreme 148 = .ok (.invokevirtual 174, 3) := by decide +kernel
theorem d_Mod_extreme_151 : decode b_Mod_extreme 151 = .ok (.ifCond .eq 7, 3) := by decide +kernel
theorem d_Mod_extreme_154 : decode b_Mod_extreme 154 = .ok (.iconst 1, 1) := by decide +kernel
theorem d_Mod_extreme_155 : decode b_Mod_extreme 155 = .ok (.goto 4, 3) := by decide +kernel
theorem d_Mod_extreme_158 : decode b_Mod_extreme 158 = .ok (.iconst 0, 1) := by decide +kernel
theorem d_Mod_extreme_159 : decode b_Mod_extreme 159 = .ok (.ireturn, 1) := by decide +kernel
set_option maxHeartbeats 4000000 in
set_option maxRecDepth 20000 in
theorem k_Mod_extreme (l : Launch) (D : va_G) (cA : Nat → ClassId) (adr : Nat → Nat) (hi : wI mN adr) (I : Nat → Int32) (F : Nat → Nat → Int32) (d nn ca cb cd : Nat) (xd xa xb xc : Int32) (ch less : Bool) (hn : nn ≤ 10) (hd : d < 12) (hxd : xd.toInt = (d : Int)) (hxa : xa.toInt = (ca : Int)) (hxb : xb.toInt = (cb : Int)) (hxc : xc.toInt = (cd : Int)) (hca : ca < nn) (hcb : cb < nn) (hcd : cd < nn) (hab : ca ≠ cb) (hac : ca ≠ cd) (hbc : cb ≠ cd) (hch : I 20 = bi ch) (hne : Ne nn (bl F d) (bh F d)) (hrg : ∀ k, k < nn → -100 ≤ bl F d k ∧ bh F d k ≤ 100) : Ct l y_Mod_extreme b_Mod_extreme 9 (some .boolean) 8 D cA [.ref (adr 0), .int xd, .int xa, .int xb, .int xc, .int (bi less)] (fun H => MP D cA adr I F H) (fun r H => ∃ (I2 : Nat → Int32) (F2 : Nat → Nat → Int32) (q c2 : Bool), r = some (.int (bi q)) ∧ FrD d I I2 F F2 ∧ I2 20 = bi c2 ∧ NOK nn (Hull (kE less) ca cb cd) (bl F d) (bh F d) q (bl F2 d) (bh F2 d) ch c2 ∧ MP D cA adr I2 F2 H) (wA mN adr) := by
  refine Ct.mk (by decide) (Nat.le_of_ble_eq_true rfl) ?_
  intro p e s m args below meth c Q H locs ls hx hb hr hml hlk hown hin hK hQ hS hP hl
  have hl : lv_has ls 9 [(0, .ref (adr 0)), (1, .int xd), (2, .int xa), (3, .int xb), (4, .int xc), (5, .int (bi less))] := hl
  have hown : s.vm.findClass "RangeSheetModel" = some m.cls := hown
  have hrca := hrg ca hca; have hnca := hne ca hca; have hrcb := hrg cb hcb; have hncb := hne cb hcb; have hrcd := hrg cd hcd; have hncd := hne cd hcd; unfold bl bh at hrca hnca hrcb hncb hrcd hncd
  refine lv_bipush (v := 10) hx hb d_Mod_extreme_0 (by decide) ?_
  refine lv_iload_n hx hb d_Mod_extreme_2 rfl (lv_at hl 1 rfl) ?_
  refine x_mul hx hb d_Mod_extreme_3 kc_10 hxd (by omega) (fun z_1 tz_1 => ?_)
  refine lv_istore (lv' := [(6, .int z_1), (0, .ref (adr 0)), (1, .int xd), (2, .int xa), (3, .int xb), (4, .int xc), (5, .int (bi less))]) hx hb d_Mod_extreme_4 hl (by decide) rfl (fun ls hl => ?_)
  refine lv_iload hx hb d_Mod_extreme_6 (lv_at hl 6 rfl) ?_
  have K_202 : ∀ (z_202_0 : Int32) (locs : List Loc), z_202_0.toInt = (if less = false then (max (F 18 ((10 * d) + ca)).toInt (F 18 ((10 * d) + cb)).toInt) else (min (F 18 ((10 * d) + ca)).toInt (F 18 ((10 * d) + cb)).toInt)) → va_S (wA mN adr) s.heap H locs → W p l e (rl 8) s m args below meth c H locs 0 0 Q (F0 m 56 ls [.int z_202_0]) := by
    intro z_202_0 locs hz_202_0 hS
    refine lv_istore (lv' := [(7, .int z_202_0), (6, .int z_1), (0, .ref (adr 0)), (1, .int xd), (2, .int xa), (3, .int xb), (4, .int xc), (5, .int (bi less))]) hx hb d_Mod_extreme_56 hl (by decide) rfl (fun ls hl => ?_)
    refine lv_iload hx hb d_Mod_extreme_58 (lv_at hl 7 rfl) ?_
    have K_403 : ∀ (z_403_0 : Int32) (locs : List Loc), z_403_0.toInt = (if less = false then (max (F 19 ((10 * d) + ca)).toInt (F 19 ((10 * d) + cb)).toInt) else (min (F 19 ((10 * d) + ca)).toInt (F 19 ((10 * d) + cb)).toInt)) → va_S (wA mN adr) s.heap H locs → W p l e (rl 8) s m args below meth c H locs 0 0 Q (F0 m 108 ls [.int z_403_0]) := by
      intro z_403_0 locs hz_403_0 hS
      refine lv_istore (lv' := [(8, .int z_403_0), (7, .int z_202_0), (6, .int z_1), (0, .ref (adr 0)), (1, .int xd), (2, .int xa), (3, .int xb), (4, .int xc), (5, .int (bi less))]) hx hb d_Mod_extreme_108 hl (by decide) rfl (fun ls hl => ?_)
      have eF : z_202_0.toInt = (if less = true then min (bl F d ca) (bl F d cb) else max (bl F d ca) (bl F d cb)) := by rw [hz_202_0]; cases less <;> simp [bl]
      have eT : z_403_0.toInt = (if less = true then min (bh F d ca) (bh F d cb) else max (bh F d ca) (bh F d cb)) := by rw [hz_403_0]; cases less <;> simp [bh]
      refine lv_aload_n hx hb d_Mod_extreme_110 rfl (lv_at hl 3 rfl) ?_
      refine lv_iload_n hx hb d_Mod_extreme_111 rfl (lv_at hl 4 rfl) ?_
      refine lv_iload_n hx hb d_Mod_extreme_112 rfl (lv_at hl 5 rfl) ?_
      refine lv_iload_n hx hb d_Mod_extreme_113 rfl (lv_at hl 6 rfl) ?_
      refine lv_iload hx hb d_Mod_extreme_114 (lv_at hl 7 rfl) ?_
      refine lv_iload hx hb d_Mod_extreme_116 (lv_at hl 1 rfl) ?_
      refine lv_iload hx hb d_Mod_extreme_118 (lv_at hl 0 rfl) ?_
      refine x_V (As := [.int xd, .int xa, .int xb, .int xc, .int z_202_0, .int z_403_0]) (rest := []) hx hb hml hown hK (k_Mod_thirdSide l D cA adr hi I F d nn ca cb cd xd xa xb xc z_202_0 z_403_0 ch hn hd hxd hxa hxb hxc (by omega) (by omega) (by omega) (by rw [eF]; unfold bl; split <;> omega) (by rw [eT]; unfold bh; split <;> omega) hch hne hrg) t_975 t_4 t_972 t_974 ts_33 yk_Mod_thirdSide ⟨Nat.le_of_ble_eq_true rfl, Nat.le_of_ble_eq_true rfl⟩ (m_rec hK hP) hP rfl hl.1 rfl (Nat.le_of_ble_eq_true rfl) d_Mod_extreme_120 ⟨Nat.le_of_ble_eq_true rfl, Nat.le_of_ble_eq_true rfl⟩ hS (fun q h => h) (fun r H locs hq _ hS => ?_)
      obtain ⟨f_404, t_404, lo_404, hh_404, hE_404, hlo_404, hhh_404, rfl, hP⟩ := hq
      obtain ⟨ch_404, hch_404⟩ : ∃ q : Bool, q = (ch || decide ((F 18 (10 * d + cd)).toInt < f_404 ∨ t_404 < (F 19 (10 * d + cd)).toInt)) := ⟨_, rfl⟩
      rw [← hch_404] at hP
      have C1 := cutF_b (d := d) (k := cd) hn hlo_404 hhh_404
      have P1 := (PN.rf (Fx := Hull (kE less) ca cb cd) (c := ch) hne).cut hcd C1 hch_404 (fun bl' bh' hs hn2 hf => by have j := ext_just hca hcb hcd hne hs hf hab hac hbc; rw [← eF, ← eT] at j; exact hE_404.just (j.1 _ (Or.inl rfl)) (j.1 _ (Or.inr rfl)))
      refine W.eq (g2 := F0 m 123 ls [.int (bi (decide (lo_404.toInt ≤ hh_404.toInt)))]) rfl ?_
      refine b_bool_eq (tgt := 158) hx hb d_Mod_extreme_123 (by decide) (fun c_405 => ?_) (fun c_405 => ?_)
      · refine lv_iconst (v := 0) hx hb d_Mod_extreme_158 (by decide) ?_
        refine W.eq (g2 := F0 m 159 ls [.int (bi false)]) rfl ?_
        refine e_z hx hb hr hlk hQ hS d_Mod_extreme_159 ?_
        refine ⟨_, _, false, ch_404, rfl, (FrD.cut (by omega)), rfl, ?_, hP⟩
        exact ⟨fun h => absurd h (by decide), fun _ => P1.2 (by rw [cutF_l, cutF_h]; exact of_decide_eq_false c_405)⟩
      · have p1 := P1.1 (by rw [cutF_l, cutF_h]; exact of_decide_eq_true c_405)
        refine lv_aload_n hx hb d_Mod_extreme_126 rfl (lv_at hl 3 rfl) ?_
        refine lv_iload_n hx hb d_Mod_extreme_127 rfl (lv_at hl 4 rfl) ?_
        refine lv_iload_n hx hb d_Mod_extreme_128 rfl (lv_at hl 5 rfl) ?_
        refine lv_iload_n hx hb d_Mod_extreme_129 rfl (lv_at hl 6 rfl) ?_
        refine lv_iload hx hb d_Mod_extreme_130 (lv_at hl 7 rfl) ?_
        refine lv_iload hx hb d_Mod_extreme_132 (lv_at hl 8 rfl) ?_
        refine x_V (As := [.int xd, .int xa, .int xb, .int xc, .int (bi less)]) (rest := []) hx hb hml hown hK (k_Mod_extremeSide l D cA adr hi (va_up I 20 (bi ch_404)) (cutF F (10 * d + cd) lo_404 hh_404) d nn ca cb cd xd xa xb xc ch_404 less hn hd hxd hxa hxb hxc (by omega) (by omega) (by omega) rfl p1.2.1 (fun k hk => by have a1 := p1.1 k hk; have a2 := hrg k hk; omega)) t_979 t_4 t_976 t_978 ts_34 yk_Mod_extremeSide ⟨Nat.le_of_ble_eq_true rfl, Nat.le_of_ble_eq_true rfl⟩ (m_rec hK hP) hP rfl hl.1 rfl (Nat.le_of_ble_eq_true rfl) d_Mod_extreme_134 ⟨Nat.le_of_ble_eq_true rfl, Nat.le_of_ble_eq_true rfl⟩ hS (fun q h => h) (fun r H locs hq _ hS => ?_)
        obtain ⟨f_406, t_406, lo_406, hh_406, hE_406, hlo_406, hhh_406, rfl, hP⟩ := hq
        obtain ⟨ch_406, hch_406⟩ : ∃ q : Bool, q = (ch_404 || decide (((cutF F (10 * d + cd) lo_404 hh_404) 18 (10 * d + ca)).toInt < f_406 ∨ t_406 < ((cutF F (10 * d + cd) lo_404 hh_404) 19 (10 * d + ca)).toInt)) := ⟨_, rfl⟩
        rw [← hch_406] at hP
        have C2 := cutF_b (d := d) (k := ca) hn hlo_406 hhh_406
        have P2 := p1.cut hca C2 hch_406 (fun bl' bh' hs hn2 hf => by have j := ext_just hca hcb hcd p1.2.1 hs hf hab hac hbc; exact hE_406.just (j.2.1 _ (Or.inl rfl)) (j.2.1 _ (Or.inr rfl)))
        refine W.eq (g2 := F0 m 137 ls [.int (bi (decide (lo_406.toInt ≤ hh_406.toInt)))]) rfl ?_
        refine b_bool_eq (tgt := 158) hx hb d_Mod_extreme_137 (by decide) (fun c_407 => ?_) (fun c_407 => ?_)
        · refine lv_iconst (v := 0) hx hb d_Mod_extreme_158 (by decide) ?_
          refine W.eq (g2 := F0 m 159 ls [.int (bi false)]) rfl ?_
          refine e_z hx hb hr hlk hQ hS d_Mod_extreme_159 ?_
          refine ⟨_, _, false, ch_406, rfl, ((FrD.cut (by omega)).tr (FrD.cut (by omega))), rfl, ?_, hP⟩
          exact ⟨fun h => absurd h (by decide), fun _ => P2.2 (by rw [cutF_l, cutF_h]; exact of_decide_eq_false c_407)⟩
        · have p2 := P2.1 (by rw [cutF_l, cutF_h]; exact of_decide_eq_true c_407)
          refine lv_aload_n hx hb d_Mod_extreme_140 rfl (lv_at hl 3 rfl) ?_
          refine lv_iload_n hx hb d_Mod_extreme_141 rfl (lv_at hl 4 rfl) ?_
          refine lv_iload_n hx hb d_Mod_extreme_142 rfl (lv_at hl 6 rfl) ?_
          refine lv_iload_n hx hb d_Mod_extreme_143 rfl (lv_at hl 5 rfl) ?_
          refine lv_iload hx hb d_Mod_extreme_144 (lv_at hl 7 rfl) ?_
          refine lv_iload hx hb d_Mod_extreme_146 (lv_at hl 8 rfl) ?_
          refine x_V (As := [.int xd, .int xb, .int xa, .int xc, .int (bi less)]) (rest := []) hx hb hml hown hK (k_Mod_extremeSide l D cA adr hi (va_up (va_up I 20 (bi ch_404)) 20 (bi ch_406)) (cutF (cutF F (10 * d + cd) lo_404 hh_404) (10 * d + ca) lo_406 hh_406) d nn cb ca cd xd xb xa xc ch_406 less hn hd hxd hxb hxa hxc (by omega) (by omega) (by omega) rfl p2.2.1 (fun k hk => by have a1 := p2.1 k hk; have a2 := hrg k hk; omega)) t_979 t_4 t_976 t_978 ts_34 yk_Mod_extremeSide ⟨Nat.le_of_ble_eq_true rfl, Nat.le_of_ble_eq_true rfl⟩ (m_rec hK hP) hP rfl hl.1 rfl (Nat.le_of_ble_eq_true rfl) d_Mod_extreme_148 ⟨Nat.le_of_ble_eq_true rfl, Nat.le_of_ble_eq_true rfl⟩ hS (fun q h => h) (fun r H locs hq _ hS => ?_)
          obtain ⟨f_408, t_408, lo_408, hh_408, hE_408, hlo_408, hhh_408, rfl, hP⟩ := hq
          obtain ⟨ch_408, hch_408⟩ : ∃ q : Bool, q = (ch_406 || decide (((cutF (cutF F (10 * d + cd) lo_404 hh_404) (10 * d + ca) lo_406 hh_406) 18 (10 * d + cb)).toInt < f_408 ∨ t_408 < ((cutF (cutF F (10 * d + cd) lo_404 hh_404) (10 * d + ca) lo_406 hh_406) 19 (10 * d + cb)).toInt)) := ⟨_, rfl⟩
          rw [← hch_408] at hP
          have C3 := cutF_b (d := d) (k := cb) hn hlo_408 hhh_408
          have P3 := p2.cut hcb C3 hch_408 (fun bl' bh' hs hn2 hf => by have j := ext_just hca hcb hcd p2.2.1 hs hf hab hac hbc; exact hE_408.just (j.2.2 _ (Or.inl rfl)) (j.2.2 _ (Or.inr rfl)))
          refine W.eq (g2 := F0 m 151 ls [.int (bi (decide (lo_408.toInt ≤ hh_408.toInt)))]) rfl ?_
          refine b_bool_eq (tgt := 158) hx hb d_Mod_extreme_151 (by decide) (fun c_409 => ?_) (fun c_409 => ?_)
          · refine lv_iconst (v := 0) hx hb d_Mod_extreme_158 (by decide) ?_
            refine W.eq (g2 := F0 m 159 ls [.int (bi false)]) rfl ?_
            refine e_z hx hb hr hlk hQ hS d_Mod_extreme_159 ?_
            refine ⟨_, _, false, ch_408, rfl, (((FrD.cut (by omega)).tr (FrD.cut (by omega))).tr (FrD.cut (by omega))), rfl, ?_, hP⟩
            exact ⟨fun h => absurd h (by decide), fun _ => P3.2 (by rw [cutF_l, cutF_h]; exact of_decide_eq_false c_409)⟩
          · refine lv_iconst (v := 1) hx hb d_Mod_extreme_154 (by decide) ?_
            refine lv_goto (tgt := 159) hx hb d_Mod_extreme_155 (by decide) ?_
            refine W.eq (g2 := F0 m 159 ls [.int (bi true)]) rfl ?_
            refine e_z hx hb hr hlk hQ hS d_Mod_extreme_159 ?_
            refine ⟨_, _, true, ch_408, rfl, (((FrD.cut (by omega)).tr (FrD.cut (by omega))).tr (FrD.cut (by omega))), rfl, ?_, hP⟩
            refine ⟨fun _ => ⟨P3.1 (by rw [cutF_l, cutF_h]; exact of_decide_eq_true c_409), fun he => ?_⟩, fun h => absurd h (by decide)⟩
            have e1 : Eqb nn (bl (cutF F (10 * d + cd) lo_404 hh_404) d) (bh (cutF F (10 * d + cd) lo_404 hh_404) d) (bl F d) (bh F d) := fun j hj => by have b1 := he j hj; have b2 := C1.sb j hj; have b3 := C2.sb j hj; have b4 := C3.sb j hj; omega
            have e2 : Eqb nn (bl (cutF (cutF F (10 * d + cd) lo_404 hh_404) (10 * d + ca) lo_406 hh_406) d) (bh (cutF (cutF F (10 * d + cd) lo_404 hh_404) (10 * d + ca) lo_406 hh_406) d) (bl (cutF F (10 * d + cd) lo_404 hh_404) d) (bh (cutF F (10 * d + cd) lo_404 hh_404) d) := fun j hj => by have b1 := he j hj; have b2 := C1.sb j hj; have b3 := C2.sb j hj; have b4 := C3.sb j hj; omega
            have e3 : Eqb nn (bl (cutF (cutF (cutF F (10 * d + cd) lo_404 hh_404) (10 * d + ca) lo_406 hh_406) (10 * d + cb) lo_408 hh_408) d) (bh (cutF (cutF (cutF F (10 * d + cd) lo_404 hh_404) (10 * d + ca) lo_406 hh_406) (10 * d + cb) lo_408 hh_408) d) (bl (cutF (cutF F (10 * d + cd) lo_404 hh_404) (10 * d + ca) lo_406 hh_406) d) (bh (cutF (cutF F (10 * d + cd) lo_404 hh_404) (10 * d + ca) lo_406 hh_406) d) := fun j hj => by have b1 := he j hj; have b2 := C1.sb j hj; have b3 := C2.sb j hj; have b4 := C3.sb j hj; omega
            have q1 := (C1.eq hcd).mp e1; have q2 := (C2.eq hca).mp e2; have q3 := (C3.eq hcb).mp e3
            have na := hne ca hca; have nb := hne cb hcb; have nc := hne cd hcd; have ra := hrg ca hca; have rb := hrg cb hcb; have rc := hrg cd hcd
            have d1a := e1 ca hca; have d1b := e1 cb hcb; have d1c := e1 cd hcd; have d2a := e2 ca hca; have d2b := e2 cb hcb; have d2c := e2 cd hcd
            have s1 := hE_404.tight (p := bl F d cd) (q := bh F d cd) (fun x hx => by have := hx.1; omega) nc (by omega) (by omega)
            have s2 := hE_406.tight (p := bl F d ca) (q := bh F d ca) (fun x hx => by have := hx.1; omega) na (by omega) (by omega)
            have s3 := hE_408.tight (p := bl F d cb) (q := bh F d cb) (fun x hx => by have := hx.1; omega) nb (by omega) (by omega)
            rw [d1b.1, d1b.2, d1c.1, d1c.2] at s2
            rw [d2a.1, d2a.2, d2c.1, d2c.2, d1a.1, d1a.2, d1c.1, d1c.2] at s3
            rw [eF, eT] at s1
            exact ext_fin hab hac hbc na nb nc (fun z hz => by rcases hz with rfl | rfl; exact s1.1; exact s1.2) (fun x hx => by rcases hx with rfl | rfl; exact s2.1.2; exact s2.2.2) (fun x hx => by rcases hx with rfl | rfl; exact s3.1.2; exact s3.2.2)
    refine b_bool_eq (tgt := 87) hx hb d_Mod_extreme_60 (by decide) (fun c_410 => ?_) (fun c_410 => ?_)
    · refine lv_aload_n hx hb d_Mod_extreme_87 rfl (lv_at hl 2 rfl) ?_
      refine m_gr hx hb hK hown hP 19 (by decide) t_756 d_Mod_extreme_88 ?_
      refine lv_iload hx hb d_Mod_extreme_91 (lv_at hl 1 rfl) ?_
      refine lv_iload_n hx hb d_Mod_extreme_93 rfl (lv_at hl 4 rfl) ?_
      refine x_add hx hb d_Mod_extreme_94 tz_1 hxa (by omega) (fun z_411 tz_411 => ?_)
      refine m_ld hx hb hK hP 19 (by decide) (((10 * d) + ca)) tz_411 (by omega) (show ((10 * d) + ca) < 120 by omega) d_Mod_extreme_95 (fun z_412 ez_412 => ?_)
      subst ez_412
      refine lv_aload_n hx hb d_Mod_extreme_96 rfl (lv_at hl 2 rfl) ?_
      refine m_gr hx hb hK hown hP 19 (by decide) t_756 d_Mod_extreme_97 ?_
      refine lv_iload hx hb d_Mod_extreme_100 (lv_at hl 1 rfl) ?_
      refine lv_iload_n hx hb d_Mod_extreme_102 rfl (lv_at hl 5 rfl) ?_
      refine x_add hx hb d_Mod_extreme_103 tz_1 hxb (by omega) (fun z_413 tz_413 => ?_)
      refine m_ld hx hb hK hP 19 (by decide) (((10 * d) + cb)) tz_413 (by omega) (show ((10 * d) + cb) < 120 by omega) d_Mod_extreme_104 (fun z_414 ez_414 => ?_)
      subst ez_414
      refine r_Mod_greater hx hb hml hown hK hl.1 hS ⟨Nat.le_of_ble_eq_true rfl, Nat.le_of_ble_eq_true rfl⟩ ⟨Nat.le_of_ble_eq_true rfl, Nat.le_of_ble_eq_true rfl⟩ rfl rfl  d_Mod_extreme_105 (Nat.le_of_ble_eq_true rfl) (fun z_415 locs tz_415 hS => ?_)
      exact K_403 z_415 locs (by first | omega | (simp [c_410]; done) | (simp [c_410]; omega) | (simp only [decide_eq_true_eq, decide_eq_false_iff_not]; omega)) hS
    · refine lv_aload_n hx hb d_Mod_extreme_63 rfl (lv_at hl 2 rfl) ?_
      refine m_gr hx hb hK hown hP 19 (by decide) t_756 d_Mod_extreme_64 ?_
      refine lv_iload hx hb d_Mod_extreme_67 (lv_at hl 1 rfl) ?_
      refine lv_iload_n hx hb d_Mod_extreme_69 rfl (lv_at hl 4 rfl) ?_
      refine x_add hx hb d_Mod_extreme_70 tz_1 hxa (by omega) (fun z_416 tz_416 => ?_)
      refine m_ld hx hb hK hP 19 (by decide) (((10 * d) + ca)) tz_416 (by omega) (show ((10 * d) + ca) < 120 by omega) d_Mod_extreme_71 (fun z_417 ez_417 => ?_)
      subst ez_417
      refine lv_aload_n hx hb d_Mod_extreme_72 rfl (lv_at hl 2 rfl) ?_
      refine m_gr hx hb hK hown hP 19 (by decide) t_756 d_Mod_extreme_73 ?_
      refine lv_iload hx hb d_Mod_extreme_76 (lv_at hl 1 rfl) ?_
      refine lv_iload_n hx hb d_Mod_extreme_78 rfl (lv_at hl 5 rfl) ?_
      refine x_add hx hb d_Mod_extreme_79 tz_1 hxb (by omega) (fun z_418 tz_418 => ?_)
      refine m_ld hx hb hK hP 19 (by decide) (((10 * d) + cb)) tz_418 (by omega) (show ((10 * d) + cb) < 120 by omega) d_Mod_extreme_80 (fun z_419 ez_419 => ?_)
      subst ez_419
      refine r_Mod_lesser hx hb hml hown hK hl.1 hS ⟨Nat.le_of_ble_eq_true rfl, Nat.le_of_ble_eq_true rfl⟩ ⟨Nat.le_of_ble_eq_true rfl, Nat.le_of_ble_eq_true rfl⟩ rfl rfl  d_Mod_extreme_81 (Nat.le_of_ble_eq_true rfl) (fun z_420 locs tz_420 hS => ?_)
      refine lv_goto (tgt := 108) hx hb d_Mod_extreme_84 (by decide) ?_
      exact K_403 z_420 locs (by first | omega | (simp [c_410]; done) | (simp [c_410]; omega) | (simp only [decide_eq_true_eq, decide_eq_false_iff_not]; omega)) hS
  refine b_bool_eq (tgt := 35) hx hb d_Mod_extreme_8 (by decide) (fun c_421 => ?_) (fun c_421 => ?_)
  · refine lv_aload_n hx hb d_Mod_extreme_35 rfl (lv_at hl 1 rfl) ?_
    refine m_gr hx hb hK hown hP 18 (by decide) t_755 d_Mod_extreme_36 ?_
    refine lv_iload hx hb d_Mod_extreme_39 (lv_at hl 0 rfl) ?_
    refine lv_iload_n hx hb d_Mod_extreme_41 rfl (lv_at hl 3 rfl) ?_
    refine x_add hx hb d_Mod_extreme_42 tz_1 hxa (by omega) (fun z_422 tz_422 => ?_)
    refine m_ld hx hb hK hP 18 (by decide) (((10 * d) + ca)) tz_422 (by omega) (show ((10 * d) + ca) < 120 by omega) d_Mod_extreme_43 (fun z_423 ez_423 => ?_)
    subst ez_423
    refine lv_aload_n hx hb d_Mod_extreme_44 rfl (lv_at hl 1 rfl) ?_
    refine m_gr hx hb hK hown hP 18 (by decide) t_755 d_Mod_extreme_45 ?_
    refine lv_iload hx hb d_Mod_extreme_48 (lv_at hl 0 rfl) ?_
    refine lv_iload_n hx hb d_Mod_extreme_50 rfl (lv_at hl 4 rfl) ?_
    refine x_add hx hb d_Mod_extreme_51 tz_1 hxb (by omega) (fun z_424 tz_424 => ?_)
    refine m_ld hx hb hK hP 18 (by decide) (((10 * d) + cb)) tz_424 (by omega) (show ((10 * d) + cb) < 120 by omega) d_Mod_extreme_52 (fun z_425 ez_425 => ?_)
    subst ez_425
    refine r_Mod_greater hx hb hml hown hK hl.1 hS ⟨Nat.le_of_ble_eq_true rfl, Nat.le_of_ble_eq_true rfl⟩ ⟨Nat.le_of_ble_eq_true rfl, Nat.le_of_ble_eq_true rfl⟩ rfl rfl  d_Mod_extreme_53 (Nat.le_of_ble_eq_true rfl) (fun z_426 locs tz_426 hS => ?_)
    exact K_202 z_426 locs (by first | omega | (simp [c_421]; done) | (simp [c_421]; omega) | (simp only [decide_eq_true_eq, decide_eq_false_iff_not]; omega)) hS
  · refine lv_aload_n hx hb d_Mod_extreme_11 rfl (lv_at hl 1 rfl) ?_
    refine m_gr hx hb hK hown hP 18 (by decide) t_755 d_Mod_extreme_12 ?_
    refine lv_iload hx hb d_Mod_extreme_15 (lv_at hl 0 rfl) ?_
    refine lv_iload_n hx hb d_Mod_extreme_17 rfl (lv_at hl 3 rfl) ?_
    refine x_add hx hb d_Mod_extreme_18 tz_1 hxa (by omega) (fun z_427 tz_427 => ?_)
    refine m_ld hx hb hK hP 18 (by decide) (((10 * d) + ca)) tz_427 (by omega) (show ((10 * d) + ca) < 120 by omega) d_Mod_extreme_19 (fun z_428 ez_428 => ?_)
    subst ez_428
    refine lv_aload_n hx hb d_Mod_extreme_20 rfl (lv_at hl 1 rfl) ?_
    refine m_gr hx hb hK hown hP 18 (by decide) t_755 d_Mod_extreme_21 ?_
    refine lv_iload hx hb d_Mod_extreme_24 (lv_at hl 0 rfl) ?_
    refine lv_iload_n hx hb d_Mod_extreme_26 rfl (lv_at hl 4 rfl) ?_
    refine x_add hx hb d_Mod_extreme_27 tz_1 hxb (by omega) (fun z_429 tz_429 => ?_)
    refine m_ld hx hb hK hP 18 (by decide) (((10 * d) + cb)) tz_429 (by omega) (show ((10 * d) + cb) < 120 by omega) d_Mod_extreme_28 (fun z_430 ez_430 => ?_)
    subst ez_430
    refine r_Mod_lesser hx hb hml hown hK hl.1 hS ⟨Nat.le_of_ble_eq_true rfl, Nat.le_of_ble_eq_true rfl⟩ ⟨Nat.le_of_ble_eq_true rfl, Nat.le_of_ble_eq_true rfl⟩ rfl rfl  d_Mod_extreme_29 (Nat.le_of_ble_eq_true rfl) (fun z_431 locs tz_431 hS => ?_)
    refine lv_goto (tgt := 56) hx hb d_Mod_extreme_32 (by decide) ?_
    exact K_202 z_431 locs (by first | omega | (simp [c_421]; done) | (simp [c_421]; omega) | (simp only [decide_eq_true_eq, decide_eq_false_iff_not]; omega)) hS
