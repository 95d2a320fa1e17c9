theorem SE.congr {mb : Nat → Bool} {k : Nat} {v : Int} {lo hi lo' hi' : Nat → Int} (h : SE mb k v lo hi) (e : ∀ j, j < 10 → mb j = true → lo j = lo' j ∧ hi j = hi' j) : SE mb k v lo' hi' := by
  intro p q
  have h1 := h p q
  have h2 : cnt 10 (fun j => mb j && (j != k)) lo' hi' p q ≤ cnt 10 (fun j => mb j && (j != k)) lo hi p q := cnt_mono (fun j hj a b c => by
    have a' := a
    simp at a'
    have := e j hj a'.1
    exact ⟨a, by omega, by omega⟩)
  omega
/-- bounds between which the first and the last seat lie -/
theorem diff_just {mb : Nat → Bool} {n k : Nat} {xl xh bl bh : Nat → Int} {x5 x6 : Int} (hn : n ≤ 10) (hm : ∀ j, j < 10 → mb j = true → j < n) (hr : ∀ k, k < n → -100 ≤ xl k ∧ xh k ≤ 100) (hk : k < 10) (hmk : mb k = true) (hs : Sb n bl bh xl xh) (hne : Ne n bl bh) (hf : Fx7 mb bl bh)
    (h5 : ∀ u, xl k ≤ u → u < x5 → ¬ SE mb k u xl xh) (h6 : ∀ u, x6 < u → u ≤ xh k → x5 ≤ u → ¬ SE mb k u xl xh) : x5 ≤ bl k ∧ bh k ≤ x6 := by
  have hB : ∀ j, j < 10 → mb j = true → xl j ≤ bl j ∧ bl j ≤ bh j ∧ bh j ≤ xh j ∧ -100 ≤ xl j := fun j hj hmj => by
    have a1 := hs j (hm j hj hmj)
    have a2 := hne j (hm j hj hmj)
    have a3 := hr j (hm j hj hmj)
    omega
  have s1 := hf.seat hB hk hmk (Or.inl rfl)
  have s2 := hf.seat hB hk hmk (Or.inr rfl)
  have b := hB k hk hmk
  have e1 : x5 ≤ bl k := by
    apply Classical.byContradiction
    intro hc
    exact h5 (bl k) b.1 (by omega) s1
  refine ⟨e1, ?_⟩
  apply Classical.byContradiction
  intro hc
  exact h6 (bh k) (by omega) b.2.2.1 (by omega) s2
theorem d_Mod_different_0 : decode b_Mod_different 0 = .ok (.iconst 0, 1) := by decide +kernel
theorem d_Mod_different_1 : decode b_Mod_different 1 = .ok (.istore_n 3, 1) := by decide +kernel
theorem d_Mod_different_2 : decode b_Mod_different 2 = .ok (.iload_n 3, 1) := by decide +kernel
theorem d_Mod_different_3 : decode b_Mod_different 3 = .ok (.bipush 10, 2) := by decide +kernel
theorem d_Mod_different_5 : decode b_Mod_different 5 = .ok (.if_icmp .ge 113, 3) := by decide +kernel
theorem d_Mod_different_8 : decode b_Mod_different 8 = .ok (.bipush 10, 2) := by decide +kernel
theorem d_Mod_different_10 : decode b_Mod_different 10 = .ok (.iload_n 1, 1) := by decide +kernel
theorem d_Mod_different_11 : decode b_Mod_different 11 = .ok (.imul, 1) := by decide +kernel
theorem d_Mod_different_12 : decode b_Mod_different 12 = .ok (.iload_n 3, 1) := by decide +kernel
theorem d_Mod_different_13 : decode b_Mod_different 13 = .ok (.iadd, 1) := by decide +kernel
theorem d_Mod_different_14 : decode b_Mod_different 14 = .ok (.istore 4, 2) := by decide +kernel
theorem d_Mod_different_16 : decode b_Mod_different 16 = .ok (.iload_n 2, 1) := by decide +kernel
theorem d_Mod_different_17 : decode b_Mod_different 17 = .ok (.iload_n 3, 1) := by decide +kernel
theorem d_Mod_different_18 : decode b_Mod_different 18 = .ok (.invokestatic 113, 3) := by decide +kernel
theorem d_Mod_different_21 : decode b_Mod_different 21 = .ok (.ifCond .eq 91, 3) := by decide +kernel
theorem d_Mod_different_24 : decode b_Mod_different 24 = .ok (.aload_n 0, 1) := by decide +kernel
theorem d_Mod_different_25 : decode b_Mod_different 25 = .ok (.getfield 50, 3) := by decide +kernel
theorem d_Mod_different_28 : decode b_Mod_different 28 = .ok (.iload 4, 2) := by decide +kernel
theorem d_Mod_different_30 : decode b_Mod_different 30 = .ok (.iaload, 1) := by decide +kernel
theorem d_Mod_different_31 : decode b_Mod_different 31 = .ok (.istore 5, 2) := by decide +kernel
theorem d_Mod_different_33 : decode b_Mod_different 33 = .ok (.iload 5, 2) := by decide +kernel
theorem d_Mod_different_35 : decode b_Mod_different 35 = .ok (.aload_n 0, 1) := by decide +kernel
theorem d_Mod_different_36 : decode b_Mod_different 36 = .ok (.getfield 53, 3) := by decide +kernel
theorem d_Mod_different_39 : decode b_Mod_different 39 = .ok (.iload 4, 2) := by decide +kernel
theorem d_Mod_different_41 : decode b_Mod_different 41 = .ok (.iaload, 1) := by decide +kernel
theorem d_Mod_different_42 : decode b_Mod_different 42 = .ok (.if_icmp .gt 21, 3) := by decide +kernel
theorem d_Mod_different_45 : decode b_Mod_different 45 = .ok (.aload_n 0, 1) := by decide +kernel
theorem d_Mod_different_46 : decode b_Mod_different 46 = .ok (.iload_n 1, 1) := by decide +kernel
theorem d_Mod_different_47 : decode b_Mod_different 47 = .ok (.iload_n 2, 1) := by decide +kernel
theorem d_Mod_different_48 : decode b_Mod_different 48 = .ok (.iload_n 3, 1) := by decide +kernel
theorem d_Mod_different_49 : decode b_Mod_different 49 = .ok (.iload 5, 2) := by decide +kernel
theorem d_Mod_different_51 : decode b_Mod_different 51 = .ok (.invokevirtual 178, 3) := by decide +kernel
theorem d_Mod_different_54 : decode b_Mod_different 54 = .ok (.ifCond .ne 9, 3) := by decide +kernel
theorem d_Mod_different_57 : decode b_Mod_different 57 = .ok (.iinc 5 1, 3) := by decide +kernel
theorem d_Mod_different_60 : decode b_Mod_different 60 = .ok (.goto (-27), 3) := by decide +kernel
theorem d_Mod_different_63 : decode b_Mod_different 63 = .ok (.aload_n 0, 1) := by decide +kernel
theorem d_Mod_different_64 : decode b_Mod_different 64 = .ok (.getfield 53, 3) := by decide +kernel
theorem d_Mod_different_67 : decode b_Mod_different 67 = .ok (.iload 4, 2) := by decide +kernel
theorem d_Mod_different_69 : decode b_Mod_different 69 = .ok (.iaload, 1) := by decide +kernel
theorem d_Mod_different_70 : decode b_Mod_different 70 = .ok (.istore 6, 2) := by decide +kernel
theorem d_Mod_different_72 : decode b_Mod_different 72 = .ok (.iload 6, 2) := by decide +kernel
theorem d_Mod_different_74 : decode b_Mod_different 74 = .ok (.iload 5, 2) := by decide +kernel
theorem d_Mod_different_76 : decode b_Mod_different 76 = .ok (.if_icmp .lt 21, 3) := by decide +kernel
theorem d_Mod_different_79 : decode b_Mod_different 79 = .ok (.aload_n 0, 1) := by decide +kernel
theorem d_Mod_different_80 : decode b_Mod_different 80 = .ok (.iload_n 1, 1) := by decide +kernel
theorem d_Mod_different_81 : decode b_Mod_different 81 = .ok (.iload_n 2, 1) := by decide +kernel
theorem d_Mod_different_82 : decode b_Mod_different 82 = .ok (.iload_n 3, 1) := by decide +kernel
theorem d_Mod_different_83 : decode b_Mod_different 83 = .ok (.iload 6, 2) := by decide +kernel
theorem d_Mod_different_85 : decode b_Mod_different 85 = .ok (.invokevirtual 178, 3) := by decide +kernel
theorem d_Mod_different_88 : decode b_Mod_different 88 = .ok (.ifCond .ne 9, 3) := by decide +kernel
theorem d_Mod_different_91 : decode b_Mod_different 91 = .ok (.iinc 6 (-1), 3) := by decide +kernel
theorem d_Mod_different_94 : decode b_Mod_different 94 = .ok (.goto (-22), 3) := by decide +kernel
theorem d_Mod_different_97 : decode b_Mod_different 97 = .ok (.aload_n 0, 1) := by decide +kernel
theorem d_Mod_different_98 : decode b_Mod_different 98 = .ok (.iload_n 1, 1) := by decide +kernel
theorem d_Mod_different_99 : decode b_Mod_different 99 = .ok (.iload_n 3, 1) := by decide +kernel
theorem d_Mod_different_100 : decode b_Mod_different 100 = .ok (.iload 5, 2) := by decide +kernel
theorem d_Mod_different_102 : decode b_Mod_different 102 = .ok (.iload 6, 2) := by decide +kernel
theorem d_Mod_different_104 : decode b_Mod_different 104 = .ok (.invokevirtual 160, 3) := by decide +kernel
theorem d_Mod_different_107 : decode b_Mod_different 107 = .ok (.ifCond .ne 5, 3) := by decide +kernel
theorem d_Mod_different_110 : decode b_Mod_different 110 = .ok (.iconst 0, 1) := by decide +kernel
theorem d_Mod_different_111 : decode b_Mod_different 111 = .ok (.ireturn, 1) := by decide +kernel
theorem d_Mod_different_112 : decode b_Mod_different 112 = .ok (.iinc 3 1, 3) := by decide +kernel
theorem d_Mod_different_115 : decode b_Mod_different 115 = .ok (.goto (-113), 3) := by decide +kernel
theorem d_Mod_different_118 : decode b_Mod_different 118 = .ok (.iconst 1, 1) := by decide +kernel
theorem d_Mod_different_119 : decode b_Mod_different 119 = .ok (.ireturn, 1) := by decide +kernel
set_option maxHeartbeats 4000000 in
set_option maxRecDepth 20000 in
theorem k_Mod_different (l : Launch) (D : va_G) (cA : Nat → ClassId) (adr : Nat → Nat) (hi : wI mN adr) (I : Nat → Int32) (F : Nat → Nat → Int32) (d nn mk : Nat) (xd xm : Int32) (ch : Bool) (hn : nn ≤ 10) (hd : d < 12) (hxd : xd.toInt = (d : Int)) (hxm : xm.toInt = (mk : Int)) (hm : ∀ j, j < 10 → mk.testBit j = true → j < nn) (hch : I 20 = bi ch) (hne : Ne nn (bl F d) (bh F d)) (hrg : ∀ k, k < nn → -100 ≤ bl F d k ∧ bh F d k ≤ 100) : Ct l y_Mod_different b_Mod_different 7 (some .boolean) 6 D cA [.ref (adr 0), .int xd, .int xm] (fun H => MP D cA adr I F H) (fun r H => ∃ (I2 : Nat → Int32) (F2 : Nat → Nat → Int32) (q c2 : Bool), r = some (.int (bi q)) ∧ FrD d I I2 F F2 ∧ I2 20 = bi c2 ∧ NOK nn (Fx7 (fun j => mk.testBit j)) (bl F d) (bh F d) q (bl F2 d) (bh F2 d) ch c2 ∧ MP D cA adr I2 F2 H) (wA mN adr) := by
  refine Ct.mk (by decide) (Nat.le_of_ble_eq_true rfl) ?_
  intro p e s m args below meth c Q H locs ls hx hb hr hml hlk hown hin hK hQ hS hP hl
  have hl : lv_has ls 7 [(0, .ref (adr 0)), (1, .int xd), (2, .int xm)] := hl
  have hown : s.vm.findClass "RangeSheetModel" = some m.cls := hown
  refine lv_iconst (v := 0) hx hb d_Mod_different_0 (by decide) ?_
  refine lv_istore_n (lv' := [(3, .int (0 : Int32)), (0, .ref (adr 0)), (1, .int xd), (2, .int xm)]) hx hb d_Mod_different_1 rfl hl (by decide) rfl (fun ls hl => ?_)
  have L_1 : ∀ (n : Nat) (kx : Nat) (x3 : Int32) (I1 : Nat → Int32) (F1 : Nat → Nat → Int32) (c1 : Bool) (H : Heap) (locs : List Loc) (ls : Array Slot), (10 - kx) < n → (kx ≤ 10) → (x3.toInt = (kx : Int)) → (FrD d I I1 F F1) → (I1 20 = bi c1) → (PN nn (Fx7 (fun j => mk.testBit j)) (bl F d) (bh F d) (bl F1 d) (bh F1 d) ch c1) → (Eqb nn (bl F1 d) (bh F1 d) (bl F d) (bh F d) → ∀ i, i < kx → mk.testBit i = true → SE (fun j => mk.testBit j) i (bl F d i) (bl F d) (bh F d) ∧ SE (fun j => mk.testBit j) i (bh F d i) (bl F d) (bh F d)) → MP D cA adr I1 F1 H → va_S (wA mN adr) s.heap H locs → lv_has ls 7 [(0, .ref (adr 0)), (1, .int xd), (2, .int xm), (3, .int x3)] → W p l e (rl 6) s m args below meth c H locs 0 0 Q (F0 m 2 ls []) := by
    intro n
    induction n with
    | zero => intro kx x3 I1 F1 c1 H locs ls hmu; exact absurd hmu (Nat.not_lt_zero _)
    | succ n ih_1 =>
      intro kx x3 I1 F1 c1 H locs ls hmu hkx h3 hFr h20 hPN hD hP hS hl
      have hne1 : Ne nn (bl F1 d) (bh F1 d) := hPN.2.1
      have hrg1 : ∀ k, k < nn → -100 ≤ bl F1 d k ∧ bh F1 d k ≤ 100 := fun k hk => by have a1 := hPN.1 k hk; have a2 := hrg k hk; omega
      refine lv_iload_n hx hb d_Mod_different_2 rfl (lv_at hl 3 rfl) ?_
      refine lv_bipush (v := 10) hx hb d_Mod_different_3 (by decide) ?_
      refine b_icmp_ge (tgt := 118) hx hb d_Mod_different_5 (by decide) h3 kc_10 (fun c_2 => ?_) (fun c_2 => ?_)
      · refine lv_iconst (v := 1) hx hb d_Mod_different_118 (by decide) ?_
        refine W.eq (g2 := F0 m 119 ls [.int (bi true)]) rfl ?_
        refine e_z hx hb hr hlk hQ hS d_Mod_different_119 ?_
        refine ⟨I1, F1, true, c1, rfl, hFr, h20, ⟨fun _ => ⟨hPN, fun he => ?_⟩, fun h => absurd h (by decide)⟩, hP⟩
        exact Fx7.of (fun j hj hmj => ⟨hne j (hm j hj hmj), (hrg j (hm j hj hmj)).1⟩) (fun k hk hmk => hD he k (by omega) hmk)
      · refine lv_bipush (v := 10) hx hb d_Mod_different_8 (by decide) ?_
        refine lv_iload_n hx hb d_Mod_different_10 rfl (lv_at hl 1 rfl) ?_
        refine x_mul hx hb d_Mod_different_11 kc_10 hxd (by omega) (fun z_3 tz_3 => ?_)
        refine lv_iload_n hx hb d_Mod_different_12 rfl (lv_at hl 3 rfl) ?_
        refine x_add hx hb d_Mod_different_13 tz_3 h3 (by omega) (fun z_4 tz_4 => ?_)
        refine lv_istore (lv' := [(4, .int z_4), (0, .ref (adr 0)), (1, .int xd), (2, .int xm), (3, .int x3)]) hx hb d_Mod_different_14 hl (by decide) rfl (fun ls hl => ?_)
        refine lv_iload_n hx hb d_Mod_different_16 rfl (lv_at hl 3 rfl) ?_
        refine lv_iload_n hx hb d_Mod_different_17 rfl (lv_at hl 4 rfl) ?_
        refine r_Mod_has hx hb hml hown hK hl.1 hS ⟨Nat.le_of_ble_eq_true rfl, Nat.le_of_ble_eq_true rfl⟩ ⟨Nat.le_of_ble_eq_true rfl, Nat.le_of_ble_eq_true rfl⟩ hxm h3 (by omega) (by omega) d_Mod_different_18 (Nat.le_of_ble_eq_true rfl) (fun locs hS => ?_)
        refine b_bool_eq (tgt := 112) hx hb d_Mod_different_21 (by decide) (fun c_5 => ?_) (fun c_5 => ?_)
        · refine x_iinc (k := 4) (lv' := fun v_ => [(3, .int v_), (4, .int z_4), (0, .ref (adr 0)), (1, .int xd), (2, .int xm)]) hx hb d_Mod_different_112 hl rfl h3 (by decide) (by omega) (by decide) (fun v_ => rfl) (fun z_6 tz_6 ls hl => ?_)
          refine lv_goto (tgt := 2) hx hb d_Mod_different_115 (by decide) ?_
          exact ih_1 (kx + 1) z_6 I1 F1 c1 _ _ _ (by omega) (by omega) (by omega) hFr h20 hPN (fun he i hi hmi => by rcases (by omega : i < kx ∨ i = kx) with q | q; exact hD he i q hmi; (rw [q] at hmi; exact absurd hmi (by have := c_5; rw [hasN_nat] at this; simp [this]))) hP hS (lv_sub hl [2, 3, 4, 0] rfl)
        · have hmk : mk.testBit kx = true := by have := c_5; rw [hasN_nat] at this; exact this
          have hkn : kx < nn := hm kx (by omega) hmk
          have hrk := hrg1 kx hkn; have hnk := hne1 kx hkn; unfold bl bh at hrk hnk
          refine lv_aload_n hx hb d_Mod_different_24 rfl (lv_at hl 1 rfl) ?_
          refine m_gr hx hb hK hown hP 18 (by decide) t_755 d_Mod_different_25 ?_
          refine lv_iload hx hb d_Mod_different_28 (lv_at hl 0 rfl) ?_
          refine m_ld hx hb hK hP 18 (by decide) (((10 * d) + kx)) tz_4 (by omega) (show ((10 * d) + kx) < 120 by omega) d_Mod_different_30 (fun z_7 ez_7 => ?_)
          subst ez_7
          have hP : MP D cA adr I1 (va_up F1 27 (F1 27)) H := by rw [va_up_eta]; exact hP
          refine lv_istore (lv' := [(5, .int (F1 18 ((10 * d) + kx))), (4, .int z_4), (0, .ref (adr 0)), (1, .int xd), (2, .int xm), (3, .int x3)]) hx hb d_Mod_different_31 hl (by decide) rfl (fun ls hl => ?_)
          have B_8 : ∀ (x5 : Int32) (G : Nat → Int32) (H : Heap) (locs : List Loc) (ls : Array Slot), (bl F1 d kx ≤ x5.toInt ∧ x5.toInt ≤ bh F1 d kx + 1) → (∀ u, bl F1 d kx ≤ u → u < x5.toInt → ¬ SE (fun j => mk.testBit j) kx u (bl F1 d) (bh F1 d)) → (x5.toInt = bh F1 d kx + 1 ∨ (x5.toInt ≤ bh F1 d kx ∧ SE (fun j => mk.testBit j) kx x5.toInt (bl F1 d) (bh F1 d))) → MP D cA adr I1 (va_up F1 27 G) H → va_S (wA mN adr) s.heap H locs → lv_has ls 7 [(0, .ref (adr 0)), (1, .int xd), (2, .int xm), (3, .int x3), (4, .int z_4), (5, .int x5)] → W p l e (rl 6) s m args below meth c H locs 0 0 Q (F0 m 63 ls []) := by
            intro x5 G H locs ls hx5a hx5b hx5c hP hS hl
            have hx5r : -100 ≤ x5.toInt ∧ x5.toInt ≤ 101 := by unfold bl bh at hx5a; omega
            refine lv_aload_n hx hb d_Mod_different_63 rfl (lv_at hl 0 rfl) ?_
            refine m_gr hx hb hK hown hP 19 (by decide) t_756 d_Mod_different_64 ?_
            refine lv_iload hx hb d_Mod_different_67 (lv_at hl 4 rfl) ?_
            refine m_ld hx hb hK hP 19 (by decide) (((10 * d) + kx)) tz_4 (by omega) (show ((10 * d) + kx) < 120 by omega) d_Mod_different_69 (fun z_9 ez_9 => ?_)
            have ez_9 : z_9 = F1 19 ((10 * d) + kx) := ez_9
            subst ez_9
            refine lv_istore (lv' := [(6, .int (F1 19 ((10 * d) + kx))), (0, .ref (adr 0)), (1, .int xd), (2, .int xm), (3, .int x3), (4, .int z_4), (5, .int x5)]) hx hb d_Mod_different_70 hl (by decide) rfl (fun ls hl => ?_)
            have B_10 : ∀ (x6 : Int32) (G : Nat → Int32) (H : Heap) (locs : List Loc) (ls : Array Slot), (-101 ≤ x6.toInt ∧ x6.toInt ≤ bh F1 d kx ∧ x5.toInt ≤ x6.toInt + 1) → (∀ u, x6.toInt < u → u ≤ bh F1 d kx → x5.toInt ≤ u → ¬ SE (fun j => mk.testBit j) kx u (bl F1 d) (bh F1 d)) → (x6.toInt < x5.toInt ∨ (x5.toInt ≤ x6.toInt ∧ SE (fun j => mk.testBit j) kx x6.toInt (bl F1 d) (bh F1 d))) → MP D cA adr I1 (va_up F1 27 G) H → va_S (wA mN adr) s.heap H locs → lv_has ls 7 [(0, .ref (adr 0)), (1, .int xd), (2, .int xm), (3, .int x3), (4, .int z_4), (5, .int x5), (6, .int x6)] → W p l e (rl 6) s m args below meth c H locs 0 0 Q (F0 m 97 ls []) := by
              intro x6 G H locs ls hx6a hx6b hx6c hP hS hl
              refine lv_aload_n hx hb d_Mod_different_97 rfl (lv_at hl 0 rfl) ?_
              refine lv_iload_n hx hb d_Mod_different_98 rfl (lv_at hl 1 rfl) ?_
              refine lv_iload_n hx hb d_Mod_different_99 rfl (lv_at hl 3 rfl) ?_
              refine lv_iload hx hb d_Mod_different_100 (lv_at hl 5 rfl) ?_
              refine lv_iload hx hb d_Mod_different_102 (lv_at hl 6 rfl) ?_
              refine x_V (As := [.int xd, .int x3, .int x5, .int x6]) (rest := []) hx hb hml hown hK (k_Mod_cut l D cA adr hi I1 (va_up F1 27 G) d kx xd x3 x5 x6 c1 hxd h3 (by omega) (by omega) h20) t_910 t_4 t_907 t_909 ts_20 yk_Mod_cut ⟨Nat.le_of_ble_eq_true rfl, Nat.le_of_ble_eq_true rfl⟩ (m_rec hK hP) hP rfl hl.1 rfl (Nat.le_of_ble_eq_true rfl) d_Mod_different_104 ⟨Nat.le_of_ble_eq_true rfl, Nat.le_of_ble_eq_true rfl⟩ hS (fun q h => h) (fun r H locs hq _ hS => ?_)
              obtain ⟨lo_11, hh_11, hlo_11, hhh_11, rfl, hP⟩ := hq
              obtain ⟨ch_11, hch_11⟩ : ∃ q : Bool, q = (c1 || decide (((va_up F1 27 G) 18 (10 * d + kx)).toInt < x5.toInt ∨ x6.toInt < ((va_up F1 27 G) 19 (10 * d + kx)).toInt)) := ⟨_, rfl⟩
              rw [← hch_11] at hP
              refine W.eq (g2 := F0 m 107 ls [.int (bi (decide (lo_11.toInt ≤ hh_11.toInt)))]) rfl ?_
              have CB : Cutb nn (bl F1 d) (bh F1 d) kx x5.toInt x6.toInt (bl (cutF (va_up F1 27 G) (10 * d + kx) lo_11 hh_11) d) (bh (cutF (va_up F1 27 G) (10 * d + kx) lo_11 hh_11) d) := cutF_b (F := va_up F1 27 G) hn hlo_11 hhh_11
              have PP := hPN.cut hkn CB hch_11 (fun bl' bh' hs hn2 hf => diff_just hn hm hrg1 (by omega) hmk hs hn2 hf hx5b hx6b)
              have hFG : FrD d I1 I1 F1 (va_up F1 27 G) := ⟨fun _ _ => rfl, fun n a b c => va_up_ne _ _ c, fun j _ => ⟨rfl, rfl⟩⟩
              refine b_bool_ne (tgt := 112) hx hb d_Mod_different_107 (by decide) (fun c_12 => ?_) (fun c_12 => ?_)
              · refine x_iinc (k := 3) (lv' := fun v_ => [(3, .int v_), (0, .ref (adr 0)), (1, .int xd), (2, .int xm), (4, .int z_4), (5, .int x5), (6, .int x6)]) hx hb d_Mod_different_112 hl rfl h3 (by decide) (by omega) (by decide) (fun v_ => rfl) (fun z_13 tz_13 ls hl => ?_)
                refine lv_goto (tgt := 2) hx hb d_Mod_different_115 (by decide) ?_
                have PN9 := PP.1 (by rw [cutF_l, cutF_h]; exact of_decide_eq_true c_12)
                have hD9 : Eqb nn (bl (cutF (va_up F1 27 G) (10 * d + kx) lo_11 hh_11) d) (bh (cutF (va_up F1 27 G) (10 * d + kx) lo_11 hh_11) d) (bl F d) (bh F d) → ∀ i, i < kx + 1 → mk.testBit i = true → SE (fun j => mk.testBit j) i (bl F d i) (bl F d) (bh F d) ∧ SE (fun j => mk.testBit j) i (bh F d i) (bl F d) (bh F d) := by
                  intro he i hi hmi
                  have e1 : Eqb nn (bl F1 d) (bh F1 d) (bl F d) (bh F d) := fun j hj => by have b1 := he j hj; have b2 := CB.sb j hj; have b3 := hPN.1 j hj; omega
                  rcases (by omega : i < kx ∨ i = kx) with q | q
                  · exact hD e1 i q hmi
                  · have e2 : Eqb nn (bl (cutF (va_up F1 27 G) (10 * d + kx) lo_11 hh_11) d) (bh (cutF (va_up F1 27 G) (10 * d + kx) lo_11 hh_11) d) (bl F1 d) (bh F1 d) := fun j hj => by have b1 := he j hj; have b2 := e1 j hj; omega
                    have q5 := (CB.eq hkn).mp e2
                    have ek := e1 kx hkn
                    have hnk := hne1 kx hkn
                    have s5 : SE (fun j => mk.testBit j) kx (bl F1 d kx) (bl F1 d) (bh F1 d) := by rcases hx5c with h | h; omega; (rw [show bl F1 d kx = x5.toInt by omega]; exact h.2)
                    have s6 : SE (fun j => mk.testBit j) kx (bh F1 d kx) (bl F1 d) (bh F1 d) := by rcases hx6c with h | h; omega; (rw [show bh F1 d kx = x6.toInt by omega]; exact h.2)
                    rw [q]; rw [ek.1] at s5; rw [ek.2] at s6
                    exact ⟨s5.congr (fun j hj hmj => e1 j (hm j hj hmj)), s6.congr (fun j hj hmj => e1 j (hm j hj hmj))⟩
                exact ih_1 (kx + 1) z_13 _ _ ch_11 _ _ _ (by omega) (by omega) (by omega) (hFr.tr (hFG.tr (FrD.cut (by omega)))) rfl PN9 hD9 hP hS (lv_sub hl [1, 2, 3, 0] rfl)
              · refine lv_iconst (v := 0) hx hb d_Mod_different_110 (by decide) ?_
                refine W.eq (g2 := F0 m 111 ls [.int (bi false)]) rfl ?_
                refine e_z hx hb hr hlk hQ hS d_Mod_different_111 ?_
                exact ⟨_, _, false, ch_11, rfl, hFr.tr (hFG.tr (FrD.cut (by omega))), rfl, ⟨fun h => absurd h (by decide), fun _ => PP.2 (by rw [cutF_l, cutF_h]; exact of_decide_eq_false c_12)⟩, hP⟩
            have L_14 : ∀ (n : Nat) (x6 : Int32) (G : Nat → Int32) (H : Heap) (locs : List Loc) (ls : Array Slot), (x6.toInt + 102).toNat < n → (-101 ≤ x6.toInt ∧ x6.toInt ≤ bh F1 d kx ∧ x5.toInt ≤ x6.toInt + 1) → (∀ u, x6.toInt < u → u ≤ bh F1 d kx → x5.toInt ≤ u → ¬ SE (fun j => mk.testBit j) kx u (bl F1 d) (bh F1 d)) → MP D cA adr I1 (va_up F1 27 G) H → va_S (wA mN adr) s.heap H locs → lv_has ls 7 [(0, .ref (adr 0)), (1, .int xd), (2, .int xm), (3, .int x3), (4, .int z_4), (5, .int x5), (6, .int x6)] → W p l e (rl 6) s m args below meth c H locs 0 0 Q (F0 m 72 ls []) := by
              intro n
              induction n with
              | zero => intro x6 G H locs ls hmu; exact absurd hmu (Nat.not_lt_zero _)
              | succ n ih_14 =>
                intro x6 G H locs ls hmu hx6a hx6b hP hS hl
                have hx6r : x6.toInt ≤ 100 := by unfold bh at hx6a; omega
                refine lv_iload hx hb d_Mod_different_72 (lv_at hl 6 rfl) ?_
                refine lv_iload hx hb d_Mod_different_74 (lv_at hl 5 rfl) ?_
                refine b_icmp_lt (tgt := 97) hx hb d_Mod_different_76 (by decide) rfl rfl (fun c_15 => ?_) (fun c_15 => ?_)
                · exact B_10 x6 G _ _ _ hx6a hx6b (Or.inl (by omega)) hP hS (lv_sub hl [0, 1, 2, 3, 4, 5, 6] rfl)
                · refine lv_aload_n hx hb d_Mod_different_79 rfl (lv_at hl 0 rfl) ?_
                  refine lv_iload_n hx hb d_Mod_different_80 rfl (lv_at hl 1 rfl) ?_
                  refine lv_iload_n hx hb d_Mod_different_81 rfl (lv_at hl 2 rfl) ?_
                  refine lv_iload_n hx hb d_Mod_different_82 rfl (lv_at hl 3 rfl) ?_
                  refine lv_iload hx hb d_Mod_different_83 (lv_at hl 6 rfl) ?_
                  refine x_V (As := [.int xd, .int xm, .int x3, .int x6]) (rest := []) hx hb hml hown hK (k_Mod_seats l D cA adr hi I1 (va_up F1 27 G) d nn mk kx xd xm x3 x6 hn hd hxd hxm h3 (by omega) hm hne1 hrg1) t_932 t_4 t_929 t_931 ts_24 yk_Mod_seats ⟨Nat.le_of_ble_eq_true rfl, Nat.le_of_ble_eq_true rfl⟩ (m_rec hK hP) hP rfl hl.1 rfl (Nat.le_of_ble_eq_true rfl) d_Mod_different_85 ⟨Nat.le_of_ble_eq_true rfl, Nat.le_of_ble_eq_true rfl⟩ hS (fun q h => h) (fun r H locs hq _ hS => ?_)
                  obtain ⟨G_16, q_16, rfl, hq_16, hP⟩ := hq
                  have hP : MP D cA adr I1 (va_up F1 27 G_16) H := by rw [bx_uu] at hP; exact hP
                  have hq_16 : (q_16 = true ↔ SE (fun j => mk.testBit j) kx x6.toInt (bl F1 d) (bh F1 d)) := hq_16
                  refine W.eq (g2 := F0 m 88 ls [.int (bi q_16)]) rfl ?_
                  refine b_bool_ne (tgt := 97) hx hb d_Mod_different_88 (by decide) (fun c_17 => ?_) (fun c_17 => ?_)
                  · exact B_10 x6 G_16 _ _ _ hx6a hx6b (Or.inr ⟨by omega, hq_16.mp c_17⟩) hP hS (lv_sub hl [0, 1, 2, 3, 4, 5, 6] rfl)
                  · refine x_iinc (k := 6) (lv' := fun v_ => [(6, .int v_), (0, .ref (adr 0)), (1, .int xd), (2, .int xm), (3, .int x3), (4, .int z_4), (5, .int x5)]) hx hb d_Mod_different_91 hl rfl rfl (by decide) (by omega) (by decide) (fun v_ => rfl) (fun z_18 tz_18 ls hl => ?_)
                    refine lv_goto (tgt := 72) hx hb d_Mod_different_94 (by decide) ?_
                    exact ih_14 z_18 G_16 _ _ _ (by omega) (by omega) (fun u h1 h2 h3 => by rcases (by omega : x6.toInt < u ∨ u = x6.toInt) with q | q; exact hx6b u q h2 h3; (rw [q]; intro hs; have := hq_16.mpr hs; rw [c_17] at this; cases this)) hP hS (lv_sub hl [1, 2, 3, 4, 5, 6, 0] rfl)
            exact L_14 (_ + 1) (F1 19 ((10 * d) + kx)) G _ _ _ (Nat.lt_succ_self _) (by unfold bl bh at *; omega) (fun u h1 h2 => by unfold bh at h2; omega) hP hS (lv_sub hl [1, 2, 3, 4, 5, 6, 0] rfl)
          have L_19 : ∀ (n : Nat) (x5 : Int32) (G : Nat → Int32) (H : Heap) (locs : List Loc) (ls : Array Slot), (bh F1 d kx + 1 - x5.toInt).toNat < n → (bl F1 d kx ≤ x5.toInt ∧ x5.toInt ≤ bh F1 d kx + 1) → (∀ u, bl F1 d kx ≤ u → u < x5.toInt → ¬ SE (fun j => mk.testBit j) kx u (bl F1 d) (bh F1 d)) → MP D cA adr I1 (va_up F1 27 G) H → va_S (wA mN adr) s.heap H locs → lv_has ls 7 [(0, .ref (adr 0)), (1, .int xd), (2, .int xm), (3, .int x3), (4, .int z_4), (5, .int x5)] → W p l e (rl 6) s m args below meth c H locs 0 0 Q (F0 m 33 ls []) := by
            intro n
            induction n with
            | zero => intro x5 G H locs ls hmu; exact absurd hmu (Nat.not_lt_zero _)
            | succ n ih_19 =>
              intro x5 G H locs ls hmu hx5a hx5b hP hS hl
              have hx5r : -100 ≤ x5.toInt ∧ x5.toInt ≤ 101 ∧ (F1 18 (10 * d + kx)).toInt ≤ x5.toInt ∧ x5.toInt ≤ (F1 19 (10 * d + kx)).toInt + 1 := by unfold bl bh at hx5a; omega
              refine lv_iload hx hb d_Mod_different_33 (lv_at hl 5 rfl) ?_
              refine lv_aload_n hx hb d_Mod_different_35 rfl (lv_at hl 0 rfl) ?_
              refine m_gr hx hb hK hown hP 19 (by decide) t_756 d_Mod_different_36 ?_
              refine lv_iload hx hb d_Mod_different_39 (lv_at hl 4 rfl) ?_
              refine m_ld hx hb hK hP 19 (by decide) (((10 * d) + kx)) tz_4 (by omega) (show ((10 * d) + kx) < 120 by omega) d_Mod_different_41 (fun z_20 ez_20 => ?_)
              have ez_20 : z_20 = F1 19 ((10 * d) + kx) := ez_20
              subst ez_20
              refine b_icmp_gt (tgt := 63) hx hb d_Mod_different_42 (by decide) rfl rfl (fun c_21 => ?_) (fun c_21 => ?_)
              · exact B_8 x5 G _ _ _ hx5a hx5b (Or.inl (by unfold bh; omega)) hP hS (lv_sub hl [0, 1, 2, 3, 4, 5] rfl)
              · refine lv_aload_n hx hb d_Mod_different_45 rfl (lv_at hl 0 rfl) ?_
                refine lv_iload_n hx hb d_Mod_different_46 rfl (lv_at hl 1 rfl) ?_
                refine lv_iload_n hx hb d_Mod_different_47 rfl (lv_at hl 2 rfl) ?_
                refine lv_iload_n hx hb d_Mod_different_48 rfl (lv_at hl 3 rfl) ?_
                refine lv_iload hx hb d_Mod_different_49 (lv_at hl 5 rfl) ?_
                refine x_V (As := [.int xd, .int xm, .int x3, .int x5]) (rest := []) hx hb hml hown hK (k_Mod_seats l D cA adr hi I1 (va_up F1 27 G) d nn mk kx xd xm x3 x5 hn hd hxd hxm h3 (by omega) hm hne1 hrg1) t_932 t_4 t_929 t_931 ts_24 yk_Mod_seats ⟨Nat.le_of_ble_eq_true rfl, Nat.le_of_ble_eq_true rfl⟩ (m_rec hK hP) hP rfl hl.1 rfl (Nat.le_of_ble_eq_true rfl) d_Mod_different_51 ⟨Nat.le_of_ble_eq_true rfl, Nat.le_of_ble_eq_true rfl⟩ hS (fun q h => h) (fun r H locs hq _ hS => ?_)
                obtain ⟨G_22, q_22, rfl, hq_22, hP⟩ := hq
                have hP : MP D cA adr I1 (va_up F1 27 G_22) H := by rw [bx_uu] at hP; exact hP
                have hq_22 : (q_22 = true ↔ SE (fun j => mk.testBit j) kx x5.toInt (bl F1 d) (bh F1 d)) := hq_22
                refine W.eq (g2 := F0 m 54 ls [.int (bi q_22)]) rfl ?_
                refine b_bool_ne (tgt := 63) hx hb d_Mod_different_54 (by decide) (fun c_23 => ?_) (fun c_23 => ?_)
                · exact B_8 x5 G_22 _ _ _ hx5a hx5b (Or.inr ⟨by unfold bh; omega, hq_22.mp c_23⟩) hP hS (lv_sub hl [0, 1, 2, 3, 4, 5] rfl)
                · refine x_iinc (k := 5) (lv' := fun v_ => [(5, .int v_), (0, .ref (adr 0)), (1, .int xd), (2, .int xm), (3, .int x3), (4, .int z_4)]) hx hb d_Mod_different_57 hl rfl rfl (by decide) (by omega) (by decide) (fun v_ => rfl) (fun z_24 tz_24 ls hl => ?_)
                  refine lv_goto (tgt := 33) hx hb d_Mod_different_60 (by decide) ?_
                  exact ih_19 z_24 G_22 _ _ _ (by unfold bl bh at *; omega) (by unfold bl bh at *; omega) (fun u h1 h2 => by rcases (by omega : u < x5.toInt ∨ u = x5.toInt) with q | q; exact hx5b u h1 q; (rw [q]; intro hs; have := hq_22.mpr hs; rw [c_23] at this; cases this)) hP hS (lv_sub hl [1, 2, 3, 4, 5, 0] rfl)
          exact L_19 (_ + 1) (F1 18 ((10 * d) + kx)) (F1 27) _ _ _ (Nat.lt_succ_self _) (by unfold bl bh; omega) (fun u h1 h2 => by unfold bl at h1; omega) hP hS (lv_sub hl [2, 3, 4, 5, 1, 0] rfl)
  exact L_1 (_ + 1) 0 (0 : Int32) I F ch _ _ _ (Nat.lt_succ_self _) (by omega) kc_0 FrD.rf hch (PN.rf hne) (fun _ i hi => absurd hi (by omega)) hP hS (lv_sub hl [1, 2, 3, 0] rfl)
