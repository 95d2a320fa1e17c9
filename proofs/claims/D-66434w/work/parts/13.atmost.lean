theorem cut1 {n : Nat} {Fx : (Nat → Int) → (Nat → Int) → Prop} {a : Nat} {f1 t1 : Int} {xl xh yl yh : Nat → Int} {c0 c1 : Bool} {r : Bool} (hna : a < n) (hn : Ne n xl xh)
    (h1 : Cutb n xl xh a f1 t1 yl yh) (hc1 : c1 = (c0 || decide (xl a < f1 ∨ t1 < xh a)))
    (j1 : ∀ bl bh, Sb n bl bh xl xh → Ne n bl bh → Fx bl bh → f1 ≤ bl a ∧ bh a ≤ t1)
    (hr : r = true ↔ yl a ≤ yh a) (fin : f1 ≤ xl a ∧ xh a ≤ t1 → Fx xl xh) : NOK n Fx xl xh r yl yh c0 c1 := by
  have P0 : PN n Fx xl xh xl xh c0 c0 := PN.rf hn
  have P1 := P0.cut hna h1 hc1 j1
  by_cases g1 : yl a ≤ yh a
  · exact ⟨fun _ => ⟨P1.1 g1, fun he => fin ((h1.eq hna).mp he)⟩, fun hf => absurd (hr.mpr g1) (by rw [hf]; decide)⟩
  · exact ⟨fun ht => absurd (hr.mp ht) g1, fun _ => P1.2 g1⟩
theorem cut0 {n : Nat} {Fx : (Nat → Int) → (Nat → Int) → Prop} {xl xh : Nat → Int} {c0 : Bool} (hn : Ne n xl xh) (fin : Fx xl xh) : NOK n Fx xl xh true xl xh c0 c0 := ⟨fun _ => ⟨PN.rf hn, fun _ => fin⟩, fun h => absurd h (by decide)⟩
theorem cutNo {n : Nat} {Fx : (Nat → Int) → (Nat → Int) → Prop} {xl xh : Nat → Int} {c0 : Bool} (h : No n Fx xl xh) : NOK n Fx xl xh false xl xh c0 c0 := ⟨fun h => absurd h (by decide), fun _ => h⟩
/-- at most: the first cell and m are at most the second -/
def Fx5 (a b : Nat) (m : Int) (bl bh : Nat → Int) : Prop := (a = b → m ≤ 0) ∧ (a ≠ b → bh a + m ≤ bh b ∧ bl a + m ≤ bl b)
theorem imp_just {a b c n : Nat} {xl xh bl bh : Nat → Int} (ha : a < n) (hb : b < n) (hc : c < n) (hs : Sb n bl bh xl xh) (hn : Ne n bl bh) (h : Hull 6 a b c bl bh) : (xh c < xl b → bh a ≤ 0) ∧ (1 ≤ xl a → bh b ≤ xh c ∧ xl b ≤ bl c) := by
  obtain ⟨-, ⟨y2, z2, s2⟩, -, ⟨x4, z4, s4⟩, ⟨x5, y5, s5⟩, -⟩ := h
  have t2 := s2.mono hs ha hb hc
  have t4 := s4.mono hs ha hb hc
  have t5 := s5.mono hs ha hb hc
  have r2 : bh a < 1 ∨ y2 ≤ z2 := t2.2.2.2.2.2.2
  have r4 : x4 < 1 ∨ bh b ≤ z4 := t4.2.2.2.2.2.2
  have r5 : x5 < 1 ∨ y5 ≤ bl c := t5.2.2.2.2.2.2
  obtain ⟨q21, q22, q23, -⟩ := t2
  obtain ⟨q41, q42, q43, -⟩ := t4
  obtain ⟨q51, q52, q53, -⟩ := t5
  omega
theorem imp_fin {a b c : Nat} {xl xh : Nat → Int} (hab : a ≠ b) (hac : a ≠ c) (hbc : b ≠ c) (hna : xl a ≤ xh a) (hnb : xl b ≤ xh b) (hnc : xl c ≤ xh c)
    (h : xh a ≤ 0 ∨ (xl b ≤ xh c ∧ xl a < 1) ∨ (xh b ≤ xh c ∧ xl b ≤ xl c)) : Hull 6 a b c xl xh := by
  have mk : ∀ x y z, xl a ≤ x ∧ x ≤ xh a → xl b ≤ y ∧ y ≤ xh b → xl c ≤ z ∧ z ≤ xh c → (x < 1 ∨ y ≤ z) → Sol 6 a b c xl xh x y z := fun x y z q1 q2 q3 q4 => ⟨q1, q2, q3, fun h => absurd h hab, fun h => absurd h hac, fun h => absurd h hbc, q4⟩
  refine ⟨⟨xl b, xh c, mk _ _ _ ?_ ?_ ?_ ?_⟩, ⟨xl b, xh c, mk _ _ _ ?_ ?_ ?_ ?_⟩, ⟨xl a, xh c, mk _ _ _ ?_ ?_ ?_ ?_⟩, ⟨xl a, xh c, mk _ _ _ ?_ ?_ ?_ ?_⟩, ⟨xl a, xl b, mk _ _ _ ?_ ?_ ?_ ?_⟩, ⟨xl a, xl b, mk _ _ _ ?_ ?_ ?_ ?_⟩⟩
  all_goals omega
/-- rows: each end of the two cells is taken in a row that fits -/
def Sol8 (rs : Int → Int → Prop) (a b : Nat) (bl bh : Nat → Int) (x y z : Int) : Prop := rs x y ∧ (bl a ≤ x ∧ x ≤ bh a) ∧ (bl b ≤ y ∧ y ≤ bh b) ∧ (a = b → x = y) ∧ z = 0
def Fx8 (rs : Int → Int → Prop) (a b : Nat) (bl bh : Nat → Int) : Prop := (∃ y z, Sol8 rs a b bl bh (bl a) y z) ∧ (∃ y z, Sol8 rs a b bl bh (bh a) y z) ∧ (∃ x z, Sol8 rs a b bl bh x (bl b) z) ∧ (∃ x z, Sol8 rs a b bl bh x (bh b) z)
theorem Sol8.mono {rs : Int → Int → Prop} {a b n : Nat} {bl bh xl xh : Nat → Int} {x y z : Int} (h : Sol8 rs a b bl bh x y z) (hs : Sb n bl bh xl xh) (ha : a < n) (hb : b < n) : Sol8 rs a b xl xh x y z := by
  obtain ⟨h0, h1, h2, h4⟩ := h
  have a1 := hs a ha
  have a2 := hs b hb
  exact ⟨h0, by omega, by omega, h4⟩
theorem hull2 {rs : Int → Int → Prop} {a b n : Nat} {far la ha lb hb lc hc : Int} {xl xh yl yh wl wh : Nat → Int} {c0 c1 c2 : Bool} {r : Bool} (hna : a < n) (hnb : b < n) (hn : Ne n xl xh) (hrg : -far < xl a ∧ xh a < far)
    (hE : Ends (Sol8 rs a b xl xh) far la ha lb hb lc hc)
    (h1 : Cutb n xl xh a la ha yl yh) (hc1 : c1 = (c0 || decide (xl a < la ∨ ha < xh a)))
    (h2 : yl a ≤ yh a → Cutb n yl yh b lb hb wl wh ∧ c2 = (c1 || decide (yl b < lb ∨ hb < yh b)))
    (hr : r = true ↔ (yl a ≤ yh a ∧ wl b ≤ wh b)) : NOK n (Fx8 rs a b) xl xh r wl wh c0 c2 := by
  have jus : ∀ bl bh, Sb n bl bh xl xh → Ne n bl bh → Fx8 rs a b bl bh → (la ≤ bl a ∧ bh a ≤ ha) ∧ (lb ≤ bl b ∧ bh b ≤ hb) := by
    intro bl bh hs _ hh
    obtain ⟨⟨y1, z1, s1⟩, ⟨y2, z2, s2⟩, ⟨x3, z3, s3⟩, ⟨x4, z4, s4⟩⟩ := hh
    have t1 := s1.mono hs hna hnb
    have t2 := s2.mono hs hna hnb
    have t3 := s3.mono hs hna hnb
    have t4 := s4.mono hs hna hnb
    rcases hE with ⟨hno, -⟩ | ⟨-, -, -, -, -, -, hall⟩
    · exact absurd t1 (hno _ _ _)
    · have q1 := hall _ _ _ t1
      have q2 := hall _ _ _ t2
      have q3 := hall _ _ _ t3
      have q4 := hall _ _ _ t4
      omega
  refine cut2 hna hnb hn h1 hc1 h2 (fun bl bh hs hn hf => (jus bl bh hs hn hf).1) (fun _ bl bh hs hn hf => (jus bl bh (hs.tr h1.sb) hn hf).2) hr (fun _ f1 f2 => ?_)
  rcases hE with ⟨-, r1, -, -, r2, -, -⟩ | ⟨⟨y1, z1, s1⟩, ⟨y2, z2, s2⟩, ⟨x3, z3, s3⟩, ⟨x4, z4, s4⟩, -, -, hall⟩
  · have := hn a hna
    omega
  · have i1 := s1.2.1
    have i2 := s2.2.1
    have i3 := s3.2.2.1
    have i4 := s4.2.2.1
    rw [show la = xl a by omega] at s1
    rw [show ha = xh a by omega] at s2
    rw [show lb = xl b by omega] at s3
    rw [show hb = xh b by omega] at s4
    exact ⟨⟨y1, z1, s1⟩, ⟨y2, z2, s2⟩, ⟨x3, z3, s3⟩, ⟨x4, z4, s4⟩⟩
theorem d_Mod_atMost_0 : decode b_Mod_atMost 0 = .ok (.bipush 10, 2) := by decide +kernel
theorem d_Mod_atMost_2 : decode b_Mod_atMost 2 = .ok (.iload_n 1, 1) := by decide +kernel
theorem d_Mod_atMost_3 : decode b_Mod_atMost 3 = .ok (.imul, 1) := by decide +kernel
theorem d_Mod_atMost_4 : decode b_Mod_atMost 4 = .ok (.istore 5, 2) := by decide +kernel
theorem d_Mod_atMost_6 : decode b_Mod_atMost 6 = .ok (.iload_n 2, 1) := by decide +kernel
theorem d_Mod_atMost_7 : decode b_Mod_atMost 7 = .ok (.iload_n 3, 1) := by decide +kernel
theorem d_Mod_atMost_8 : decode b_Mod_atMost 8 = .ok (.if_icmp .ne 14, 3) := by decide +kernel
theorem d_Mod_atMost_11 : decode b_Mod_atMost 11 = .ok (.iload 4, 2) := by decide +kernel
theorem d_Mod_atMost_13 : decode b_Mod_atMost 13 = .ok (.ifCond .gt 7, 3) := by decide +kernel
theorem d_Mod_atMost_16 : decode b_Mod_atMost 16 = .ok (.iconst 1, 1) := by decide +kernel
theorem d_Mod_atMost_17 : decode b_Mod_atMost 17 = .ok (.goto 4, 3) := by decide +kernel
theorem d_Mod_atMost_20 : decode b_Mod_atMost 20 = .ok (.iconst 0, 1) := by decide +kernel
theorem d_Mod_atMost_21 : decode b_Mod_atMost 21 = .ok (.ireturn, 1) := by decide +kernel
theorem d_Mod_atMost_22 : decode b_Mod_atMost 22 = .ok (.aload_n 0, 1) := by decide +kernel
theorem d_Mod_atMost_23 : decode b_Mod_atMost 23 = .ok (.iload_n 1, 1) := by decide +kernel
theorem d_Mod_atMost_24 : decode b_Mod_atMost 24 = .ok (.iload_n 2, 1) := by decide +kernel
theorem d_Mod_atMost_25 : decode b_Mod_atMost 25 = .ok (.sipush (-400), 3) := by decide +kernel
theorem d_Mod_atMost_28 : decode b_Mod_atMost 28 = .ok (.aload_n 0, 1) := by decide +kernel
theorem d_Mod_atMost_29 : decode b_Mod_atMost 29 = .ok (.getfield 53, 3) := by decide +kernel
theorem d_Mod_atMost_32 : decode b_Mod_atMost 32 = .ok (.iload 5, 2) := by decide +kernel
theorem d_Mod_atMost_34 : decode b_Mod_atMost 34 = .ok (.iload_n 3, 1) := by decide +kernel
theorem d_Mod_atMost_35 : decode b_Mod_atMost 35 = .ok (.iadd, 1) := by decide +kernel
theorem d_Mod_atMost_36 : decode b_Mod_atMost 36 = .ok (.iaload, 1) := by decide +kernel
theorem d_Mod_atMost_37 : decode b_Mod_atMost 37 = .ok (.iload 4, 2) := by decide +kernel
theorem d_Mod_atMost_39 : decode b_Mod_atMost 39 = .ok (.isub, 1) := by decide +kernel
theorem d_Mod_atMost_40 : decode b_Mod_atMost 40 = .ok (.invokevirtual 160, 3) := by decide +kernel
theorem d_Mod_atMost_43 : decode b_Mod_atMost 43 = .ok (.ifCond .eq 31, 3) := by decide +kernel
theorem d_Mod_atMost_46 : decode b_Mod_atMost 46 = .ok (.aload_n 0, 1) := by decide +kernel
theorem d_Mod_atMost_47 : decode b_Mod_atMost 47 = .ok (.iload_n 1, 1) := by decide +kernel
theorem d_Mod_atMost_48 : decode b_Mod_atMost 48 = .ok (.iload_n 3, 1) := by decide +kernel
theorem d_Mod_atMost_49 : decode b_Mod_atMost 49 = .ok (.aload_n 0, 1) := by decide +kernel
theorem d_Mod_atMost_50 : decode b_Mod_atMost 50 = .ok (.getfield 50, 3) := by decide +kernel
theorem d_Mod_atMost_53 : decode b_Mod_atMost 53 = .ok (.iload 5, 2) := by decide +kernel
theorem d_Mod_atMost_55 : decode b_Mod_atMost 55 = .ok (.iload_n 2, 1) := by decide +kernel
theorem d_Mod_atMost_56 : decode b_Mod_atMost 56 = .ok (.iadd, 1) := by decide +kernel
theorem d_Mod_atMost_57 : decode b_Mod_atMost 57 = .ok (.iaload, 1) := by decide +kernel
theorem d_Mod_atMost_58 : decode b_Mod_atMost 58 = .ok (.iload 4, 2) := by decide +kernel
theorem d_Mod_atMost_60 : decode b_Mod_atMost 60 = .ok (.iadd, 1) := by decide +kernel
theorem d_Mod_atMost_61 : decode b_Mod_atMost 61 = .ok (.sipush 400, 3) := by decide +kernel
theorem d_Mod_atMost_64 : decode b_Mod_atMost 64 = .ok (.invokevirtual 160, 3) := by decide +kernel
theorem d_Mod_atMost_67 : decode b_Mod_atMost 67 = .ok (.ifCond .eq 7, 3) := by decide +kernel
theorem d_Mod_atMost_70 : decode b_Mod_atMost 70 = .ok (.iconst 1, 1) := by decide +kernel
theorem d_Mod_atMost_71 : decode b_Mod_atMost 71 = .ok (.goto 4, 3) := by decide +kernel
theorem d_Mod_atMost_74 : decode b_Mod_atMost 74 = .ok (.iconst 0, 1) := by decide +kernel
theorem d_Mod_atMost_75 : decode b_Mod_atMost 75 = .ok (.ireturn, 1) := by decide +kernel
set_option maxHeartbeats 4000000 in
set_option maxRecDepth 20000 in
theorem k_Mod_atMost (l : Launch) (D : va_G) (cA : Nat → ClassId) (adr : Nat → Nat) (hi : wI mN adr) (I : Nat → Int32) (F : Nat → Nat → Int32) (d nn ca cb : Nat) (xd xa xb xm : Int32) (ch : Bool) (hn : nn ≤ 10) (hd : d < 12) (hxd : xd.toInt = (d : Int)) (hxa : xa.toInt = (ca : Int)) (hxb : xb.toInt = (cb : Int)) (hxm : -200 ≤ xm.toInt ∧ xm.toInt ≤ 200) (hca : ca < nn) (hcb : cb < nn) (hch : I 20 = bi ch) (hne : Ne nn (bl F d) (bh F d)) (hrg : ∀ k, k < nn → -100 ≤ bl F d k ∧ bh F d k ≤ 100) : Ct l y_Mod_atMost b_Mod_atMost 6 (some .boolean) 5 D cA [.ref (adr 0), .int xd, .int xa, .int xb, .int xm] (fun H => MP D cA adr I F H) (fun r H => ∃ (I2 : Nat → Int32) (F2 : Nat → Nat → Int32) (q c2 : Bool), r = some (.int (bi q)) ∧ FrD d I I2 F F2 ∧ I2 20 = bi c2 ∧ NOK nn (Fx5 ca cb xm.toInt) (bl F d) (bh F d) q (bl F2 d) (bh F2 d) ch c2 ∧ MP D cA adr I2 F2 H) (wA mN adr) := by
  refine Ct.mk (by decide) (Nat.le_of_ble_eq_true rfl) ?_
  intro p e s m args below meth c Q H locs ls hx hb hr hml hlk hown hin hK hQ hS hP hl
  have hl : lv_has ls 6 [(0, .ref (adr 0)), (1, .int xd), (2, .int xa), (3, .int xb), (4, .int xm)] := hl
  have hown : s.vm.findClass "RangeSheetModel" = some m.cls := hown
  have hrca := hrg ca hca; have hnca := hne ca hca; have hrcb := hrg cb hcb; have hncb := hne cb hcb; unfold bl bh at hrca hnca hrcb hncb
  refine lv_bipush (v := 10) hx hb d_Mod_atMost_0 (by decide) ?_
  refine lv_iload_n hx hb d_Mod_atMost_2 rfl (lv_at hl 1 rfl) ?_
  refine x_mul hx hb d_Mod_atMost_3 kc_10 hxd (by omega) (fun z_1 tz_1 => ?_)
  refine lv_istore (lv' := [(5, .int z_1), (0, .ref (adr 0)), (1, .int xd), (2, .int xa), (3, .int xb), (4, .int xm)]) hx hb d_Mod_atMost_4 hl (by decide) rfl (fun ls hl => ?_)
  refine lv_iload_n hx hb d_Mod_atMost_6 rfl (lv_at hl 3 rfl) ?_
  refine lv_iload_n hx hb d_Mod_atMost_7 rfl (lv_at hl 4 rfl) ?_
  refine b_icmp_ne (tgt := 22) hx hb d_Mod_atMost_8 (by decide) hxa hxb (fun c_2 => ?_) (fun c_2 => ?_)
  · refine lv_aload_n hx hb d_Mod_atMost_22 rfl (lv_at hl 1 rfl) ?_
    refine lv_iload_n hx hb d_Mod_atMost_23 rfl (lv_at hl 2 rfl) ?_
    refine lv_iload_n hx hb d_Mod_atMost_24 rfl (lv_at hl 3 rfl) ?_
    refine lv_sipush (v := (-400)) hx hb d_Mod_atMost_25 (by decide) ?_
    refine lv_aload_n hx hb d_Mod_atMost_28 rfl (lv_at hl 1 rfl) ?_
    refine m_gr hx hb hK hown hP 19 (by decide) t_756 d_Mod_atMost_29 ?_
    refine lv_iload hx hb d_Mod_atMost_32 (lv_at hl 0 rfl) ?_
    refine lv_iload_n hx hb d_Mod_atMost_34 rfl (lv_at hl 4 rfl) ?_
    refine x_add hx hb d_Mod_atMost_35 tz_1 hxb (by omega) (fun z_3 tz_3 => ?_)
    refine m_ld hx hb hK hP 19 (by decide) (((10 * d) + cb)) tz_3 (by omega) (show ((10 * d) + cb) < 120 by omega) d_Mod_atMost_36 (fun z_4 ez_4 => ?_)
    subst ez_4
    refine lv_iload hx hb d_Mod_atMost_37 (lv_at hl 5 rfl) ?_
    refine x_sub hx hb d_Mod_atMost_39 rfl rfl (by omega) (fun z_5 tz_5 => ?_)
    refine x_V (As := [.int xd, .int xa, .int (-400 : Int32), .int z_5]) (rest := []) hx hb hml hown hK (k_Mod_cut l D cA adr hi I F d ca xd xa (-400 : Int32) z_5 ch hxd hxa (by omega) (by omega) hch) t_910 t_4 t_907 t_909 ts_20 yk_Mod_cut ⟨Nat.le_of_ble_eq_true rfl, Nat.le_of_ble_eq_true rfl⟩ (m_rec hK hP) hP rfl hl.1 rfl (Nat.le_of_ble_eq_true rfl) d_Mod_atMost_40 ⟨Nat.le_of_ble_eq_true rfl, Nat.le_of_ble_eq_true rfl⟩ hS (fun q h => h) (fun r H locs hq _ hS => ?_)
    obtain ⟨lo_6, hh_6, hlo_6, hhh_6, rfl, hP⟩ := hq
    obtain ⟨ch_6, hch_6⟩ : ∃ q : Bool, q = (ch || decide ((F 18 (10 * d + ca)).toInt < (-400 : Int32).toInt ∨ z_5.toInt < (F 19 (10 * d + ca)).toInt)) := ⟨_, rfl⟩
    rw [← hch_6] at hP
    rw [kc_m400] at hlo_6 hch_6
    rw [tz_5] at hhh_6 hch_6
    refine W.eq (g2 := F0 m 43 ls [.int (bi (decide (lo_6.toInt ≤ hh_6.toInt)))]) rfl ?_
    refine b_bool_eq (tgt := 74) hx hb d_Mod_atMost_43 (by decide) (fun c_7 => ?_) (fun c_7 => ?_)
    · refine lv_iconst (v := 0) hx hb d_Mod_atMost_74 (by decide) ?_
      refine W.eq (g2 := F0 m 75 ls [.int (bi false)]) rfl ?_
      refine e_z hx hb hr hlk hQ hS d_Mod_atMost_75 ?_
      refine ⟨_, _, false, ch_6, rfl, ?_, rfl, ?_, hP⟩
      · exact (FrD.cut (by omega))
      · have g := trivial
        have g0 : ¬ bl (cutF F (10 * d + ca) lo_6 hh_6) d ca ≤ bh (cutF F (10 * d + ca) lo_6 hh_6) d ca := by rw [cutF_l, cutF_h]; exact of_decide_eq_false c_7
        have hab : ca ≠ cb := by have := c_2; omega
        have hl1 : bl (cutF F (10 * d + ca) lo_6 hh_6) d ca = bl F d ca := by rw [cutF_l]; unfold bl; omega
        exact cut2 (f1 := -400) (t1 := bh F d cb - xm.toInt) (f2 := bl F d ca + xm.toInt) (t2 := 400) (yl := bl (cutF F (10 * d + ca) lo_6 hh_6) d) (yh := bh (cutF F (10 * d + ca) lo_6 hh_6) d) (c1 := ch_6) hca hcb hne (cutF_b hn hlo_6 hhh_6) hch_6 (fun h => absurd h g0) (fun _ _ hs hn2 hf => by have a1 := hs ca hca; have a2 := hs cb hcb; have a3 := hf.2 hab; have a4 := hrg ca hca; omega) (fun _ _ _ hs hn2 hf => by have a1 := hs ca hca; have a2 := hs cb hcb; have a3 := hf.2 hab; have a4 := hrg cb hcb; have a5 := (cutF_b hn hlo_6 hhh_6).sb cb hcb; omega) ⟨fun h => absurd h (by decide), fun h => absurd h.1 g0⟩ (fun _ q1 q2 => ⟨fun h => absurd h hab, fun _ => by omega⟩)
    · refine lv_aload_n hx hb d_Mod_atMost_46 rfl (lv_at hl 1 rfl) ?_
      refine lv_iload_n hx hb d_Mod_atMost_47 rfl (lv_at hl 2 rfl) ?_
      refine lv_iload_n hx hb d_Mod_atMost_48 rfl (lv_at hl 4 rfl) ?_
      refine lv_aload_n hx hb d_Mod_atMost_49 rfl (lv_at hl 1 rfl) ?_
      refine m_gr hx hb hK hown hP 18 (by decide) t_755 d_Mod_atMost_50 ?_
      refine lv_iload hx hb d_Mod_atMost_53 (lv_at hl 0 rfl) ?_
      refine lv_iload_n hx hb d_Mod_atMost_55 rfl (lv_at hl 3 rfl) ?_
      refine x_add hx hb d_Mod_atMost_56 tz_1 hxa (by omega) (fun z_8 tz_8 => ?_)
      refine m_ld hx hb hK hP 18 (by decide) (((10 * d) + ca)) tz_8 (by omega) (show ((10 * d) + ca) < 120 by omega) d_Mod_atMost_57 (fun z_9 ez_9 => ?_)
      have tz_9 : z_9.toInt = (bl (cutF F (10 * d + ca) lo_6 hh_6) d ca) := by rw [ez_9]; rfl
      have tl : z_9.toInt = bl F d ca := by rw [tz_9, cutF_l]; unfold bl; omega
      have hbla : -100 ≤ bl F d ca ∧ bl F d ca ≤ 100 := by unfold bl; omega
      refine lv_iload hx hb d_Mod_atMost_58 (lv_at hl 5 rfl) ?_
      refine x_add hx hb d_Mod_atMost_60 tl rfl (by omega) (fun z_10 tz_10 => ?_)
      refine lv_sipush (v := 400) hx hb d_Mod_atMost_61 (by decide) ?_
      refine x_V (As := [.int xd, .int xb, .int z_10, .int (400 : Int32)]) (rest := []) hx hb hml hown hK (k_Mod_cut l D cA adr hi (va_up I 20 (bi ch_6)) (cutF F (10 * d + ca) lo_6 hh_6) d cb xd xb z_10 (400 : Int32) ch_6 hxd hxb (by omega) (by omega) rfl) t_910 t_4 t_907 t_909 ts_20 yk_Mod_cut ⟨Nat.le_of_ble_eq_true rfl, Nat.le_of_ble_eq_true rfl⟩ (m_rec hK hP) hP rfl hl.1 rfl (Nat.le_of_ble_eq_true rfl) d_Mod_atMost_64 ⟨Nat.le_of_ble_eq_true rfl, Nat.le_of_ble_eq_true rfl⟩ hS (fun q h => h) (fun r H locs hq _ hS => ?_)
      obtain ⟨lo_11, hh_11, hlo_11, hhh_11, rfl, hP⟩ := hq
      obtain ⟨ch_11, hch_11⟩ : ∃ q : Bool, q = (ch_6 || decide (((cutF F (10 * d + ca) lo_6 hh_6) 18 (10 * d + cb)).toInt < z_10.toInt ∨ (400 : Int32).toInt < ((cutF F (10 * d + ca) lo_6 hh_6) 19 (10 * d + cb)).toInt)) := ⟨_, rfl⟩
      rw [← hch_11] at hP
      rw [tz_10] at hlo_11 hch_11
      rw [kc_400] at hhh_11 hch_11
      refine W.eq (g2 := F0 m 67 ls [.int (bi (decide (lo_11.toInt ≤ hh_11.toInt)))]) rfl ?_
      refine b_bool_eq (tgt := 74) hx hb d_Mod_atMost_67 (by decide) (fun c_12 => ?_) (fun c_12 => ?_)
      · refine lv_iconst (v := 0) hx hb d_Mod_atMost_74 (by decide) ?_
        refine W.eq (g2 := F0 m 75 ls [.int (bi false)]) rfl ?_
        refine e_z hx hb hr hlk hQ hS d_Mod_atMost_75 ?_
        refine ⟨_, _, false, ch_11, rfl, ?_, rfl, ?_, hP⟩
        · exact ((FrD.cut (by omega)).tr (FrD.cut (by omega)))
        · have g := trivial
          have g0 : bl (cutF F (10 * d + ca) lo_6 hh_6) d ca ≤ bh (cutF F (10 * d + ca) lo_6 hh_6) d ca := by rw [cutF_l, cutF_h]; exact of_decide_eq_true c_7
          have g1 : ¬ bl (cutF (cutF F (10 * d + ca) lo_6 hh_6) (10 * d + cb) lo_11 hh_11) d cb ≤ bh (cutF (cutF F (10 * d + ca) lo_6 hh_6) (10 * d + cb) lo_11 hh_11) d cb := by rw [cutF_l, cutF_h]; exact of_decide_eq_false c_12
          have hab : ca ≠ cb := by have := c_2; omega
          have hl1 : bl (cutF F (10 * d + ca) lo_6 hh_6) d ca = bl F d ca := by rw [cutF_l]; unfold bl; omega
          exact cut2 (f1 := -400) (t1 := bh F d cb - xm.toInt) (f2 := bl F d ca + xm.toInt) (t2 := 400) (yl := bl (cutF F (10 * d + ca) lo_6 hh_6) d) (yh := bh (cutF F (10 * d + ca) lo_6 hh_6) d) (c1 := ch_6) hca hcb hne (cutF_b hn hlo_6 hhh_6) hch_6 (fun _ => ⟨cutF_b hn hlo_11 hhh_11, hch_11⟩) (fun _ _ hs hn2 hf => by have a1 := hs ca hca; have a2 := hs cb hcb; have a3 := hf.2 hab; have a4 := hrg ca hca; omega) (fun _ _ _ hs hn2 hf => by have a1 := hs ca hca; have a2 := hs cb hcb; have a3 := hf.2 hab; have a4 := hrg cb hcb; have a5 := (cutF_b hn hlo_6 hhh_6).sb cb hcb; omega) ⟨fun h => absurd h (by decide), fun h => absurd h.2 g1⟩ (fun _ q1 q2 => ⟨fun h => absurd h hab, fun _ => by omega⟩)
      · refine lv_iconst (v := 1) hx hb d_Mod_atMost_70 (by decide) ?_
        refine lv_goto (tgt := 75) hx hb d_Mod_atMost_71 (by decide) ?_
        refine W.eq (g2 := F0 m 75 ls [.int (bi true)]) rfl ?_
        refine e_z hx hb hr hlk hQ hS d_Mod_atMost_75 ?_
        refine ⟨_, _, true, ch_11, rfl, ?_, rfl, ?_, hP⟩
        · exact ((FrD.cut (by omega)).tr (FrD.cut (by omega)))
        · have g := trivial
          have g0 : bl (cutF F (10 * d + ca) lo_6 hh_6) d ca ≤ bh (cutF F (10 * d + ca) lo_6 hh_6) d ca := by rw [cutF_l, cutF_h]; exact of_decide_eq_true c_7
          have g1 : bl (cutF (cutF F (10 * d + ca) lo_6 hh_6) (10 * d + cb) lo_11 hh_11) d cb ≤ bh (cutF (cutF F (10 * d + ca) lo_6 hh_6) (10 * d + cb) lo_11 hh_11) d cb := by rw [cutF_l, cutF_h]; exact of_decide_eq_true c_12
          have hab : ca ≠ cb := by have := c_2; omega
          have hl1 : bl (cutF F (10 * d + ca) lo_6 hh_6) d ca = bl F d ca := by rw [cutF_l]; unfold bl; omega
          exact cut2 (f1 := -400) (t1 := bh F d cb - xm.toInt) (f2 := bl F d ca + xm.toInt) (t2 := 400) (yl := bl (cutF F (10 * d + ca) lo_6 hh_6) d) (yh := bh (cutF F (10 * d + ca) lo_6 hh_6) d) (c1 := ch_6) hca hcb hne (cutF_b hn hlo_6 hhh_6) hch_6 (fun _ => ⟨cutF_b hn hlo_11 hhh_11, hch_11⟩) (fun _ _ hs hn2 hf => by have a1 := hs ca hca; have a2 := hs cb hcb; have a3 := hf.2 hab; have a4 := hrg ca hca; omega) (fun _ _ _ hs hn2 hf => by have a1 := hs ca hca; have a2 := hs cb hcb; have a3 := hf.2 hab; have a4 := hrg cb hcb; have a5 := (cutF_b hn hlo_6 hhh_6).sb cb hcb; omega) ⟨fun _ => ⟨g0, g1⟩, fun _ => rfl⟩ (fun _ q1 q2 => ⟨fun h => absurd h hab, fun _ => by omega⟩)
  · refine lv_iload hx hb d_Mod_atMost_11 (lv_at hl 5 rfl) ?_
    refine b_if_gt (tgt := 20) hx hb d_Mod_atMost_13 (by decide) rfl (fun c_13 => ?_) (fun c_13 => ?_)
    · refine lv_iconst (v := 0) hx hb d_Mod_atMost_20 (by decide) ?_
      refine W.eq (g2 := F0 m 21 ls [.int (bi false)]) rfl ?_
      refine e_z hx hb hr hlk hQ hS d_Mod_atMost_21 ?_
      refine ⟨I, F, false, ch, rfl, FrD.rf, hch, ?_, hP⟩
      have hab : ca = cb := by have := c_2; omega
      exact cutNo (fun _ _ _ _ hf => by have := hf.1 hab; omega)
    · refine lv_iconst (v := 1) hx hb d_Mod_atMost_16 (by decide) ?_
      refine lv_goto (tgt := 21) hx hb d_Mod_atMost_17 (by decide) ?_
      refine W.eq (g2 := F0 m 21 ls [.int (bi true)]) rfl ?_
      refine e_z hx hb hr hlk hQ hS d_Mod_atMost_21 ?_
      refine ⟨I, F, true, ch, rfl, FrD.rf, hch, ?_, hP⟩
      have hab : ca = cb := by have := c_2; omega
      exact cut0 hne ⟨fun _ => by omega, fun h => absurd hab h⟩
theorem d_Mod_implies_0 : decode b_Mod_implies 0 = .ok (.bipush 10, 2) := by decide +kernel
theorem d_Mod_implies_2 : decode b_Mod_implies 2 = .ok (.iload_n 1, 1) := by decide +kernel
theorem d_Mod_implies_3 : decode b_Mod_implies 3 = .ok (.imul, 1) := by decide +kernel
theorem d_Mod_implies_4 : decode b_Mod_implies 4 = .ok (.istore 5, 2) := by decide +kernel
theorem d_Mod_implies_6 : decode b_Mod_implies 6 = .ok (.aload_n 0, 1) := by decide +kernel
theorem d_Mod_implies_7 : decode b_Mod_implies 7 = .ok (.getfield 50, 3) := by decide +kernel
theorem d_Mod_implies_10 : decode b_Mod_implies 10 = .ok (.iload 5, 2) := by decide +kernel
theorem d_Mod_implies_12 : decode b_Mod_implies 12 = .ok (.iload_n 3, 1) := by decide +kernel
theorem d_Mod_implies_13 : decode b_Mod_implies 13 = .ok (.iadd, 1) := by decide +kernel
theorem d_Mod_implies_14 : decode b_Mod_implies 14 = .ok (.iaload, 1) := by decide +kernel
theorem d_Mod_implies_15 : decode b_Mod_implies 15 = .ok (.aload_n 0, 1) := by decide +kernel
theorem d_Mod_implies_16 : decode b_Mod_implies 16 = .ok (.getfield 53, 3) := by decide +kernel
theorem d_Mod_implies_19 : decode b_Mod_implies 19 = .ok (.iload 5, 2) := by decide +kernel
theorem d_Mod_implies_21 : decode b_Mod_implies 21 = .ok (.iload 4, 2) := by decide +kernel
theorem d_Mod_implies_23 : decode b_Mod_implies 23 = .ok (.iadd, 1) := by decide +kernel
theorem d_Mod_implies_24 : decode b_Mod_implies 24 = .ok (.iaload, 1) := by decide +kernel
theorem d_Mod_implies_25 : decode b_Mod_implies 25 = .ok (.if_icmp .le 18, 3) := by decide +kernel
theorem d_Mod_implies_28 : decode b_Mod_implies 28 = .ok (.aload_n 0, 1) := by decide +kernel
theorem d_Mod_implies_29 : decode b_Mod_implies 29 = .ok (.iload_n 1, 1) := by decide +kernel
theorem d_Mod_implies_30 : decode b_Mod_implies 30 = .ok (.iload_n 2, 1) := by decide +kernel
theorem d_Mod_implies_31 : decode b_Mod_implies 31 = .ok (.sipush (-400), 3) := by decide +kernel
theorem d_Mod_implies_34 : decode b_Mod_implies 34 = .ok (.iconst 0, 1) := by decide +kernel
theorem d_Mod_implies_35 : decode b_Mod_implies 35 = .ok (.invokevirtual 160, 3) := by decide +kernel
theorem d_Mod_implies_38 : decode b_Mod_implies 38 = .ok (.ifCond .ne 5, 3) := by decide +kernel
theorem d_Mod_implies_41 : decode b_Mod_implies 41 = .ok (.iconst 0, 1) := by decide +kernel
theorem d_Mod_implies_42 : decode b_Mod_implies 42 = .ok (.ireturn, 1) := by decide +kernel
theorem d_Mod_implies_43 : decode b_Mod_implies 43 = .ok (.aload_n 0, 1) := by decide +kernel
theorem d_Mod_implies_44 : decode b_Mod_implies 44 = .ok (.getfield 50, 3) := by decide +kernel
theorem d_Mod_implies_47 : decode b_Mod_implies 47 = .ok (.iload 5, 2) := by decide +kernel
theorem d_Mod_implies_49 : decode b_Mod_implies 49 = .ok (.iload_n 2, 1) := by decide +kernel
theorem d_Mod_implies_50 : decode b_Mod_implies 50 = .ok (.iadd, 1) := by decide +kernel
theorem d_Mod_implies_51 : decode b_Mod_implies 51 = .ok (.iaload, 1) := by decide +kernel
theorem d_Mod_implies_52 : decode b_Mod_implies 52 = .ok (.iconst 1, 1) := by decide +kernel
theorem d_Mod_implies_53 : decode b_Mod_implies 53 = .ok (.if_icmp .ge 5, 3) := by decide +kernel
theorem d_Mod_implies_56 : decode b_Mod_implies 56 = .ok (.iconst 1, 1) := by decide +kernel
theorem d_Mod_implies_57 : decode b_Mod_implies 57 = .ok (.ireturn, 1) := by decide +kernel
theorem d_Mod_implies_58 : decode b_Mod_implies 58 = .ok (.aload_n 0, 1) := by decide +kernel
theorem d_Mod_implies_59 : decode b_Mod_implies 59 = .ok (.iload_n 1, 1) := by decide +kernel
theorem d_Mod_implies_60 : decode b_Mod_implies 60 = .ok (.iload_n 3, 1) := by decide +kernel
theorem d_Mod_implies_61 : decode b_Mod_implies 61 = .ok (.sipush (-400), 3) := by decide +kernel
theorem d_Mod_implies_64 : decode b_Mod_implies 64 = .ok (.aload_n 0, 1) := by decide +kernel
theorem d_Mod_implies_65 : decode b_Mod_implies 65 = .ok (.getfield 53, 3) := by decide +kernel
theorem d_Mod_implies_68 : decode b_Mod_implies 68 = .ok (.iload 5, 2) := by decide +kernel
theorem d_Mod_implies_70 : decode b_Mod_implies 70 = .ok (.iload 4, 2) := by decide +kernel
theorem d_Mod_implies_72 : decode b_Mod_implies 72 = .ok (.iadd, 1) := by decide +kernel
theorem d_Mod_implies_73 : decode b_Mod_implies 73 = .ok (.iaload, 1) := by decide +kernel
theorem d_Mod_implies_74 : decode b_Mod_implies 74 = .ok (.invokevirtual 160, 3) := by decide +kernel
theorem d_Mod_implies_77 : decode b_Mod_implies 77 = .ok (.ifCond .eq 29, 3) := by decide +kernel
theorem d_Mod_implies_80 : decode b_Mod_implies 80 = .ok (.aload_n 0, 1) := by decide +kernel
theorem d_Mod_implies_81 : decode b_Mod_implies 81 = .ok (.iload_n 1, 1) := by decide +kernel
theorem d_Mod_implies_82 : decode b_Mod_implies 82 = .ok (.iload 4, 2) := by decide +kernel
theorem d_Mod_implies_84 : decode b_Mod_implies 84 = .ok (.aload_n 0, 1) := by decide +kernel
theorem d_Mod_implies_85 : decode b_Mod_implies 85 = .ok (.getfield 50, 3) := by decide +kernel
theorem d_Mod_implies_88 : decode b_Mod_implies 88 = .ok (.iload 5, 2) := by decide +kernel
theorem d_Mod_implies_90 : decode b_Mod_implies 90 = .ok (.iload_n 3, 1) := by decide +kernel
theorem d_Mod_implies_91 : decode b_Mod_implies 91 = .ok (.iadd, 1) := by decide +kernel
theorem d_Mod_implies_92 : decode b_Mod_implies 92 = .ok (.iaload, 1) := by decide +kernel
theorem d_Mod_implies_93 : decode b_Mod_implies 93 = .ok (.sipush 400, 3) := by decide +kernel
theorem d_Mod_implies_96 : decode b_Mod_implies 96 = .ok (.invokevirtual 160, 3) := by decide +kernel
theorem d_Mod_implies_99 : decode b_Mod_implies 99 = .ok (.ifCond .eq 7, 3) := by decide +kernel
theorem d_Mod_implies_102 : decode b_Mod_implies 102 = .ok (.iconst 1, 1) := by decide +kernel
theorem d_Mod_implies_103 : decode b_Mod_implies 103 = .ok (.goto 4, 3) := by decide +kernel
theorem d_Mod_implies_106 : decode b_Mod_implies 106 = .ok (.iconst 0, 1) := by decide +kernel
theorem d_Mod_implies_107 : decode b_Mod_implies 107 = .ok (.ireturn, 1) := by decide +kernel
set_option maxHeartbeats 4000000 in
set_option maxRecDepth 20000 in
theorem k_Mod_implies (l : Launch) (D : va_G) (cA : Nat → ClassId) (adr : Nat → Nat) (hi : wI mN adr) (I : Nat → Int32) (F : Nat → Nat → Int32) (d nn ca cb cd : Nat) (xd xa xb xc : Int32) (ch : Bool) (hn : nn ≤ 10) (hd : d < 12) (hxd : xd.toInt = (d : Int)) (hxa : xa.toInt = (ca : Int)) (hxb : xb.toInt = (cb : Int)) (hxc : xc.toInt = (cd : Int)) (hca : ca < nn) (hcb : cb < nn) (hcd : cd < nn) (hab : ca ≠ cb) (hac : ca ≠ cd) (hbc : cb ≠ cd) (hch : I 20 = bi ch) (hne : Ne nn (bl F d) (bh F d)) (hrg : ∀ k, k < nn → -100 ≤ bl F d k ∧ bh F d k ≤ 100) : Ct l y_Mod_implies b_Mod_implies 6 (some .boolean) 5 D cA [.ref (adr 0), .int xd, .int xa, .int xb, .int xc] (fun H => MP D cA adr I F H) (fun r H => ∃ (I2 : Nat → Int32) (F2 : Nat → Nat → Int32) (q c2 : Bool), r = some (.int (bi q)) ∧ FrD d I I2 F F2 ∧ I2 20 = bi c2 ∧ NOK nn (Hull 6 ca cb cd) (bl F d) (bh F d) q (bl F2 d) (bh F2 d) ch c2 ∧ MP D cA adr I2 F2 H) (wA mN adr) := by
  refine Ct.mk (by decide) (Nat.le_of_ble_eq_true rfl) ?_
  intro p e s m args below meth c Q H locs ls hx hb hr hml hlk hown hin hK hQ hS hP hl
  have hl : lv_has ls 6 [(0, .ref (adr 0)), (1, .int xd), (2, .int xa), (3, .int xb), (4, .int xc)] := hl
  have hown : s.vm.findClass "RangeSheetModel" = some m.cls := hown
  have hrca := hrg ca hca; have hnca := hne ca hca; have hrcb := hrg cb hcb; have hncb := hne cb hcb; have hrcd := hrg cd hcd; have hncd := hne cd hcd; unfold bl bh at hrca hnca hrcb hncb hrcd hncd
  refine lv_bipush (v := 10) hx hb d_Mod_implies_0 (by decide) ?_
  refine lv_iload_n hx hb d_Mod_implies_2 rfl (lv_at hl 1 rfl) ?_
  refine x_mul hx hb d_Mod_implies_3 kc_10 hxd (by omega) (fun z_1 tz_1 => ?_)
  refine lv_istore (lv' := [(5, .int z_1), (0, .ref (adr 0)), (1, .int xd), (2, .int xa), (3, .int xb), (4, .int xc)]) hx hb d_Mod_implies_4 hl (by decide) rfl (fun ls hl => ?_)
  refine lv_aload_n hx hb d_Mod_implies_6 rfl (lv_at hl 1 rfl) ?_
  refine m_gr hx hb hK hown hP 18 (by decide) t_755 d_Mod_implies_7 ?_
  refine lv_iload hx hb d_Mod_implies_10 (lv_at hl 0 rfl) ?_
  refine lv_iload_n hx hb d_Mod_implies_12 rfl (lv_at hl 4 rfl) ?_
  refine x_add hx hb d_Mod_implies_13 tz_1 hxb (by omega) (fun z_2 tz_2 => ?_)
  refine m_ld hx hb hK hP 18 (by decide) (((10 * d) + cb)) tz_2 (by omega) (show ((10 * d) + cb) < 120 by omega) d_Mod_implies_14 (fun z_3 ez_3 => ?_)
  subst ez_3
  refine lv_aload_n hx hb d_Mod_implies_15 rfl (lv_at hl 1 rfl) ?_
  refine m_gr hx hb hK hown hP 19 (by decide) t_756 d_Mod_implies_16 ?_
  refine lv_iload hx hb d_Mod_implies_19 (lv_at hl 0 rfl) ?_
  refine lv_iload hx hb d_Mod_implies_21 (lv_at hl 5 rfl) ?_
  refine x_add hx hb d_Mod_implies_23 tz_1 hxc (by omega) (fun z_4 tz_4 => ?_)
  refine m_ld hx hb hK hP 19 (by decide) (((10 * d) + cd)) tz_4 (by omega) (show ((10 * d) + cd) < 120 by omega) d_Mod_implies_24 (fun z_5 ez_5 => ?_)
  subst ez_5
  refine b_icmp_le (tgt := 43) hx hb d_Mod_implies_25 (by decide) rfl rfl (fun c_6 => ?_) (fun c_6 => ?_)
  · refine lv_aload_n hx hb d_Mod_implies_43 rfl (lv_at hl 1 rfl) ?_
    refine m_gr hx hb hK hown hP 18 (by decide) t_755 d_Mod_implies_44 ?_
    refine lv_iload hx hb d_Mod_implies_47 (lv_at hl 0 rfl) ?_
    refine lv_iload_n hx hb d_Mod_implies_49 rfl (lv_at hl 3 rfl) ?_
    refine x_add hx hb d_Mod_implies_50 tz_1 hxa (by omega) (fun z_7 tz_7 => ?_)
    refine m_ld hx hb hK hP 18 (by decide) (((10 * d) + ca)) tz_7 (by omega) (show ((10 * d) + ca) < 120 by omega) d_Mod_implies_51 (fun z_8 ez_8 => ?_)
    subst ez_8
    refine lv_iconst (v := 1) hx hb d_Mod_implies_52 (by decide) ?_
    refine b_icmp_ge (tgt := 58) hx hb d_Mod_implies_53 (by decide) rfl kc_1 (fun c_9 => ?_) (fun c_9 => ?_)
    · refine lv_aload_n hx hb d_Mod_implies_58 rfl (lv_at hl 1 rfl) ?_
      refine lv_iload_n hx hb d_Mod_implies_59 rfl (lv_at hl 2 rfl) ?_
      refine lv_iload_n hx hb d_Mod_implies_60 rfl (lv_at hl 4 rfl) ?_
      refine lv_sipush (v := (-400)) hx hb d_Mod_implies_61 (by decide) ?_
      refine lv_aload_n hx hb d_Mod_implies_64 rfl (lv_at hl 1 rfl) ?_
      refine m_gr hx hb hK hown hP 19 (by decide) t_756 d_Mod_implies_65 ?_
      refine lv_iload hx hb d_Mod_implies_68 (lv_at hl 0 rfl) ?_
      refine lv_iload hx hb d_Mod_implies_70 (lv_at hl 5 rfl) ?_
      refine x_add hx hb d_Mod_implies_72 tz_1 hxc (by omega) (fun z_10 tz_10 => ?_)
      refine m_ld hx hb hK hP 19 (by decide) (((10 * d) + cd)) tz_10 (by omega) (show ((10 * d) + cd) < 120 by omega) d_Mod_implies_73 (fun z_11 ez_11 => ?_)
      subst ez_11
      refine x_V (As := [.int xd, .int xb, .int (-400 : Int32), .int (F 19 ((10 * d) + cd))]) (rest := []) hx hb hml hown hK (k_Mod_cut l D cA adr hi I F d cb xd xb (-400 : Int32) (F 19 ((10 * d) + cd)) ch hxd hxb (by omega) (by omega) hch) t_910 t_4 t_907 t_909 ts_20 yk_Mod_cut ⟨Nat.le_of_ble_eq_true rfl, Nat.le_of_ble_eq_true rfl⟩ (m_rec hK hP) hP rfl hl.1 rfl (Nat.le_of_ble_eq_true rfl) d_Mod_implies_74 ⟨Nat.le_of_ble_eq_true rfl, Nat.le_of_ble_eq_true rfl⟩ hS (fun q h => h) (fun r H locs hq _ hS => ?_)
      obtain ⟨lo_12, hh_12, hlo_12, hhh_12, rfl, hP⟩ := hq
      obtain ⟨ch_12, hch_12⟩ : ∃ q : Bool, q = (ch || decide ((F 18 (10 * d + cb)).toInt < (-400 : Int32).toInt ∨ (F 19 ((10 * d) + cd)).toInt < (F 19 (10 * d + cb)).toInt)) := ⟨_, rfl⟩
      rw [← hch_12] at hP
      rw [kc_m400] at hlo_12 hch_12
      refine W.eq (g2 := F0 m 77 ls [.int (bi (decide (lo_12.toInt ≤ hh_12.toInt)))]) rfl ?_
      refine b_bool_eq (tgt := 106) hx hb d_Mod_implies_77 (by decide) (fun c_13 => ?_) (fun c_13 => ?_)
      · refine lv_iconst (v := 0) hx hb d_Mod_implies_106 (by decide) ?_
        refine W.eq (g2 := F0 m 107 ls [.int (bi false)]) rfl ?_
        refine e_z hx hb hr hlk hQ hS d_Mod_implies_107 ?_
        have na := hne ca hca; have nb := hne cb hcb; have nc := hne cd hcd; have ra := hrg ca hca; have rb := hrg cb hcb; have rc := hrg cd hcd
        have p0 : bl F d cb ≤ bh F d cd := c_6
        have p1 : 1 ≤ bl F d ca := c_9
        refine ⟨_, _, false, ch_12, rfl, ?_, rfl, ?_, hP⟩
        · exact (FrD.cut (by omega))
        · have g := trivial
          have g0 : ¬ bl (cutF F (10 * d + cb) lo_12 hh_12) d cb ≤ bh (cutF F (10 * d + cb) lo_12 hh_12) d cb := by rw [cutF_l, cutF_h]; exact of_decide_eq_false c_13
          exact cut2 (f1 := -400) (t1 := bh F d cd) (f2 := bl F d cb) (t2 := 400) (yl := bl (cutF F (10 * d + cb) lo_12 hh_12) d) (yh := bh (cutF F (10 * d + cb) lo_12 hh_12) d) (c1 := ch_12) hcb hcd hne (cutF_b hn hlo_12 hhh_12) hch_12 (fun h => absurd h g0) (fun _ _ hs hn2 hf => by have a1 := (imp_just hca hcb hcd hs hn2 hf).2 p1; have a2 := hs cb hcb; omega) (fun _ _ _ hs hn2 hf => by have a0 := hs.tr (cutF_b hn hlo_12 hhh_12).sb; have a1 := (imp_just hca hcb hcd a0 hn2 hf).2 p1; have a2 := a0 cd hcd; omega) ⟨fun h => absurd h (by decide), fun h => absurd h.1 g0⟩ (fun _ q1 q2 => imp_fin hab hac hbc na nb nc (by omega))
      · refine lv_aload_n hx hb d_Mod_implies_80 rfl (lv_at hl 1 rfl) ?_
        refine lv_iload_n hx hb d_Mod_implies_81 rfl (lv_at hl 2 rfl) ?_
        refine lv_iload hx hb d_Mod_implies_82 (lv_at hl 5 rfl) ?_
        refine lv_aload_n hx hb d_Mod_implies_84 rfl (lv_at hl 1 rfl) ?_
        refine m_gr hx hb hK hown hP 18 (by decide) t_755 d_Mod_implies_85 ?_
        refine lv_iload hx hb d_Mod_implies_88 (lv_at hl 0 rfl) ?_
        refine lv_iload_n hx hb d_Mod_implies_90 rfl (lv_at hl 4 rfl) ?_
        refine x_add hx hb d_Mod_implies_91 tz_1 hxb (by omega) (fun z_14 tz_14 => ?_)
        refine m_ld hx hb hK hP 18 (by decide) (((10 * d) + cb)) tz_14 (by omega) (show ((10 * d) + cb) < 120 by omega) d_Mod_implies_92 (fun z_15 ez_15 => ?_)
        have tz_15 : z_15.toInt = (bl (cutF F (10 * d + cb) lo_12 hh_12) d cb) := by rw [ez_15]; rfl
        have tl : z_15.toInt = bl F d cb := by rw [tz_15, cutF_l]; unfold bl; omega
        refine lv_sipush (v := 400) hx hb d_Mod_implies_93 (by decide) ?_
        refine x_V (As := [.int xd, .int xc, .int z_15, .int (400 : Int32)]) (rest := []) hx hb hml hown hK (k_Mod_cut l D cA adr hi (va_up I 20 (bi ch_12)) (cutF F (10 * d + cb) lo_12 hh_12) d cd xd xc z_15 (400 : Int32) ch_12 hxd hxc (by omega) (by omega) rfl) t_910 t_4 t_907 t_909 ts_20 yk_Mod_cut ⟨Nat.le_of_ble_eq_true rfl, Nat.le_of_ble_eq_true rfl⟩ (m_rec hK hP) hP rfl hl.1 rfl (Nat.le_of_ble_eq_true rfl) d_Mod_implies_96 ⟨Nat.le_of_ble_eq_true rfl, Nat.le_of_ble_eq_true rfl⟩ hS (fun q h => h) (fun r H locs hq _ hS => ?_)
        obtain ⟨lo_16, hh_16, hlo_16, hhh_16, rfl, hP⟩ := hq
        obtain ⟨ch_16, hch_16⟩ : ∃ q : Bool, q = (ch_12 || decide (((cutF F (10 * d + cb) lo_12 hh_12) 18 (10 * d + cd)).toInt < z_15.toInt ∨ (400 : Int32).toInt < ((cutF F (10 * d + cb) lo_12 hh_12) 19 (10 * d + cd)).toInt)) := ⟨_, rfl⟩
        rw [← hch_16] at hP
        rw [tl] at hlo_16 hch_16
        rw [kc_400] at hhh_16 hch_16
        refine W.eq (g2 := F0 m 99 ls [.int (bi (decide (lo_16.toInt ≤ hh_16.toInt)))]) rfl ?_
        refine b_bool_eq (tgt := 106) hx hb d_Mod_implies_99 (by decide) (fun c_17 => ?_) (fun c_17 => ?_)
        · refine lv_iconst (v := 0) hx hb d_Mod_implies_106 (by decide) ?_
          refine W.eq (g2 := F0 m 107 ls [.int (bi false)]) rfl ?_
          refine e_z hx hb hr hlk hQ hS d_Mod_implies_107 ?_
          have na := hne ca hca; have nb := hne cb hcb; have nc := hne cd hcd; have ra := hrg ca hca; have rb := hrg cb hcb; have rc := hrg cd hcd
          have p0 : bl F d cb ≤ bh F d cd := c_6
          have p1 : 1 ≤ bl F d ca := c_9
          refine ⟨_, _, false, ch_16, rfl, ?_, rfl, ?_, hP⟩
          · exact ((FrD.cut (by omega)).tr (FrD.cut (by omega)))
          · have g := trivial
            have g0 : bl (cutF F (10 * d + cb) lo_12 hh_12) d cb ≤ bh (cutF F (10 * d + cb) lo_12 hh_12) d cb := by rw [cutF_l, cutF_h]; exact of_decide_eq_true c_13
            have g1 : ¬ bl (cutF (cutF F (10 * d + cb) lo_12 hh_12) (10 * d + cd) lo_16 hh_16) d cd ≤ bh (cutF (cutF F (10 * d + cb) lo_12 hh_12) (10 * d + cd) lo_16 hh_16) d cd := by rw [cutF_l, cutF_h]; exact of_decide_eq_false c_17
            exact cut2 (f1 := -400) (t1 := bh F d cd) (f2 := bl F d cb) (t2 := 400) (yl := bl (cutF F (10 * d + cb) lo_12 hh_12) d) (yh := bh (cutF F (10 * d + cb) lo_12 hh_12) d) (c1 := ch_12) hcb hcd hne (cutF_b hn hlo_12 hhh_12) hch_12 (fun _ => ⟨cutF_b hn hlo_16 hhh_16, hch_16⟩) (fun _ _ hs hn2 hf => by have a1 := (imp_just hca hcb hcd hs hn2 hf).2 p1; have a2 := hs cb hcb; omega) (fun _ _ _ hs hn2 hf => by have a0 := hs.tr (cutF_b hn hlo_12 hhh_12).sb; have a1 := (imp_just hca hcb hcd a0 hn2 hf).2 p1; have a2 := a0 cd hcd; omega) ⟨fun h => absurd h (by decide), fun h => absurd h.2 g1⟩ (fun _ q1 q2 => imp_fin hab hac hbc na nb nc (by omega))
        · refine lv_iconst (v := 1) hx hb d_Mod_implies_102 (by decide) ?_
          refine lv_goto (tgt := 107) hx hb d_Mod_implies_103 (by decide) ?_
          refine W.eq (g2 := F0 m 107 ls [.int (bi true)]) rfl ?_
          refine e_z hx hb hr hlk hQ hS d_Mod_implies_107 ?_
          have na := hne ca hca; have nb := hne cb hcb; have nc := hne cd hcd; have ra := hrg ca hca; have rb := hrg cb hcb; have rc := hrg cd hcd
          have p0 : bl F d cb ≤ bh F d cd := c_6
          have p1 : 1 ≤ bl F d ca := c_9
          refine ⟨_, _, true, ch_16, rfl, ?_, rfl, ?_, hP⟩
          · exact ((FrD.cut (by omega)).tr (FrD.cut (by omega)))
          · have g := trivial
            have g0 : bl (cutF F (10 * d + cb) lo_12 hh_12) d cb ≤ bh (cutF F (10 * d + cb) lo_12 hh_12) d cb := by rw [cutF_l, cutF_h]; exact of_decide_eq_true c_13
            have g1 : bl (cutF (cutF F (10 * d + cb) lo_12 hh_12) (10 * d + cd) lo_16 hh_16) d cd ≤ bh (cutF (cutF F (10 * d + cb) lo_12 hh_12) (10 * d + cd) lo_16 hh_16) d cd := by rw [cutF_l, cutF_h]; exact of_decide_eq_true c_17
            exact cut2 (f1 := -400) (t1 := bh F d cd) (f2 := bl F d cb) (t2 := 400) (yl := bl (cutF F (10 * d + cb) lo_12 hh_12) d) (yh := bh (cutF F (10 * d + cb) lo_12 hh_12) d) (c1 := ch_12) hcb hcd hne (cutF_b hn hlo_12 hhh_12) hch_12 (fun _ => ⟨cutF_b hn hlo_16 hhh_16, hch_16⟩) (fun _ _ hs hn2 hf => by have a1 := (imp_just hca hcb hcd hs hn2 hf).2 p1; have a2 := hs cb hcb; omega) (fun _ _ _ hs hn2 hf => by have a0 := hs.tr (cutF_b hn hlo_12 hhh_12).sb; have a1 := (imp_just hca hcb hcd a0 hn2 hf).2 p1; have a2 := a0 cd hcd; omega) ⟨fun _ => ⟨g0, g1⟩, fun _ => rfl⟩ (fun _ q1 q2 => imp_fin hab hac hbc na nb nc (by omega))
    · refine lv_iconst (v := 1) hx hb d_Mod_implies_56 (by decide) ?_
      refine W.eq (g2 := F0 m 57 ls [.int (bi true)]) rfl ?_
      refine e_z hx hb hr hlk hQ hS d_Mod_implies_57 ?_
      have na := hne ca hca; have nb := hne cb hcb; have nc := hne cd hcd; have ra := hrg ca hca; have rb := hrg cb hcb; have rc := hrg cd hcd
      have p0 : bl F d cb ≤ bh F d cd := c_6
      have p1 : bl F d ca < 1 := c_9
      exact ⟨I, F, true, ch, rfl, FrD.rf, hch, cut0 hne (imp_fin hab hac hbc na nb nc (by omega)), hP⟩
  · refine lv_aload_n hx hb d_Mod_implies_28 rfl (lv_at hl 1 rfl) ?_
    refine lv_iload_n hx hb d_Mod_implies_29 rfl (lv_at hl 2 rfl) ?_
    refine lv_iload_n hx hb d_Mod_implies_30 rfl (lv_at hl 3 rfl) ?_
    refine lv_sipush (v := (-400)) hx hb d_Mod_implies_31 (by decide) ?_
    refine lv_iconst (v := 0) hx hb d_Mod_implies_34 (by decide) ?_
    refine x_V (As := [.int xd, .int xa, .int (-400 : Int32), .int (0 : Int32)]) (rest := []) hx hb hml hown hK (k_Mod_cut l D cA adr hi I F d ca xd xa (-400 : Int32) (0 : Int32) ch hxd hxa (by omega) (by omega) hch) t_910 t_4 t_907 t_909 ts_20 yk_Mod_cut ⟨Nat.le_of_ble_eq_true rfl, Nat.le_of_ble_eq_true rfl⟩ (m_rec hK hP) hP rfl hl.1 rfl (Nat.le_of_ble_eq_true rfl) d_Mod_implies_35 ⟨Nat.le_of_ble_eq_true rfl, Nat.le_of_ble_eq_true rfl⟩ hS (fun q h => h) (fun r H locs hq _ hS => ?_)
    obtain ⟨lo_18, hh_18, hlo_18, hhh_18, rfl, hP⟩ := hq
    obtain ⟨ch_18, hch_18⟩ : ∃ q : Bool, q = (ch || decide ((F 18 (10 * d + ca)).toInt < (-400 : Int32).toInt ∨ (0 : Int32).toInt < (F 19 (10 * d + ca)).toInt)) := ⟨_, rfl⟩
    rw [← hch_18] at hP
    rw [kc_m400] at hlo_18 hch_18
    rw [kc_0] at hhh_18 hch_18
    refine W.eq (g2 := F0 m 38 ls [.int (bi (decide (lo_18.toInt ≤ hh_18.toInt)))]) rfl ?_
    refine b_bool_ne (tgt := 43) hx hb d_Mod_implies_38 (by decide) (fun c_19 => ?_) (fun c_19 => ?_)
    · refine lv_aload_n hx hb d_Mod_implies_43 rfl (lv_at hl 1 rfl) ?_
      refine m_gr hx hb hK hown hP 18 (by decide) t_755 d_Mod_implies_44 ?_
      refine lv_iload hx hb d_Mod_implies_47 (lv_at hl 0 rfl) ?_
      refine lv_iload_n hx hb d_Mod_implies_49 rfl (lv_at hl 3 rfl) ?_
      refine x_add hx hb d_Mod_implies_50 tz_1 hxa (by omega) (fun z_20 tz_20 => ?_)
      refine m_ld hx hb hK hP 18 (by decide) (((10 * d) + ca)) tz_20 (by omega) (show ((10 * d) + ca) < 120 by omega) d_Mod_implies_51 (fun z_21 ez_21 => ?_)
      have tz_21 : z_21.toInt = (bl (cutF F (10 * d + ca) lo_18 hh_18) d ca) := by rw [ez_21]; rfl
      have tl : z_21.toInt < 1 := by rw [tz_21, cutF_l]; have := of_decide_eq_true c_19; omega
      refine lv_iconst (v := 1) hx hb d_Mod_implies_52 (by decide) ?_
      refine b_icmp_ge (tgt := 58) hx hb d_Mod_implies_53 (by decide) tz_21 kc_1 (fun c_22 => ?_) (fun c_22 => ?_)
      · exfalso; omega
      · refine lv_iconst (v := 1) hx hb d_Mod_implies_56 (by decide) ?_
        refine W.eq (g2 := F0 m 57 ls [.int (bi true)]) rfl ?_
        refine e_z hx hb hr hlk hQ hS d_Mod_implies_57 ?_
        have na := hne ca hca; have nb := hne cb hcb; have nc := hne cd hcd; have ra := hrg ca hca; have rb := hrg cb hcb; have rc := hrg cd hcd
        have p0 : bh F d cd < bl F d cb := c_6
        have g0 : bl (cutF F (10 * d + ca) lo_18 hh_18) d ca ≤ bh (cutF F (10 * d + ca) lo_18 hh_18) d ca := by rw [cutF_l, cutF_h]; exact of_decide_eq_true c_19
        refine ⟨_, _, true, ch_18, rfl, FrD.cut (by omega), rfl, ?_, hP⟩
        exact cut1 (f1 := -400) (t1 := 0) hca hne (cutF_b hn hlo_18 hhh_18) hch_18 (fun _ _ hs hn2 hf => by have a1 := (imp_just hca hcb hcd hs hn2 hf).1 p0; have a2 := hs ca hca; omega) ⟨fun _ => g0, fun _ => rfl⟩ (fun q => imp_fin hab hac hbc na nb nc (by omega))
    · refine lv_iconst (v := 0) hx hb d_Mod_implies_41 (by decide) ?_
      refine W.eq (g2 := F0 m 42 ls [.int (bi false)]) rfl ?_
      refine e_z hx hb hr hlk hQ hS d_Mod_implies_42 ?_
      have na := hne ca hca; have nb := hne cb hcb; have nc := hne cd hcd; have ra := hrg ca hca; have rb := hrg cb hcb; have rc := hrg cd hcd
      have p0 : bh F d cd < bl F d cb := c_6
      have g0 : ¬ bl (cutF F (10 * d + ca) lo_18 hh_18) d ca ≤ bh (cutF F (10 * d + ca) lo_18 hh_18) d ca := by rw [cutF_l, cutF_h]; exact of_decide_eq_false c_19
      refine ⟨_, _, false, ch_18, rfl, FrD.cut (by omega), rfl, ?_, hP⟩
      exact cut1 (f1 := -400) (t1 := 0) hca hne (cutF_b hn hlo_18 hhh_18) hch_18 (fun _ _ hs hn2 hf => by have a1 := (imp_just hca hcb hcd hs hn2 hf).1 p0; have a2 := hs ca hca; omega) ⟨fun h => absurd h (by decide), fun h => absurd h g0⟩ (fun q => imp_fin hab hac hbc na nb nc (by omega))
def rsF (F : Nat → Nat → Int32) (t cnt : Nat) (x y : Int) : Prop := ∃ k, k < cnt ∧ x = (F 11 (10 * t + k)).toInt ∧ y = (F 12 (10 * t + k)).toInt
theorem lk_no {F : Nat → Nat → Int32} {t kx a b : Nat} {xl xh : Nat → Int} {I : Nat → Int32} (hE : EI (Sol8 (rsF F t kx) a b xl xh) I) (h : ¬ ((xl a ≤ (F 11 (10 * t + kx)).toInt ∧ (F 11 (10 * t + kx)).toInt ≤ xh a) ∧ (xl b ≤ (F 12 (10 * t + kx)).toInt ∧ (F 12 (10 * t + kx)).toInt ≤ xh b) ∧ (a = b → (F 11 (10 * t + kx)).toInt = (F 12 (10 * t + kx)).toInt))) : EI (Sol8 (rsF F t (kx + 1)) a b xl xh) I := by
  refine hE.congr (fun x y z => ⟨fun ⟨⟨k, hk, e⟩, h2⟩ => ⟨⟨k, by omega, e⟩, h2⟩, fun ⟨⟨k, hk, e1, e2⟩, h2, h3, h4, h5⟩ => ⟨⟨k, ?_, e1, e2⟩, h2, h3, h4, h5⟩⟩)
  rcases (by omega : k < kx ∨ k = kx) with q | q
  · exact q
  · subst q; subst e1; subst e2; exact absurd ⟨h2, h3, h4⟩ h
theorem lk_yes {F : Nat → Nat → Int32} {t kx a b : Nat} {xl xh : Nat → Int} {I I' : Nat → Int32} (hE : EI (Sol8 (rsF F t kx) a b xl xh) I) (hN : NoteR I I' (F 11 (10 * t + kx)).toInt (F 12 (10 * t + kx)).toInt 0 0) (hr : (-100 ≤ (F 11 (10 * t + kx)).toInt ∧ (F 11 (10 * t + kx)).toInt ≤ 100) ∧ (-100 ≤ (F 12 (10 * t + kx)).toInt ∧ (F 12 (10 * t + kx)).toInt ≤ 100))
    (h : (xl a ≤ (F 11 (10 * t + kx)).toInt ∧ (F 11 (10 * t + kx)).toInt ≤ xh a) ∧ (xl b ≤ (F 12 (10 * t + kx)).toInt ∧ (F 12 (10 * t + kx)).toInt ≤ xh b) ∧ (a = b → (F 11 (10 * t + kx)).toInt = (F 12 (10 * t + kx)).toInt)) : EI (Sol8 (rsF F t (kx + 1)) a b xl xh) I' := by
  refine (hN.ends hE (by omega)).congr (fun x y z => ⟨?_, ?_⟩)
  · rintro (⟨⟨k, hk, e⟩, h2⟩ | ⟨rfl, rfl, q1, q2⟩)
    · exact ⟨⟨k, by omega, e⟩, h2⟩
    · exact ⟨⟨kx, by omega, rfl, rfl⟩, h.1, h.2.1, h.2.2, by omega⟩
  · rintro ⟨⟨k, hk, e1, e2⟩, h2, h3, h4, h5⟩
    rcases (by omega : k < kx ∨ k = kx) with q | q
    · exact Or.inl ⟨⟨k, q, e1, e2⟩, h2, h3, h4, h5⟩
    · subst q; exact Or.inr ⟨e1, e2, by omega, by omega⟩
theorem lk_fit {q : Bool} {a b : Nat} {x y la ha lb hb : Int} (h : q = true ↔ (decide (la ≤ x ∧ x ≤ ha) = true ∧ (decide (lb ≤ y ∧ y ≤ hb) = true ∧ (¬ (a : Int) = (b : Int) ∨ x = y)))) : q = true ↔ ((la ≤ x ∧ x ≤ ha) ∧ (lb ≤ y ∧ y ≤ hb) ∧ (a = b → x = y)) := by
  rw [h, decide_eq_true_eq, decide_eq_true_eq]
  constructor
  · rintro ⟨h1, h2, h3⟩; exact ⟨h1, h2, fun e => by subst e; rcases h3 with q | q; exact absurd rfl q; exact q⟩
  · rintro ⟨h1, h2, h3⟩
    refine ⟨h1, h2, ?_⟩
    by_cases e : a = b
    · exact Or.inr (h3 e)
    · exact Or.inl (by omega)
theorem d_Mod_lookup_0 : decode b_Mod_lookup 0 = .ok (.bipush 10, 2) := by decide +kernel
theorem d_Mod_lookup_2 : decode b_Mod_lookup 2 = .ok (.iload_n 1, 1) := by decide +kernel
theorem d_Mod_lookup_3 : decode b_Mod_lookup 3 = .ok (.imul, 1) := by decide +kernel
theorem d_Mod_lookup_4 : decode b_Mod_lookup 4 = .ok (.istore 5, 2) := by decide +kernel
theorem d_Mod_lookup_6 : decode b_Mod_lookup 6 = .ok (.aload_n 0, 1) := by decide +kernel
theorem d_Mod_lookup_7 : decode b_Mod_lookup 7 = .ok (.invokevirtual 149, 3) := by decide +kernel
theorem d_Mod_lookup_10 : decode b_Mod_lookup 10 = .ok (.bipush 10, 2) := by decide +kernel
theorem d_Mod_lookup_12 : decode b_Mod_lookup 12 = .ok (.iload 4, 2) := by decide +kernel
theorem d_Mod_lookup_14 : decode b_Mod_lookup 14 = .ok (.imul, 1) := by decide +kernel
theorem d_Mod_lookup_15 : decode b_Mod_lookup 15 = .ok (.istore 6, 2) := by decide +kernel
theorem d_Mod_lookup_17 : decode b_Mod_lookup 17 = .ok (.iload 6, 2) := by decide +kernel
theorem d_Mod_lookup_19 : decode b_Mod_lookup 19 = .ok (.bipush 10, 2) := by decide +kernel
theorem d_Mod_lookup_21 : decode b_Mod_lookup 21 = .ok (.iload 4, 2) := by decide +kernel
theorem d_Mod_lookup_23 : decode b_Mod_lookup 23 = .ok (.imul, 1) := by decide +kernel
theorem d_Mod_lookup_24 : decode b_Mod_lookup 24 = .ok (.aload_n 0, 1) := by decide +kernel
theorem d_Mod_lookup_25 : decode b_Mod_lookup 25 = .ok (.getfield 32, 3) := by decide +kernel
theorem d_Mod_lookup_28 : decode b_Mod_lookup 28 = .ok (.iload 4, 2) := by decide +kernel
theorem d_Mod_lookup_30 : decode b_Mod_lookup 30 = .ok (.iaload, 1) := by decide +kernel
theorem d_Mod_lookup_31 : decode b_Mod_lookup 31 = .ok (.iadd, 1) := by decide +kernel
theorem d_Mod_lookup_32 : decode b_Mod_lookup 32 = .ok (.if_icmp .ge 125, 3) := by decide +kernel
theorem d_Mod_lookup_35 : decode b_Mod_lookup 35 = .ok (.aload_n 0, 1) := by decide +kernel
theorem d_Mod_lookup_36 : decode b_Mod_lookup 36 = .ok (.getfield 35, 3) := by decide +kernel
theorem d_Mod_lookup_39 : decode b_Mod_lookup 39 = .ok (.iload 6, 2) := by decide +kernel
theorem d_Mod_lookup_41 : decode b_Mod_lookup 41 = .ok (.iaload, 1) := by decide +kernel
theorem d_Mod_lookup_42 : decode b_Mod_lookup 42 = .ok (.aload_n 0, 1) := by decide +kernel
theorem d_Mod_lookup_43 : decode b_Mod_lookup 43 = .ok (.getfield 50, 3) := by decide +kernel
theorem d_Mod_lookup_46 : decode b_Mod_lookup 46 = .ok (.iload 5, 2) := by decide +kernel
theorem d_Mod_lookup_48 : decode b_Mod_lookup 48 = .ok (.iload_n 2, 1) := by decide +kernel
theorem d_Mod_lookup_49 : decode b_Mod_lookup 49 = .ok (.iadd, 1) := by decide +kernel
theorem d_Mod_lookup_50 : decode b_Mod_lookup 50 = .ok (.iaload, 1) := by decide +kernel
theorem d_Mod_lookup_51 : decode b_Mod_lookup 51 = .ok (.aload_n 0, 1) := by decide +kernel
theorem d_Mod_lookup_52 : decode b_Mod_lookup 52 = .ok (.getfield 53, 3) := by decide +kernel
theorem d_Mod_lookup_55 : decode b_Mod_lookup 55 = .ok (.iload 5, 2) := by decide +kernel
theorem d_Mod_lookup_57 : decode b_Mod_lookup 57 = .ok (.iload_n 2, 1) := by decide +kernel
theorem d_Mod_lookup_58 : decode b_Mod_lookup 58 = .ok (.iadd, 1) := by decide +kernel
theorem d_Mod_lookup_59 : decode b_Mod_lookup 59 = .ok (.iaload, 1) := by decide +kernel
theorem d_Mod_lookup_60 : decode b_Mod_lookup 60 = .ok (.invokestatic 89, 3) := by decide +kernel
theorem d_Mod_lookup_63 : decode b_Mod_lookup 63 = .ok (.ifCond .eq 60, 3) := by decide +kernel
theorem d_Mod_lookup_66 : decode b_Mod_lookup 66 = .ok (.aload_n 0, 1) := by decide +kernel
theorem d_Mod_lookup_67 : decode b_Mod_lookup 67 = .ok (.getfield 38, 3) := by decide +kernel
theorem d_Mod_lookup_70 : decode b_Mod_lookup 70 = .ok (.iload 6, 2) := by decide +kernel
theorem d_Mod_lookup_72 : decode b_Mod_lookup 72 = .ok (.iaload, 1) := by decide +kernel
theorem d_Mod_lookup_73 : decode b_Mod_lookup 73 = .ok (.aload_n 0, 1) := by decide +kernel
theorem d_Mod_lookup_74 : decode b_Mod_lookup 74 = .ok (.getfield 50, 3) := by decide +kernel
theorem d_Mod_lookup_77 : decode b_Mod_lookup 77 = .ok (.iload 5, 2) := by decide +kernel
theorem d_Mod_lookup_79 : decode b_Mod_lookup 79 = .ok (.iload_n 3, 1) := by decide +kernel
theorem d_Mod_lookup_80 : decode b_Mod_lookup 80 = .ok (.iadd, 1) := by decide +kernel
theorem d_Mod_lookup_81 : decode b_Mod_lookup 81 = .ok (.iaload, 1) := by decide +kernel
theorem d_Mod_lookup_82 : decode b_Mod_lookup 82 = .ok (.aload_n 0, 1) := by decide +kernel
theorem d_Mod_lookup_83 : decode b_Mod_lookup 83 = .ok (.getfield 53, 3) := by decide +kernel
theorem d_Mod_lookup_86 : decode b_Mod_lookup 86 = .ok (.iload 5, 2) := by decide +kernel
theorem d_Mod_lookup_88 : decode b_Mod_lookup 88 = .ok (.iload_n 3, 1) := by decide +kernel
theorem d_Mod_lookup_89 : decode b_Mod_lookup 89 = .ok (.iadd, 1) := by decide +kernel
theorem d_Mod_lookup_90 : decode b_Mod_lookup 90 = .ok (.iaload, 1) := by decide +kernel
theorem d_Mod_lookup_91 : decode b_Mod_lookup 91 = .ok (.invokestatic 89, 3) := by decide +kernel
theorem d_Mod_lookup_94 : decode b_Mod_lookup 94 = .ok (.ifCond .eq 29, 3) := by decide +kernel
theorem d_Mod_lookup_97 : decode b_Mod_lookup 97 = .ok (.iload_n 2, 1) := by decide +kernel
theorem d_Mod_lookup_98 : decode b_Mod_lookup 98 = .ok (.iload_n 3, 1) := by decide +kernel
theorem d_Mod_lookup_99 : decode b_Mod_lookup 99 = .ok (.if_icmp .ne 20, 3) := by decide +kernel
theorem d_Mod_lookup_102 : decode b_Mod_lookup 102 = .ok (.aload_n 0, 1) := by decide +kernel
theorem d_Mod_lookup_103 : decode b_Mod_lookup 103 = .ok (.getfield 35, 3) := by decide +kernel
theorem d_Mod_lookup_106 : decode b_Mod_lookup 106 = .ok (.iload 6, 2) := by decide +kernel
theorem d_Mod_lookup_108 : decode b_Mod_lookup 108 = .ok (.iaload, 1) := by decide +kernel
theorem d_Mod_lookup_109 : decode b_Mod_lookup 109 = .ok (.aload_n 0, 1) := by decide +kernel
theorem d_Mod_lookup_110 : decode b_Mod_lookup 110 = .ok (.getfield 38, 3) := by decide +kernel
theorem d_Mod_lookup_113 : decode b_Mod_lookup 113 = .ok (.iload 6, 2) := by decide +kernel
theorem d_Mod_lookup_115 : decode b_Mod_lookup 115 = .ok (.iaload, 1) := by decide +kernel
theorem d_Mod_lookup_116 : decode b_Mod_lookup 116 = .ok (.if_icmp .ne 7, 3) := by decide +kernel
theorem d_Mod_lookup_119 : decode b_Mod_lookup 119 = .ok (.iconst 1, 1) := by decide +kernel
theorem d_Mod_lookup_120 : decode b_Mod_lookup 120 = .ok (.goto 4, 3) := by decide +kernel
theorem d_Mod_lookup_123 : decode b_Mod_lookup 123 = .ok (.iconst 0, 1) := by decide +kernel
theorem d_Mod_lookup_124 : decode b_Mod_lookup 124 = .ok (.istore 7, 2) := by decide +kernel
theorem d_Mod_lookup_126 : decode b_Mod_lookup 126 = .ok (.iload 7, 2) := by decide +kernel
theorem d_Mod_lookup_128 : decode b_Mod_lookup 128 = .ok (.ifCond .eq 23, 3) := by decide +kernel
theorem d_Mod_lookup_131 : decode b_Mod_lookup 131 = .ok (.aload_n 0, 1) := by decide +kernel
theorem d_Mod_lookup_132 : decode b_Mod_lookup 132 = .ok (.aload_n 0, 1) := by decide +kernel
theorem d_Mod_lookup_133 : decode b_Mod_lookup 133 = .ok (.getfield 35, 3) := by decide +kernel
theorem d_Mod_lookup_136 : decode b_Mod_lookup 136 = .ok (.iload 6, 2) := by decide +kernel
theorem d_Mod_lookup_138 : decode b_Mod_lookup 138 = .ok (.iaload, 1) := by decide +kernel
theorem d_Mod_lookup_139 : decode b_Mod_lookup 139 = .ok (.aload_n 0, 1) := by decide +kernel
theorem d_Mod_lookup_140 : decode b_Mod_lookup 140 = .ok (.getfield 38, 3) := by decide +kernel
theorem d_Mod_lookup_143 : decode b_Mod_lookup 143 = .ok (.iload 6, 2) := by decide +kernel
theorem d_Mod_lookup_145 : decode b_Mod_lookup 145 = .ok (.iaload, 1) := by decide +kernel
theorem d_Mod_lookup_146 : decode b_Mod_lookup 146 = .ok (.iconst 0, 1) := by decide +kernel
theorem d_Mod_lookup_147 : decode b_Mod_lookup 147 = .ok (.iconst 0, 1) := by decide +kernel
theorem d_Mod_lookup_148 : decode b_Mod_lookup 148 = .ok (.invokevirtual 156, 3) := by decide +kernel
theorem d_Mod_lookup_151 : decode b_Mod_lookup 151 = .ok (.iinc 6 1, 3) := by decide +kernel
theorem d_Mod_lookup_154 : decode b_Mod_lookup 154 = .ok (.goto (-137), 3) := by decide +kernel
theorem d_Mod_lookup_157 : decode b_Mod_lookup 157 = .ok (.aload_n 0, 1) := by decide +kernel
theorem d_Mod_lookup_158 : decode b_Mod_lookup 158 = .ok (.iload_n 1, 1) := by decide +kernel
theorem d_Mod_lookup_159 : decode b_Mod_lookup 159 = .ok (.iload_n 2, 1) := by decide +kernel
theorem d_Mod_lookup_160 : decode b_Mod_lookup 160 = .ok (.aload_n 0, 1) := by decide +kernel
theorem d_Mod_lookup_161 : decode b_Mod_lookup 161 = .ok (.getfield 127, 3) := by decide +kernel
theorem d_Mod_lookup_164 : decode b_Mod_lookup 164 = .ok (.aload_n 0, 1) := by decide +kernel
theorem d_Mod_lookup_165 : decode b_Mod_lookup 165 = .ok (.getfield 136, 3) := by decide +kernel
theorem d_Mod_lookup_168 : decode b_Mod_lookup 168 = .ok (.invokevirtual 160, 3) := by decide +kernel
theorem d_Mod_lookup_171 : decode b_Mod_lookup 171 = .ok (.ifCond .eq 24, 3) := by decide +kernel
theorem d_Mod_lookup_174 : decode b_Mod_lookup 174 = .ok (.aload_n 0, 1) := by decide +kernel
theorem d_Mod_lookup_175 : decode b_Mod_lookup 175 = .ok (.iload_n 1, 1) := by decide +kernel
theorem d_Mod_lookup_176 : decode b_Mod_lookup 176 = .ok (.iload_n 3, 1) := by decide +kernel
theorem d_Mod_lookup_177 : decode b_Mod_lookup 177 = .ok (.aload_n 0, 1) := by decide +kernel
theorem d_Mod_lookup_178 : decode b_Mod_lookup 178 = .ok (.getfield 130, 3) := by decide +kernel
theorem d_Mod_lookup_181 : decode b_Mod_lookup 181 = .ok (.aload_n 0, 1) := by decide +kernel
theorem d_Mod_lookup_182 : decode b_Mod_lookup 182 = .ok (.getfield 139, 3) := by decide +kernel
theorem d_Mod_lookup_185 : decode b_Mod_lookup 185 = .ok (.invokevirtual 160, 3) := by decide +kernel
theorem d_Mod_lookup_188 : decode b_Mod_lookup 188 = .ok (.ifCond .eq 7, 3) := by decide +kernel
theorem d_Mod_lookup_191 : decode b_Mod_lookup 191 = .ok (.iconst 1, 1) := by decide +kernel
theorem d_Mod_lookup_192 : decode b_Mod_lookup 192 = .ok (.goto 4, 3) := by decide +kernel
theorem d_Mod_lookup_195 : decode b_Mod_lookup 195 = .ok (.iconst 0, 1) := by decide +kernel
theorem d_Mod_lookup_196 : decode b_Mod_lookup 196 = .ok (.ireturn, 1) := by decide +kernel
set_option maxHeartbeats 4000000 in
set_option maxRecDepth 20000 in
theorem k_Mod_lookup (l : Launch) (D : va_G) (cA : Nat → ClassId) (adr : Nat → Nat) (hi : wI mN adr) (I : Nat → Int32) (F : Nat → Nat → Int32) (d nn ca cb tt cnt : Nat) (xd xa xb xt : Int32) (ch : Bool) (hn : nn ≤ 10) (hd : d < 12) (hxd : xd.toInt = (d : Int)) (hxa : xa.toInt = (ca : Int)) (hxb : xb.toInt = (cb : Int)) (hxt : xt.toInt = (tt : Int)) (htt : tt < 3) (hcnt : (F 10 tt).toInt = (cnt : Int)) (hc10 : cnt ≤ 10) (hca : ca < nn) (hcb : cb < nn) (hrw : ∀ k, k < cnt → (-100 ≤ (F 11 (10 * tt + k)).toInt ∧ (F 11 (10 * tt + k)).toInt ≤ 100) ∧ (-100 ≤ (F 12 (10 * tt + k)).toInt ∧ (F 12 (10 * tt + k)).toInt ≤ 100)) (hch : I 20 = bi ch) (hne : Ne nn (bl F d) (bh F d)) (hrg : ∀ k, k < nn → -100 ≤ bl F d k ∧ bh F d k ≤ 100) : Ct l y_Mod_lookup b_Mod_lookup 8 (some .boolean) 5 D cA [.ref (adr 0), .int xd, .int xa, .int xb, .int xt] (fun H => MP D cA adr I F H) (fun r H => ∃ (I2 : Nat → Int32) (F2 : Nat → Nat → Int32) (q c2 : Bool), r = some (.int (bi q)) ∧ FrD d I I2 F F2 ∧ I2 20 = bi c2 ∧ NOK nn (Fx8 (rsF F tt cnt) ca cb) (bl F d) (bh F d) q (bl F2 d) (bh F2 d) ch c2 ∧ MP D cA adr I2 F2 H) (wA mN adr) := by
  refine Ct.mk (by decide) (Nat.le_of_ble_eq_true rfl) ?_
  intro p e s m args below meth c Q H locs ls hx hb hr hml hlk hown hin hK hQ hS hP hl
  have hl : lv_has ls 8 [(0, .ref (adr 0)), (1, .int xd), (2, .int xa), (3, .int xb), (4, .int xt)] := hl
  have hown : s.vm.findClass "RangeSheetModel" = some m.cls := hown
  have hrca := hrg ca hca; have hnca := hne ca hca; have hrcb := hrg cb hcb; have hncb := hne cb hcb; unfold bl bh at hrca hnca hrcb hncb
  refine lv_bipush (v := 10) hx hb d_Mod_lookup_0 (by decide) ?_
  refine lv_iload_n hx hb d_Mod_lookup_2 rfl (lv_at hl 1 rfl) ?_
  refine x_mul hx hb d_Mod_lookup_3 kc_10 hxd (by omega) (fun z_1 tz_1 => ?_)
  refine lv_istore (lv' := [(5, .int z_1), (0, .ref (adr 0)), (1, .int xd), (2, .int xa), (3, .int xb), (4, .int xt)]) hx hb d_Mod_lookup_4 hl (by decide) rfl (fun ls hl => ?_)
  refine lv_aload_n hx hb d_Mod_lookup_6 rfl (lv_at hl 1 rfl) ?_
  refine x_V (As := []) (rest := []) hx hb hml hown hK (k_Mod_clearEnds l D cA adr hi I F) t_940 t_4 t_937 t_939 ts_26 yk_Mod_clearEnds ⟨Nat.le_of_ble_eq_true rfl, Nat.le_of_ble_eq_true rfl⟩ (m_rec hK hP) hP rfl hl.1 rfl (Nat.le_of_ble_eq_true rfl) d_Mod_lookup_7 ⟨Nat.le_of_ble_eq_true rfl, Nat.le_of_ble_eq_true rfl⟩ hS (fun q h => h) (fun r H locs hq _ hS => ?_)
  obtain ⟨I_2, rfl, hI_2, hE_2, hP⟩ := hq
  refine W.eq (g2 := F0 m 10 ls []) rfl ?_
  refine lv_bipush (v := 10) hx hb d_Mod_lookup_10 (by decide) ?_
  refine lv_iload hx hb d_Mod_lookup_12 (lv_at hl 5 rfl) ?_
  refine x_mul hx hb d_Mod_lookup_14 kc_10 hxt (by omega) (fun z_3 tz_3 => ?_)
  refine lv_istore (lv' := [(6, .int z_3), (5, .int z_1), (0, .ref (adr 0)), (1, .int xd), (2, .int xa), (3, .int xb), (4, .int xt)]) hx hb d_Mod_lookup_15 hl (by decide) rfl (fun ls hl => ?_)
  have L_4 : ∀ (n : Nat) (kx : Nat) (x6 : Int32) (I1 : Nat → Int32) (H : Heap) (locs : List Loc) (ls : Array Slot), (cnt - kx) < n → (kx ≤ cnt) → (x6.toInt = ((10 * tt + kx : Nat) : Int)) → (∀ k, (k < 21 ∨ 26 < k) → I1 k = I k) → (EI (Sol8 (rsF F tt kx) ca cb (bl F d) (bh F d)) I1) → MP D cA adr I1 F H → va_S (wA mN adr) s.heap H locs → lv_has ls 8 [(5, .int z_1), (0, .ref (adr 0)), (1, .int xd), (2, .int xa), (3, .int xb), (4, .int xt), (6, .int x6)] → W p l e (rl 5) s m args below meth c H locs 0 0 Q (F0 m 17 ls []) := by
    intro n
    induction n with
    | zero => intro kx x6 I1 H locs ls hmu; exact absurd hmu (Nat.not_lt_zero _)
    | succ n ih_4 =>
      intro kx x6 I1 H locs ls hmu hkx hx6 hI1 hE1 hP hS hl
      refine lv_iload hx hb d_Mod_lookup_17 (lv_at hl 6 rfl) ?_
      refine lv_bipush (v := 10) hx hb d_Mod_lookup_19 (by decide) ?_
      refine lv_iload hx hb d_Mod_lookup_21 (lv_at hl 5 rfl) ?_
      refine x_mul hx hb d_Mod_lookup_23 kc_10 hxt (by omega) (fun z_5 tz_5 => ?_)
      refine lv_aload_n hx hb d_Mod_lookup_24 rfl (lv_at hl 1 rfl) ?_
      refine m_gr hx hb hK hown hP 10 (by decide) t_747 d_Mod_lookup_25 ?_
      refine lv_iload hx hb d_Mod_lookup_28 (lv_at hl 5 rfl) ?_
      refine m_ld hx hb hK hP 10 (by decide) (tt) hxt (by omega) (show tt < 3 by omega) d_Mod_lookup_30 (fun z_6 ez_6 => ?_)
      subst ez_6
      refine x_add hx hb d_Mod_lookup_31 tz_5 hcnt (by omega) (fun z_7 tz_7 => ?_)
      refine b_icmp_ge (tgt := 157) hx hb d_Mod_lookup_32 (by decide) hx6 tz_7 (fun c_8 => ?_) (fun c_8 => ?_)
      · refine lv_aload_n hx hb d_Mod_lookup_157 rfl (lv_at hl 1 rfl) ?_
        refine lv_iload_n hx hb d_Mod_lookup_158 rfl (lv_at hl 2 rfl) ?_
        refine lv_iload_n hx hb d_Mod_lookup_159 rfl (lv_at hl 3 rfl) ?_
        refine lv_aload_n hx hb d_Mod_lookup_160 rfl (lv_at hl 1 rfl) ?_
        refine m_gi (v := (I1 21)) hx hb hK hown hP 21 (by decide) t_758 rfl d_Mod_lookup_161 ?_
        refine lv_aload_n hx hb d_Mod_lookup_164 rfl (lv_at hl 1 rfl) ?_
        refine m_gi (v := (I1 22)) hx hb hK hown hP 22 (by decide) t_759 rfl d_Mod_lookup_165 ?_
        refine x_V (As := [.int xd, .int xa, .int (I1 21), .int (I1 22)]) (rest := []) hx hb hml hown hK (k_Mod_cut l D cA adr hi I1 F d ca xd xa (I1 21) (I1 22) ch hxd hxa (by omega) (by omega) ((hI1 20 (by omega)).trans hch)) t_910 t_4 t_907 t_909 ts_20 yk_Mod_cut ⟨Nat.le_of_ble_eq_true rfl, Nat.le_of_ble_eq_true rfl⟩ (m_rec hK hP) hP rfl hl.1 rfl (Nat.le_of_ble_eq_true rfl) d_Mod_lookup_168 ⟨Nat.le_of_ble_eq_true rfl, Nat.le_of_ble_eq_true rfl⟩ hS (fun q h => h) (fun r H locs hq _ hS => ?_)
        obtain ⟨lo_9, hh_9, hlo_9, hhh_9, rfl, hP⟩ := hq
        obtain ⟨ch_9, hch_9⟩ : ∃ q : Bool, q = (ch || decide ((F 18 (10 * d + ca)).toInt < (I1 21).toInt ∨ (I1 22).toInt < (F 19 (10 * d + ca)).toInt)) := ⟨_, rfl⟩
        rw [← hch_9] at hP
        refine W.eq (g2 := F0 m 171 ls [.int (bi (decide (lo_9.toInt ≤ hh_9.toInt)))]) rfl ?_
        refine b_bool_eq (tgt := 195) hx hb d_Mod_lookup_171 (by decide) (fun c_10 => ?_) (fun c_10 => ?_)
        · refine lv_iconst (v := 0) hx hb d_Mod_lookup_195 (by decide) ?_
          refine W.eq (g2 := F0 m 196 ls [.int (bi false)]) rfl ?_
          refine e_z hx hb hr hlk hQ hS d_Mod_lookup_196 ?_
          refine ⟨_, _, false, ch_9, rfl, ?_, rfl, ?_, hP⟩
          · exact ((FrD.ints (fun k hk => hI1 k (by omega))).tr (FrD.cut (by omega)))
          · have g := trivial
            have g0 : ¬ bl (cutF F (10 * d + ca) lo_9 hh_9) d ca ≤ bh (cutF F (10 * d + ca) lo_9 hh_9) d ca := by rw [cutF_l, cutF_h]; exact of_decide_eq_false c_10
            have hE : Ends (Sol8 (rsF F tt cnt) ca cb (bl F d) (bh F d)) 400 (I1 21).toInt (I1 22).toInt (I1 23).toInt (I1 24).toInt (I1 25).toInt (I1 26).toInt := hE1.congr (fun x y z => ⟨fun h => ⟨⟨h.1.choose, by have := h.1.choose_spec; omega, h.1.choose_spec.2⟩, h.2⟩, fun h => ⟨⟨h.1.choose, by have := h.1.choose_spec; omega, h.1.choose_spec.2⟩, h.2⟩⟩)
            have hra := hrg ca hca
            exact hull2 (far := 400) (yl := bl (cutF F (10 * d + ca) lo_9 hh_9) d) (yh := bh (cutF F (10 * d + ca) lo_9 hh_9) d) (c1 := ch_9) hca hcb hne (by omega) hE (cutF_b hn hlo_9 hhh_9) hch_9 (fun h => absurd h g0) ⟨fun h => absurd h (by decide), fun h => absurd h.1 g0⟩
        · refine lv_aload_n hx hb d_Mod_lookup_174 rfl (lv_at hl 1 rfl) ?_
          refine lv_iload_n hx hb d_Mod_lookup_175 rfl (lv_at hl 2 rfl) ?_
          refine lv_iload_n hx hb d_Mod_lookup_176 rfl (lv_at hl 4 rfl) ?_
          refine lv_aload_n hx hb d_Mod_lookup_177 rfl (lv_at hl 1 rfl) ?_
          refine m_gi (v := (I1 23)) hx hb hK hown hP 23 (by decide) t_760 rfl d_Mod_lookup_178 ?_
          refine lv_aload_n hx hb d_Mod_lookup_181 rfl (lv_at hl 1 rfl) ?_
          refine m_gi (v := (I1 24)) hx hb hK hown hP 24 (by decide) t_761 rfl d_Mod_lookup_182 ?_
          refine x_V (As := [.int xd, .int xb, .int (I1 23), .int (I1 24)]) (rest := []) hx hb hml hown hK (k_Mod_cut l D cA adr hi (va_up I1 20 (bi ch_9)) (cutF F (10 * d + ca) lo_9 hh_9) d cb xd xb (I1 23) (I1 24) ch_9 hxd hxb (by omega) (by omega) rfl) t_910 t_4 t_907 t_909 ts_20 yk_Mod_cut ⟨Nat.le_of_ble_eq_true rfl, Nat.le_of_ble_eq_true rfl⟩ (m_rec hK hP) hP rfl hl.1 rfl (Nat.le_of_ble_eq_true rfl) d_Mod_lookup_185 ⟨Nat.le_of_ble_eq_true rfl, Nat.le_of_ble_eq_true rfl⟩ hS (fun q h => h) (fun r H locs hq _ hS => ?_)
          obtain ⟨lo_11, hh_11, hlo_11, hhh_11, rfl, hP⟩ := hq
          obtain ⟨ch_11, hch_11⟩ : ∃ q : Bool, q = (ch_9 || decide (((cutF F (10 * d + ca) lo_9 hh_9) 18 (10 * d + cb)).toInt < (I1 23).toInt ∨ (I1 24).toInt < ((cutF F (10 * d + ca) lo_9 hh_9) 19 (10 * d + cb)).toInt)) := ⟨_, rfl⟩
          rw [← hch_11] at hP
          refine W.eq (g2 := F0 m 188 ls [.int (bi (decide (lo_11.toInt ≤ hh_11.toInt)))]) rfl ?_
          refine b_bool_eq (tgt := 195) hx hb d_Mod_lookup_188 (by decide) (fun c_12 => ?_) (fun c_12 => ?_)
          · refine lv_iconst (v := 0) hx hb d_Mod_lookup_195 (by decide) ?_
            refine W.eq (g2 := F0 m 196 ls [.int (bi false)]) rfl ?_
            refine e_z hx hb hr hlk hQ hS d_Mod_lookup_196 ?_
            refine ⟨_, _, false, ch_11, rfl, ?_, rfl, ?_, hP⟩
            · exact ((FrD.ints (fun k hk => hI1 k (by omega))).tr ((FrD.cut (by omega)).tr (FrD.cut (by omega))))
            · have g := trivial
              have g0 : bl (cutF F (10 * d + ca) lo_9 hh_9) d ca ≤ bh (cutF F (10 * d + ca) lo_9 hh_9) d ca := by rw [cutF_l, cutF_h]; exact of_decide_eq_true c_10
              have g1 : ¬ bl (cutF (cutF F (10 * d + ca) lo_9 hh_9) (10 * d + cb) lo_11 hh_11) d cb ≤ bh (cutF (cutF F (10 * d + ca) lo_9 hh_9) (10 * d + cb) lo_11 hh_11) d cb := by rw [cutF_l, cutF_h]; exact of_decide_eq_false c_12
              have hE : Ends (Sol8 (rsF F tt cnt) ca cb (bl F d) (bh F d)) 400 (I1 21).toInt (I1 22).toInt (I1 23).toInt (I1 24).toInt (I1 25).toInt (I1 26).toInt := hE1.congr (fun x y z => ⟨fun h => ⟨⟨h.1.choose, by have := h.1.choose_spec; omega, h.1.choose_spec.2⟩, h.2⟩, fun h => ⟨⟨h.1.choose, by have := h.1.choose_spec; omega, h.1.choose_spec.2⟩, h.2⟩⟩)
              have hra := hrg ca hca
              exact hull2 (far := 400) (yl := bl (cutF F (10 * d + ca) lo_9 hh_9) d) (yh := bh (cutF F (10 * d + ca) lo_9 hh_9) d) (c1 := ch_9) hca hcb hne (by omega) hE (cutF_b hn hlo_9 hhh_9) hch_9 (fun _ => ⟨cutF_b hn hlo_11 hhh_11, hch_11⟩) ⟨fun h => absurd h (by decide), fun h => absurd h.2 g1⟩
          · refine lv_iconst (v := 1) hx hb d_Mod_lookup_191 (by decide) ?_
            refine lv_goto (tgt := 196) hx hb d_Mod_lookup_192 (by decide) ?_
            refine W.eq (g2 := F0 m 196 ls [.int (bi true)]) rfl ?_
            refine e_z hx hb hr hlk hQ hS d_Mod_lookup_196 ?_
            refine ⟨_, _, true, ch_11, rfl, ?_, rfl, ?_, hP⟩
            · exact ((FrD.ints (fun k hk => hI1 k (by omega))).tr ((FrD.cut (by omega)).tr (FrD.cut (by omega))))
            · have g := trivial
              have g0 : bl (cutF F (10 * d + ca) lo_9 hh_9) d ca ≤ bh (cutF F (10 * d + ca) lo_9 hh_9) d ca := by rw [cutF_l, cutF_h]; exact of_decide_eq_true c_10
              have g1 : bl (cutF (cutF F (10 * d + ca) lo_9 hh_9) (10 * d + cb) lo_11 hh_11) d cb ≤ bh (cutF (cutF F (10 * d + ca) lo_9 hh_9) (10 * d + cb) lo_11 hh_11) d cb := by rw [cutF_l, cutF_h]; exact of_decide_eq_true c_12
              have hE : Ends (Sol8 (rsF F tt cnt) ca cb (bl F d) (bh F d)) 400 (I1 21).toInt (I1 22).toInt (I1 23).toInt (I1 24).toInt (I1 25).toInt (I1 26).toInt := hE1.congr (fun x y z => ⟨fun h => ⟨⟨h.1.choose, by have := h.1.choose_spec; omega, h.1.choose_spec.2⟩, h.2⟩, fun h => ⟨⟨h.1.choose, by have := h.1.choose_spec; omega, h.1.choose_spec.2⟩, h.2⟩⟩)
              have hra := hrg ca hca
              exact hull2 (far := 400) (yl := bl (cutF F (10 * d + ca) lo_9 hh_9) d) (yh := bh (cutF F (10 * d + ca) lo_9 hh_9) d) (c1 := ch_9) hca hcb hne (by omega) hE (cutF_b hn hlo_9 hhh_9) hch_9 (fun _ => ⟨cutF_b hn hlo_11 hhh_11, hch_11⟩) ⟨fun _ => ⟨g0, g1⟩, fun _ => rfl⟩
      · have hkl : kx < cnt := by omega
        refine lv_aload_n hx hb d_Mod_lookup_35 rfl (lv_at hl 1 rfl) ?_
        refine m_gr hx hb hK hown hP 11 (by decide) t_748 d_Mod_lookup_36 ?_
        refine lv_iload hx hb d_Mod_lookup_39 (lv_at hl 6 rfl) ?_
        refine m_ld hx hb hK hP 11 (by decide) ((10 * tt + kx)) hx6 (by omega) (show (10 * tt + kx) < 30 by omega) d_Mod_lookup_41 (fun z_13 ez_13 => ?_)
        subst ez_13
        refine lv_aload_n hx hb d_Mod_lookup_42 rfl (lv_at hl 1 rfl) ?_
        refine m_gr hx hb hK hown hP 18 (by decide) t_755 d_Mod_lookup_43 ?_
        refine lv_iload hx hb d_Mod_lookup_46 (lv_at hl 0 rfl) ?_
        refine lv_iload_n hx hb d_Mod_lookup_48 rfl (lv_at hl 3 rfl) ?_
        refine x_add hx hb d_Mod_lookup_49 tz_1 hxa (by omega) (fun z_14 tz_14 => ?_)
        refine m_ld hx hb hK hP 18 (by decide) (((10 * d) + ca)) tz_14 (by omega) (show ((10 * d) + ca) < 120 by omega) d_Mod_lookup_50 (fun z_15 ez_15 => ?_)
        subst ez_15
        refine lv_aload_n hx hb d_Mod_lookup_51 rfl (lv_at hl 1 rfl) ?_
        refine m_gr hx hb hK hown hP 19 (by decide) t_756 d_Mod_lookup_52 ?_
        refine lv_iload hx hb d_Mod_lookup_55 (lv_at hl 0 rfl) ?_
        refine lv_iload_n hx hb d_Mod_lookup_57 rfl (lv_at hl 3 rfl) ?_
        refine x_add hx hb d_Mod_lookup_58 tz_1 hxa (by omega) (fun z_16 tz_16 => ?_)
        refine m_ld hx hb hK hP 19 (by decide) (((10 * d) + ca)) tz_16 (by omega) (show ((10 * d) + ca) < 120 by omega) d_Mod_lookup_59 (fun z_17 ez_17 => ?_)
        subst ez_17
        refine r_Mod_within hx hb hml hown hK hl.1 hS ⟨Nat.le_of_ble_eq_true rfl, Nat.le_of_ble_eq_true rfl⟩ ⟨Nat.le_of_ble_eq_true rfl, Nat.le_of_ble_eq_true rfl⟩ rfl rfl rfl  d_Mod_lookup_60 (Nat.le_of_ble_eq_true rfl) (fun locs hS => ?_)
        have K_218 : ∀ (b_218_0 : Bool) (locs : List Loc), (b_218_0 = true ↔ ((decide ((F 18 ((10 * d) + ca)).toInt ≤ (F 11 (10 * tt + kx)).toInt ∧ (F 11 (10 * tt + kx)).toInt ≤ (F 19 ((10 * d) + ca)).toInt)) = true ∧ ((decide ((F 18 ((10 * d) + cb)).toInt ≤ (F 12 (10 * tt + kx)).toInt ∧ (F 12 (10 * tt + kx)).toInt ≤ (F 19 ((10 * d) + cb)).toInt)) = true ∧ (¬ (ca : Int) = (cb : Int) ∨ (F 11 (10 * tt + kx)).toInt = (F 12 (10 * tt + kx)).toInt)))) → va_S (wA mN adr) s.heap H locs → W p l e (rl 5) s m args below meth c H locs 0 0 Q (F0 m 124 ls [.int (bi b_218_0)]) := by
          intro b_218_0 locs hb_218_0 hS
          refine lv_istore (lv' := [(7, .int (bi b_218_0)), (5, .int z_1), (0, .ref (adr 0)), (1, .int xd), (2, .int xa), (3, .int xb), (4, .int xt), (6, .int x6)]) hx hb d_Mod_lookup_124 hl (by decide) rfl (fun ls hl => ?_)
          refine lv_iload hx hb d_Mod_lookup_126 (lv_at hl 0 rfl) ?_
          refine b_bool_eq (tgt := 151) hx hb d_Mod_lookup_128 (by decide) (fun c_219 => ?_) (fun c_219 => ?_)
          · have hfit : ¬ ((bl F d ca ≤ (F 11 (10 * tt + kx)).toInt ∧ (F 11 (10 * tt + kx)).toInt ≤ bh F d ca) ∧ (bl F d cb ≤ (F 12 (10 * tt + kx)).toInt ∧ (F 12 (10 * tt + kx)).toInt ≤ bh F d cb) ∧ (ca = cb → (F 11 (10 * tt + kx)).toInt = (F 12 (10 * tt + kx)).toInt)) := fun h => by have := (lk_fit hb_218_0).mpr h; rw [c_219] at this; cases this
            refine x_iinc (k := 7) (lv' := fun v_ => [(6, .int v_), (7, .int (bi b_218_0)), (5, .int z_1), (0, .ref (adr 0)), (1, .int xd), (2, .int xa), (3, .int xb), (4, .int xt)]) hx hb d_Mod_lookup_151 hl rfl hx6 (by decide) (by omega) (by decide) (fun v_ => rfl) (fun z_220 tz_220 ls hl => ?_)
            refine lv_goto (tgt := 17) hx hb d_Mod_lookup_154 (by decide) ?_
            have hE9 := lk_no (a := ca) (b := cb) (xl := bl F d) (xh := bh F d) hE1 hfit
            exact ih_4 (kx + 1) z_220 I1 _ _ _ (by omega) (by omega) (by omega) hI1 hE9 hP hS (lv_sub hl [2, 3, 4, 5, 6, 7, 0] rfl)
          · have hfit : (bl F d ca ≤ (F 11 (10 * tt + kx)).toInt ∧ (F 11 (10 * tt + kx)).toInt ≤ bh F d ca) ∧ (bl F d cb ≤ (F 12 (10 * tt + kx)).toInt ∧ (F 12 (10 * tt + kx)).toInt ≤ bh F d cb) ∧ (ca = cb → (F 11 (10 * tt + kx)).toInt = (F 12 (10 * tt + kx)).toInt) := (lk_fit hb_218_0).mp c_219
            refine lv_aload_n hx hb d_Mod_lookup_131 rfl (lv_at hl 2 rfl) ?_
            refine lv_aload_n hx hb d_Mod_lookup_132 rfl (lv_at hl 2 rfl) ?_
            refine m_gr hx hb hK hown hP 11 (by decide) t_748 d_Mod_lookup_133 ?_
            refine lv_iload hx hb d_Mod_lookup_136 (lv_at hl 7 rfl) ?_
            refine m_ld hx hb hK hP 11 (by decide) ((10 * tt + kx)) hx6 (by omega) (show (10 * tt + kx) < 30 by omega) d_Mod_lookup_138 (fun z_221 ez_221 => ?_)
            subst ez_221
            refine lv_aload_n hx hb d_Mod_lookup_139 rfl (lv_at hl 2 rfl) ?_
            refine m_gr hx hb hK hown hP 12 (by decide) t_749 d_Mod_lookup_140 ?_
            refine lv_iload hx hb d_Mod_lookup_143 (lv_at hl 7 rfl) ?_
            refine m_ld hx hb hK hP 12 (by decide) ((10 * tt + kx)) hx6 (by omega) (show (10 * tt + kx) < 30 by omega) d_Mod_lookup_145 (fun z_222 ez_222 => ?_)
            subst ez_222
            refine lv_iconst (v := 0) hx hb d_Mod_lookup_146 (by decide) ?_
            refine lv_iconst (v := 0) hx hb d_Mod_lookup_147 (by decide) ?_
            refine x_V (As := [.int (F 11 (10 * tt + kx)), .int (F 12 (10 * tt + kx)), .int (0 : Int32), .int (0 : Int32)]) (rest := []) hx hb hml hown hK (k_Mod_note l D cA adr hi I1 F (F 11 (10 * tt + kx)) (F 12 (10 * tt + kx)) (0 : Int32) (0 : Int32)) t_944 t_4 t_941 t_943 ts_27 yk_Mod_note ⟨Nat.le_of_ble_eq_true rfl, Nat.le_of_ble_eq_true rfl⟩ (m_rec hK hP) hP rfl hl.1 rfl (Nat.le_of_ble_eq_true rfl) d_Mod_lookup_148 ⟨Nat.le_of_ble_eq_true rfl, Nat.le_of_ble_eq_true rfl⟩ hS (fun q h => h) (fun r H locs hq _ hS => ?_)
            obtain ⟨I_223, rfl, hN_223, hP⟩ := hq
            have hN_223 : NoteR I1 I_223 (F 11 (10 * tt + kx)).toInt (F 12 (10 * tt + kx)).toInt 0 0 := hN_223
            refine W.eq (g2 := F0 m 151 ls []) rfl ?_
            refine x_iinc (k := 7) (lv' := fun v_ => [(6, .int v_), (7, .int (bi b_218_0)), (5, .int z_1), (0, .ref (adr 0)), (1, .int xd), (2, .int xa), (3, .int xb), (4, .int xt)]) hx hb d_Mod_lookup_151 hl rfl hx6 (by decide) (by omega) (by decide) (fun v_ => rfl) (fun z_224 tz_224 ls hl => ?_)
            refine lv_goto (tgt := 17) hx hb d_Mod_lookup_154 (by decide) ?_
            have hE9 := lk_yes (a := ca) (b := cb) (xl := bl F d) (xh := bh F d) hE1 hN_223 (hrw kx (by omega)) hfit
            exact ih_4 (kx + 1) z_224 I_223 _ _ _ (by omega) (by omega) (by omega) (fun k hk => (hN_223.1 k hk).trans (hI1 k hk)) hE9 hP hS (lv_sub hl [2, 3, 4, 5, 6, 7, 0] rfl)
        refine b_bool_eq (tgt := 123) hx hb d_Mod_lookup_63 (by decide) (fun c_225 => ?_) (fun c_225 => ?_)
        · refine lv_iconst (v := 0) hx hb d_Mod_lookup_123 (by decide) ?_
          exact K_218 false locs ⟨fun h => absurd h (by decide), fun h => absurd h (by first | omega | (simp [c_225]; done) | (simp [c_225]; omega) | (simp only [decide_eq_true_eq, decide_eq_false_iff_not]; have hc_225 := of_decide_eq_false c_225; omega))⟩ hS
        · refine lv_aload_n hx hb d_Mod_lookup_66 rfl (lv_at hl 1 rfl) ?_
          refine m_gr hx hb hK hown hP 12 (by decide) t_749 d_Mod_lookup_67 ?_
          refine lv_iload hx hb d_Mod_lookup_70 (lv_at hl 6 rfl) ?_
          refine m_ld hx hb hK hP 12 (by decide) ((10 * tt + kx)) hx6 (by omega) (show (10 * tt + kx) < 30 by omega) d_Mod_lookup_72 (fun z_226 ez_226 => ?_)
          subst ez_226
          refine lv_aload_n hx hb d_Mod_lookup_73 rfl (lv_at hl 1 rfl) ?_
          refine m_gr hx hb hK hown hP 18 (by decide) t_755 d_Mod_lookup_74 ?_
          refine lv_iload hx hb d_Mod_lookup_77 (lv_at hl 0 rfl) ?_
          refine lv_iload_n hx hb d_Mod_lookup_79 rfl (lv_at hl 4 rfl) ?_
          refine x_add hx hb d_Mod_lookup_80 tz_1 hxb (by omega) (fun z_227 tz_227 => ?_)
          refine m_ld hx hb hK hP 18 (by decide) (((10 * d) + cb)) tz_227 (by omega) (show ((10 * d) + cb) < 120 by omega) d_Mod_lookup_81 (fun z_228 ez_228 => ?_)
          subst ez_228
          refine lv_aload_n hx hb d_Mod_lookup_82 rfl (lv_at hl 1 rfl) ?_
          refine m_gr hx hb hK hown hP 19 (by decide) t_756 d_Mod_lookup_83 ?_
          refine lv_iload hx hb d_Mod_lookup_86 (lv_at hl 0 rfl) ?_
          refine lv_iload_n hx hb d_Mod_lookup_88 rfl (lv_at hl 4 rfl) ?_
          refine x_add hx hb d_Mod_lookup_89 tz_1 hxb (by omega) (fun z_229 tz_229 => ?_)
          refine m_ld hx hb hK hP 19 (by decide) (((10 * d) + cb)) tz_229 (by omega) (show ((10 * d) + cb) < 120 by omega) d_Mod_lookup_90 (fun z_230 ez_230 => ?_)
          subst ez_230
          refine r_Mod_within hx hb hml hown hK hl.1 hS ⟨Nat.le_of_ble_eq_true rfl, Nat.le_of_ble_eq_true rfl⟩ ⟨Nat.le_of_ble_eq_true rfl, Nat.le_of_ble_eq_true rfl⟩ rfl rfl rfl  d_Mod_lookup_91 (Nat.le_of_ble_eq_true rfl) (fun locs hS => ?_)
          refine b_bool_eq (tgt := 123) hx hb d_Mod_lookup_94 (by decide) (fun c_231 => ?_) (fun c_231 => ?_)
          · refine lv_iconst (v := 0) hx hb d_Mod_lookup_123 (by decide) ?_
            exact K_218 false locs ⟨fun h => absurd h (by decide), fun h => absurd h (by first | omega | (simp [c_225, c_231]; done) | (simp [c_225, c_231]; omega) | (simp only [decide_eq_true_eq, decide_eq_false_iff_not]; have hc_225 := of_decide_eq_true c_225; have hc_231 := of_decide_eq_false c_231; omega))⟩ hS
          · refine lv_iload_n hx hb d_Mod_lookup_97 rfl (lv_at hl 3 rfl) ?_
            refine lv_iload_n hx hb d_Mod_lookup_98 rfl (lv_at hl 4 rfl) ?_
            refine b_icmp_ne (tgt := 119) hx hb d_Mod_lookup_99 (by decide) hxa hxb (fun c_232 => ?_) (fun c_232 => ?_)
            · refine lv_iconst (v := 1) hx hb d_Mod_lookup_119 (by decide) ?_
              refine lv_goto (tgt := 124) hx hb d_Mod_lookup_120 (by decide) ?_
              exact K_218 true locs ⟨fun _ => by first | omega | (simp [c_225, c_231, c_232]; done) | (simp [c_225, c_231, c_232]; omega) | (simp only [decide_eq_true_eq, decide_eq_false_iff_not]; have hc_225 := of_decide_eq_true c_225; have hc_231 := of_decide_eq_true c_231; omega), fun _ => rfl⟩ hS
            · refine lv_aload_n hx hb d_Mod_lookup_102 rfl (lv_at hl 1 rfl) ?_
              refine m_gr hx hb hK hown hP 11 (by decide) t_748 d_Mod_lookup_103 ?_
              refine lv_iload hx hb d_Mod_lookup_106 (lv_at hl 6 rfl) ?_
              refine m_ld hx hb hK hP 11 (by decide) ((10 * tt + kx)) hx6 (by omega) (show (10 * tt + kx) < 30 by omega) d_Mod_lookup_108 (fun z_233 ez_233 => ?_)
              subst ez_233
              refine lv_aload_n hx hb d_Mod_lookup_109 rfl (lv_at hl 1 rfl) ?_
              refine m_gr hx hb hK hown hP 12 (by decide) t_749 d_Mod_lookup_110 ?_
              refine lv_iload hx hb d_Mod_lookup_113 (lv_at hl 6 rfl) ?_
              refine m_ld hx hb hK hP 12 (by decide) ((10 * tt + kx)) hx6 (by omega) (show (10 * tt + kx) < 30 by omega) d_Mod_lookup_115 (fun z_234 ez_234 => ?_)
              subst ez_234
              refine b_icmp_ne (tgt := 123) hx hb d_Mod_lookup_116 (by decide) rfl rfl (fun c_235 => ?_) (fun c_235 => ?_)
              · refine lv_iconst (v := 0) hx hb d_Mod_lookup_123 (by decide) ?_
                exact K_218 false locs ⟨fun h => absurd h (by decide), fun h => absurd h (by first | omega | (simp [c_225, c_231, c_232, c_235]; done) | (simp [c_225, c_231, c_232, c_235]; omega) | (simp only [decide_eq_true_eq, decide_eq_false_iff_not]; have hc_225 := of_decide_eq_true c_225; have hc_231 := of_decide_eq_true c_231; omega))⟩ hS
              · refine lv_iconst (v := 1) hx hb d_Mod_lookup_119 (by decide) ?_
                refine lv_goto (tgt := 124) hx hb d_Mod_lookup_120 (by decide) ?_
                exact K_218 true locs ⟨fun _ => by first | omega | (simp [c_225, c_231, c_232, c_235]; done) | (simp [c_225, c_231, c_232, c_235]; omega) | (simp only [decide_eq_true_eq, decide_eq_false_iff_not]; have hc_225 := of_decide_eq_true c_225; have hc_231 := of_decide_eq_true c_231; omega), fun _ => rfl⟩ hS
  exact L_4 (_ + 1) 0 z_3 I_2 _ _ _ (Nat.lt_succ_self _) (by omega) (by have := tz_3; omega) (fun k hk => hI_2 k hk) (hE_2 _ (fun x y z h => by have := h.1.choose_spec.1; omega)) hP hS (lv_sub hl [1, 2, 3, 4, 5, 6, 0] rfl)
