def rsP (cnt : Nat) (fx fy : Nat → Int32) (x y : Int) : Prop := ∃ k, k < cnt ∧ x = (fx k).toInt ∧ y = (fy k).toInt
/-- rows at three names -/
def RP (cA : Nat → ClassId) (adr : Nat → Nat) (cn : Nat → va_E) (w : Nat) (fx fy : Nat → Int32) (xc : Int32) : Prop := cn w = .inr (3, [.ref (adr (w + 1)), .ref (adr (w + 2)), .int xc]) ∧ cn (w + 1) = .inl (cA 0, 10, .inl fx) ∧ cn (w + 2) = .inl (cA 0, 10, .inl fy)
def FitP (ca cb : Nat) (xl xh : Nat → Int) (x y : Int) : Prop := (xl ca ≤ x ∧ x ≤ xh ca) ∧ (xl cb ≤ y ∧ y ≤ xh cb) ∧ (ca = cb → x = y)
/-- the ends of rows that fit, so far -/
def E4 (cnt : Nat) (fx fy : Nat → Int32) (ca cb : Nat) (xl xh : Nat → Int) (a b c d : Int) : Prop := ∃ p q : Int, Ends (Sol8 (rsP cnt fx fy) ca cb xl xh) 200 a b c d p q
theorem E4.no {cnt : Nat} {fx fy : Nat → Int32} {ca cb : Nat} {xl xh : Nat → Int} {a b c d : Int} (h : E4 cnt fx fy ca cb xl xh a b c d) (hf : ¬ FitP ca cb xl xh (fx cnt).toInt (fy cnt).toInt) : E4 (cnt + 1) fx fy ca cb xl xh a b c d := by
  obtain ⟨p, q, h⟩ := h
  refine ⟨p, q, h.congr (fun x y z => ⟨fun ⟨⟨k, hk, e⟩, h2⟩ => ⟨⟨k, by omega, e⟩, h2⟩, fun ⟨⟨k, hk, e1, e2⟩, h2, h3, h4, h5⟩ => ⟨⟨k, ?_, e1, e2⟩, h2, h3, h4, h5⟩⟩)⟩
  rcases (by omega : k < cnt ∨ k = cnt) with z | z
  · exact z
  · subst z; subst e1; subst e2; exact absurd ⟨h2, h3, h4⟩ hf
theorem E4.yes {cnt : Nat} {fx fy : Nat → Int32} {ca cb : Nat} {xl xh : Nat → Int} {a b c d : Int} (h : E4 cnt fx fy ca cb xl xh a b c d) (hf : FitP ca cb xl xh (fx cnt).toInt (fy cnt).toInt) (hr : (-100 ≤ (fx cnt).toInt ∧ (fx cnt).toInt ≤ 100) ∧ (-100 ≤ (fy cnt).toInt ∧ (fy cnt).toInt ≤ 100)) : E4 (cnt + 1) fx fy ca cb xl xh (min a (fx cnt).toInt) (max b (fx cnt).toInt) (min c (fy cnt).toInt) (max d (fy cnt).toInt) := by
  obtain ⟨p, q, h⟩ := h
  refine ⟨_, _, (h.add (x := (fx cnt).toInt) (fb := (fy cnt).toInt) (tb := (fy cnt).toInt) (fc := 0) (tc := 0) (T := fun x y z => x = (fx cnt).toInt ∧ y = (fy cnt).toInt ∧ z = 0) (by omega) (fun a y z hT => by omega) (by omega) ⟨0, rfl, rfl, rfl⟩ ⟨0, rfl, rfl, rfl⟩ ⟨_, rfl, rfl, rfl⟩ ⟨_, rfl, rfl, rfl⟩).congr (fun x y z => ⟨?_, ?_⟩)⟩
  · rintro (⟨⟨k, hk, e⟩, h2⟩ | ⟨rfl, rfl, q1⟩)
    · exact ⟨⟨k, by omega, e⟩, h2⟩
    · exact ⟨⟨cnt, by omega, rfl, rfl⟩, hf.1, hf.2.1, hf.2.2, q1⟩
  · rintro ⟨⟨k, hk, e1, e2⟩, h2, h3, h4, h5⟩
    rcases (by omega : k < cnt ∨ k = cnt) with z | z
    · exact Or.inl ⟨⟨k, z, e1, e2⟩, h2, h3, h4, h5⟩
    · subst z; exact Or.inr ⟨e1, e2, h5⟩
theorem d_AtMost_narrow_0 : decode b_AtMost_narrow 0 = .ok (.aload_n 0, 1) := by decide +kernel
theorem d_AtMost_narrow_1 : decode b_AtMost_narrow 1 = .ok (.getfield 7, 3) := by decide +kernel
theorem d_AtMost_narrow_4 : decode b_AtMost_narrow 4 = .ok (.aload_n 0, 1) := by decide +kernel
theorem d_AtMost_narrow_5 : decode b_AtMost_narrow 5 = .ok (.getfield 13, 3) := by decide +kernel
theorem d_AtMost_narrow_8 : decode b_AtMost_narrow 8 = .ok (.if_icmp .ne 16, 3) := by decide +kernel
theorem d_AtMost_narrow_11 : decode b_AtMost_narrow 11 = .ok (.aload_n 0, 1) := by decide +kernel
theorem d_AtMost_narrow_12 : decode b_AtMost_narrow 12 = .ok (.getfield 16, 3) := by decide +kernel
theorem d_AtMost_narrow_15 : decode b_AtMost_narrow 15 = .ok (.ifCond .gt 7, 3) := by decide +kernel
theorem d_AtMost_narrow_18 : decode b_AtMost_narrow 18 = .ok (.iconst 1, 1) := by decide +kernel
theorem d_AtMost_narrow_19 : decode b_AtMost_narrow 19 = .ok (.goto 4, 3) := by decide +kernel
theorem d_AtMost_narrow_22 : decode b_AtMost_narrow 22 = .ok (.iconst 0, 1) := by decide +kernel
theorem d_AtMost_narrow_23 : decode b_AtMost_narrow 23 = .ok (.ireturn, 1) := by decide +kernel
theorem d_AtMost_narrow_24 : decode b_AtMost_narrow 24 = .ok (.aload_n 1, 1) := by decide +kernel
theorem d_AtMost_narrow_25 : decode b_AtMost_narrow 25 = .ok (.aload_n 0, 1) := by decide +kernel
theorem d_AtMost_narrow_26 : decode b_AtMost_narrow 26 = .ok (.getfield 7, 3) := by decide +kernel
theorem d_AtMost_narrow_29 : decode b_AtMost_narrow 29 = .ok (.aload_n 1, 1) := by decide +kernel
theorem d_AtMost_narrow_30 : decode b_AtMost_narrow 30 = .ok (.getfield 25, 3) := by decide +kernel
theorem d_AtMost_narrow_33 : decode b_AtMost_narrow 33 = .ok (.aload_n 0, 1) := by decide +kernel
theorem d_AtMost_narrow_34 : decode b_AtMost_narrow 34 = .ok (.getfield 7, 3) := by decide +kernel
theorem d_AtMost_narrow_37 : decode b_AtMost_narrow 37 = .ok (.iaload, 1) := by decide +kernel
theorem d_AtMost_narrow_38 : decode b_AtMost_narrow 38 = .ok (.aload_n 1, 1) := by decide +kernel
theorem d_AtMost_narrow_39 : decode b_AtMost_narrow 39 = .ok (.getfield 31, 3) := by decide +kernel
theorem d_AtMost_narrow_42 : decode b_AtMost_narrow 42 = .ok (.aload_n 0, 1) := by decide +kernel
theorem d_AtMost_narrow_43 : decode b_AtMost_narrow 43 = .ok (.getfield 13, 3) := by decide +kernel
theorem d_AtMost_narrow_46 : decode b_AtMost_narrow 46 = .ok (.iaload, 1) := by decide +kernel
theorem d_AtMost_narrow_47 : decode b_AtMost_narrow 47 = .ok (.aload_n 0, 1) := by decide +kernel
theorem d_AtMost_narrow_48 : decode b_AtMost_narrow 48 = .ok (.getfield 16, 3) := by decide +kernel
theorem d_AtMost_narrow_51 : decode b_AtMost_narrow 51 = .ok (.isub, 1) := by decide +kernel
theorem d_AtMost_narrow_52 : decode b_AtMost_narrow 52 = .ok (.invokevirtual 34, 3) := by decide +kernel
theorem d_AtMost_narrow_55 : decode b_AtMost_narrow 55 = .ok (.ifCond .eq 41, 3) := by decide +kernel
theorem d_AtMost_narrow_58 : decode b_AtMost_narrow 58 = .ok (.aload_n 1, 1) := by decide +kernel
theorem d_AtMost_narrow_59 : decode b_AtMost_narrow 59 = .ok (.aload_n 0, 1) := by decide +kernel
theorem d_AtMost_narrow_60 : decode b_AtMost_narrow 60 = .ok (.getfield 13, 3) := by decide +kernel
theorem d_AtMost_narrow_63 : decode b_AtMost_narrow 63 = .ok (.aload_n 1, 1) := by decide +kernel
theorem d_AtMost_narrow_64 : decode b_AtMost_narrow 64 = .ok (.getfield 25, 3) := by decide +kernel
theorem d_AtMost_narrow_67 : decode b_AtMost_narrow 67 = .ok (.aload_n 0, 1) := by decide +kernel
theorem d_AtMost_narrow_68 : decode b_AtMost_narrow 68 = .ok (.getfield 7, 3) := by decide +kernel
theorem d_AtMost_narrow_71 : decode b_AtMost_narrow 71 = .ok (.iaload, 1) := by decide +kernel
theorem d_AtMost_narrow_72 : decode b_AtMost_narrow 72 = .ok (.aload_n 0, 1) := by decide +kernel
theorem d_AtMost_narrow_73 : decode b_AtMost_narrow 73 = .ok (.getfield 16, 3) := by decide +kernel
theorem d_AtMost_narrow_76 : decode b_AtMost_narrow 76 = .ok (.iadd, 1) := by decide +kernel
theorem d_AtMost_narrow_77 : decode b_AtMost_narrow 77 = .ok (.aload_n 1, 1) := by decide +kernel
theorem d_AtMost_narrow_78 : decode b_AtMost_narrow 78 = .ok (.getfield 31, 3) := by decide +kernel
theorem d_AtMost_narrow_81 : decode b_AtMost_narrow 81 = .ok (.aload_n 0, 1) := by decide +kernel
theorem d_AtMost_narrow_82 : decode b_AtMost_narrow 82 = .ok (.getfield 13, 3) := by decide +kernel
theorem d_AtMost_narrow_85 : decode b_AtMost_narrow 85 = .ok (.iaload, 1) := by decide +kernel
theorem d_AtMost_narrow_86 : decode b_AtMost_narrow 86 = .ok (.invokevirtual 34, 3) := by decide +kernel
theorem d_AtMost_narrow_89 : decode b_AtMost_narrow 89 = .ok (.ifCond .eq 7, 3) := by decide +kernel
theorem d_AtMost_narrow_92 : decode b_AtMost_narrow 92 = .ok (.iconst 1, 1) := by decide +kernel
theorem d_AtMost_narrow_93 : decode b_AtMost_narrow 93 = .ok (.goto 4, 3) := by decide +kernel
theorem d_AtMost_narrow_96 : decode b_AtMost_narrow 96 = .ok (.iconst 0, 1) := by decide +kernel
theorem d_AtMost_narrow_97 : decode b_AtMost_narrow 97 = .ok (.ireturn, 1) := by decide +kernel
set_option maxHeartbeats 4000000 in
set_option maxRecDepth 20000 in
theorem k_AtMost_narrow (l : Launch) (D : va_G) (cA : Nat → ClassId) (adr : Nat → Nat) (N : List Nat) (hi : wI N adr) (cn : Nat → va_E) (t : Nat) (xa xb xm : Int32) (gd : Bool) (hT : cn t = .inr (4, [.int xa, .int xb, .int xm, .int (bi gd)])) (hN : t ∈ N) (b : Nat) (f g : Nat → Int32) (ch : Bool) (hB : BP cA adr cn b f g ch) (hMb : BM N b) (hdt : t ≠ b ∧ t ≠ b + 1 ∧ t ≠ b + 2) (nn : Nat) (hn10 : nn ≤ 10) (hne : Ne nn (tI f) (tI g)) (hrg : ∀ k, k < nn → -100 ≤ tI f k ∧ tI g k ≤ 100) (ca cb : Nat) (hxa : xa.toInt = (ca : Int)) (hxb : xb.toInt = (cb : Int)) (hxm : -200 ≤ xm.toInt ∧ xm.toInt ≤ 200) (hca : ca < nn) (hcb : cb < nn) : Ct l y_AtMost_narrow b_AtMost_narrow 2 (some .boolean) 5 D cA [.ref (adr t), .ref (adr b)] (fun H => va_P D classes (wl N adr cn) H) (fun r H => ∃ (cn2 : Nat → va_E) (f2 g2 : Nat → Int32) (q c2 : Bool), r = some (.int (bi q)) ∧ FrB b cn cn2 ∧ BP cA adr cn2 b f2 g2 c2 ∧ NOK nn (Fx5 ca cb xm.toInt) (tI f) (tI g) q (tI f2) (tI g2) ch c2 ∧ va_P D classes (wl N adr cn2) H) (wA N adr) := by
  refine Ct.mk (by decide) (Nat.le_of_ble_eq_true rfl) ?_
  intro p e s m args below meth c Q H locs ls hx hb hr hml hlk hown hin hK hQ hS hP hl
  have hl : lv_has ls 2 [(0, .ref (adr t)), (1, .ref (adr b))] := hl
  have hown : s.vm.findClass "RangeSheet$AtMost" = some m.cls := hown
  have hra := hrg ca hca; have hrb := hrg cb hcb; have hna := hne ca hca; have hnb := hne cb hcb; unfold tI at hra hrb hna hnb
  refine lv_aload_n hx hb d_AtMost_narrow_0 rfl (lv_at hl 0 rfl) ?_
  refine w_gf hx hb hK i_AtMost hown hP hN hT rfl 0 (by decide) t_617 rfl rfl d_AtMost_narrow_1 ?_
  refine lv_aload_n hx hb d_AtMost_narrow_4 rfl (lv_at hl 0 rfl) ?_
  refine w_gf hx hb hK i_AtMost hown hP hN hT rfl 1 (by decide) t_618 rfl rfl d_AtMost_narrow_5 ?_
  refine b_icmp_ne (tgt := 24) hx hb d_AtMost_narrow_8 (by decide) hxa hxb (fun c_1 => ?_) (fun c_1 => ?_)
  · have hab : ca ≠ cb := by omega
    refine lv_aload_n hx hb d_AtMost_narrow_24 rfl (lv_at hl 1 rfl) ?_
    refine lv_aload_n hx hb d_AtMost_narrow_25 rfl (lv_at hl 0 rfl) ?_
    refine w_gf hx hb hK i_AtMost hown hP hN hT rfl 0 (by decide) t_617 rfl rfl d_AtMost_narrow_26 ?_
    refine lv_aload_n hx hb d_AtMost_narrow_29 rfl (lv_at hl 1 rfl) ?_
    refine w_gfN hx hb hK i_Box hown hP hMb.1 hB.1 rfl 0 (by decide) t_39 rfl rfl d_AtMost_narrow_30 ?_
    refine lv_aload_n hx hb d_AtMost_narrow_33 rfl (lv_at hl 0 rfl) ?_
    refine w_gf hx hb hK i_AtMost hown hP hN hT rfl 0 (by decide) t_617 rfl rfl d_AtMost_narrow_34 ?_
    refine w_ld hx hb hK hP hMb.2.1 hB.2.1 (ca) hxa (by omega) (show ca < 10 by omega) d_AtMost_narrow_37 (fun z_2 ez_2 => ?_)
    subst ez_2
    refine lv_aload_n hx hb d_AtMost_narrow_38 rfl (lv_at hl 1 rfl) ?_
    refine w_gfN hx hb hK i_Box hown hP hMb.1 hB.1 rfl 1 (by decide) t_45 rfl rfl d_AtMost_narrow_39 ?_
    refine lv_aload_n hx hb d_AtMost_narrow_42 rfl (lv_at hl 0 rfl) ?_
    refine w_gf hx hb hK i_AtMost hown hP hN hT rfl 1 (by decide) t_618 rfl rfl d_AtMost_narrow_43 ?_
    refine w_ld hx hb hK hP hMb.2.2 hB.2.2 (cb) hxb (by omega) (show cb < 10 by omega) d_AtMost_narrow_46 (fun z_3 ez_3 => ?_)
    subst ez_3
    refine lv_aload_n hx hb d_AtMost_narrow_47 rfl (lv_at hl 0 rfl) ?_
    refine w_gf hx hb hK i_AtMost hown hP hN hT rfl 2 (by decide) t_619 rfl rfl d_AtMost_narrow_48 ?_
    refine x_sub hx hb d_AtMost_narrow_51 rfl rfl (by omega) (fun z_4 tz_4 => ?_)
    refine x_V (As := [.int xa, .int (f ca), .int z_4]) (rest := []) hx hb hml hown hK (k_Box_cut l D cA adr N hi cn b f g ch ⟨hB.1, hB.2.1, hB.2.2⟩ hMb ca xa (f ca) z_4 hxa (by omega)) t_176 t_2 t_193 t_174 t_175 yk_Box_cut ⟨Nat.le_of_ble_eq_true rfl, Nat.le_of_ble_eq_true rfl⟩ (w_rec hK hP hMb.1 hB.1 rfl) hP rfl hl.1 rfl (Nat.le_of_ble_eq_true rfl) d_AtMost_narrow_52 ⟨Nat.le_of_ble_eq_true rfl, Nat.le_of_ble_eq_true rfl⟩ hS (fun q h => h) (fun r H locs hq _ hS => ?_)
    obtain ⟨cn_5, lo_5, hh_5, hlo_5, hhh_5, rfl, hFb_5, hB_5, hP⟩ := hq
    obtain ⟨ch_5, hch_5⟩ : ∃ q : Bool, q = (ch || decide ((f ca).toInt < (f ca).toInt ∨ z_4.toInt < (g ca).toInt)) := ⟨_, rfl⟩
    rw [← hch_5] at hB_5
    rw [tz_4] at hhh_5 hch_5
    have hx_5_6 : cn_5 t = .inr (4, [.int xa, .int xb, .int xm, .int (bi gd)]) := (hFb_5 t (by omega) (by omega) (by omega)).trans hT
    have hfr_5 : FrB b cn cn_5 := hFb_5
    refine W.eq (g2 := F0 m 55 ls [.int (bi (decide (lo_5.toInt ≤ hh_5.toInt)))]) rfl ?_
    refine b_bool_eq (tgt := 96) hx hb d_AtMost_narrow_55 (by decide) (fun c_7 => ?_) (fun c_7 => ?_)
    · have hc_7 := of_decide_eq_false c_7
      refine lv_iconst (v := 0) hx hb d_AtMost_narrow_96 (by decide) ?_
      refine W.eq (g2 := F0 m 97 ls [.int (bi false)]) rfl ?_
      refine e_z hx hb hr hlk hQ hS d_AtMost_narrow_97 ?_
      refine ⟨cn_5, (upd f ca lo_5), (upd g ca hh_5), false, ch_5, rfl, hfr_5, ⟨hB_5.1, hB_5.2.1, hB_5.2.2⟩, ?_, hP⟩
      have g0 : ¬ tI (upd f ca lo_5) ca ≤ tI (upd g ca hh_5) ca := by rw [tI_up, tI_up]; exact of_decide_eq_false c_7
      have th : ((upd g ca hh_5) cb).toInt = tI g cb := by have hba : ¬ cb = ca := fun h => hab h.symm; simp [upd, tI, hba]
      exact cut2 (f1 := tI f ca) (t1 := tI g cb - xm.toInt) (f2 := tI f ca + xm.toInt) (t2 := ((upd g ca hh_5) cb).toInt) (yl := tI (upd f ca lo_5)) (yh := tI (upd g ca hh_5)) (c1 := ch_5) hca hcb hne (tI_cut hlo_5 hhh_5) hch_5 (fun h => absurd h g0) (fun _ _ hs hn2 hf => by have a1 := hs ca hca; have a2 := hs cb hcb; have a3 := hf.2 hab; omega) (fun _ _ _ hs hn2 hf => by have a1 := hs ca hca; have a2 := hs cb hcb; have a3 := hf.2 hab; have a5 := (tI_cut hlo_5 hhh_5).sb cb hcb; have a6 := (tI_cut hlo_5 hhh_5).sb ca hca; omega) ⟨fun h => absurd h (by decide), fun h => absurd h.1 g0⟩ (fun _ q1 q2 => ⟨fun h => absurd h hab, fun _ => by omega⟩)
    · have hc_7 := of_decide_eq_true c_7
      refine lv_aload_n hx hb d_AtMost_narrow_58 rfl (lv_at hl 1 rfl) ?_
      refine lv_aload_n hx hb d_AtMost_narrow_59 rfl (lv_at hl 0 rfl) ?_
      refine w_gf hx hb hK i_AtMost hown hP hN hx_5_6 rfl 1 (by decide) t_618 rfl rfl d_AtMost_narrow_60 ?_
      refine lv_aload_n hx hb d_AtMost_narrow_63 rfl (lv_at hl 1 rfl) ?_
      refine w_gfN hx hb hK i_Box hown hP hMb.1 hB_5.1 rfl 0 (by decide) t_39 rfl rfl d_AtMost_narrow_64 ?_
      refine lv_aload_n hx hb d_AtMost_narrow_67 rfl (lv_at hl 0 rfl) ?_
      refine w_gf hx hb hK i_AtMost hown hP hN hx_5_6 rfl 0 (by decide) t_617 rfl rfl d_AtMost_narrow_68 ?_
      refine w_ld hx hb hK hP hMb.2.1 hB_5.2.1 (ca) hxa (by omega) (show ca < 10 by omega) d_AtMost_narrow_71 (fun z_8 ez_8 => ?_)
      subst ez_8
      have tl : ((upd f ca lo_5) ca).toInt = tI f ca := by rw [show ((upd f ca lo_5) ca) = lo_5 from by simp [upd], hlo_5]; unfold tI; omega
      have tl2 : -100 ≤ tI f ca ∧ tI f ca ≤ 100 := by unfold tI; omega
      refine lv_aload_n hx hb d_AtMost_narrow_72 rfl (lv_at hl 0 rfl) ?_
      refine w_gf hx hb hK i_AtMost hown hP hN hx_5_6 rfl 2 (by decide) t_619 rfl rfl d_AtMost_narrow_73 ?_
      refine x_add hx hb d_AtMost_narrow_76 tl rfl (by omega) (fun z_9 tz_9 => ?_)
      refine lv_aload_n hx hb d_AtMost_narrow_77 rfl (lv_at hl 1 rfl) ?_
      refine w_gfN hx hb hK i_Box hown hP hMb.1 hB_5.1 rfl 1 (by decide) t_45 rfl rfl d_AtMost_narrow_78 ?_
      refine lv_aload_n hx hb d_AtMost_narrow_81 rfl (lv_at hl 0 rfl) ?_
      refine w_gf hx hb hK i_AtMost hown hP hN hx_5_6 rfl 1 (by decide) t_618 rfl rfl d_AtMost_narrow_82 ?_
      refine w_ld hx hb hK hP hMb.2.2 hB_5.2.2 (cb) hxb (by omega) (show cb < 10 by omega) d_AtMost_narrow_85 (fun z_10 ez_10 => ?_)
      subst ez_10
      refine x_V (As := [.int xb, .int z_9, .int ((upd g ca hh_5) cb)]) (rest := []) hx hb hml hown hK (k_Box_cut l D cA adr N hi cn_5 b (upd f ca lo_5) (upd g ca hh_5) ch_5 ⟨hB_5.1, hB_5.2.1, hB_5.2.2⟩ hMb cb xb z_9 ((upd g ca hh_5) cb) hxb (by omega)) t_176 t_2 t_193 t_174 t_175 yk_Box_cut ⟨Nat.le_of_ble_eq_true rfl, Nat.le_of_ble_eq_true rfl⟩ (w_rec hK hP hMb.1 hB_5.1 rfl) hP rfl hl.1 rfl (Nat.le_of_ble_eq_true rfl) d_AtMost_narrow_86 ⟨Nat.le_of_ble_eq_true rfl, Nat.le_of_ble_eq_true rfl⟩ hS (fun q h => h) (fun r H locs hq _ hS => ?_)
      obtain ⟨cn_11, lo_11, hh_11, hlo_11, hhh_11, rfl, hFb_11, hB_11, hP⟩ := hq
      obtain ⟨ch_11, hch_11⟩ : ∃ q : Bool, q = (ch_5 || decide (((upd f ca lo_5) cb).toInt < z_9.toInt ∨ ((upd g ca hh_5) cb).toInt < ((upd g ca hh_5) cb).toInt)) := ⟨_, rfl⟩
      rw [← hch_11] at hB_11
      rw [tz_9] at hlo_11 hch_11
      have hx_11_12 : cn_11 t = .inr (4, [.int xa, .int xb, .int xm, .int (bi gd)]) := (hFb_11 t (by omega) (by omega) (by omega)).trans hx_5_6
      have hfr_11 : FrB b cn cn_11 := hfr_5.tr hFb_11
      refine W.eq (g2 := F0 m 89 ls [.int (bi (decide (lo_11.toInt ≤ hh_11.toInt)))]) rfl ?_
      refine b_bool_eq (tgt := 96) hx hb d_AtMost_narrow_89 (by decide) (fun c_13 => ?_) (fun c_13 => ?_)
      · have hc_13 := of_decide_eq_false c_13
        refine lv_iconst (v := 0) hx hb d_AtMost_narrow_96 (by decide) ?_
        refine W.eq (g2 := F0 m 97 ls [.int (bi false)]) rfl ?_
        refine e_z hx hb hr hlk hQ hS d_AtMost_narrow_97 ?_
        refine ⟨cn_11, (upd (upd f ca lo_5) cb lo_11), (upd (upd g ca hh_5) cb hh_11), false, ch_11, rfl, hfr_11, ⟨hB_11.1, hB_11.2.1, hB_11.2.2⟩, ?_, hP⟩
        have g0 : tI (upd f ca lo_5) ca ≤ tI (upd g ca hh_5) ca := by rw [tI_up, tI_up]; exact of_decide_eq_true c_7
        have g1 : ¬ tI (upd (upd f ca lo_5) cb lo_11) cb ≤ tI (upd (upd g ca hh_5) cb hh_11) cb := by rw [tI_up, tI_up]; exact of_decide_eq_false c_13
        have th : ((upd g ca hh_5) cb).toInt = tI g cb := by have hba : ¬ cb = ca := fun h => hab h.symm; simp [upd, tI, hba]
        exact cut2 (f1 := tI f ca) (t1 := tI g cb - xm.toInt) (f2 := tI f ca + xm.toInt) (t2 := ((upd g ca hh_5) cb).toInt) (yl := tI (upd f ca lo_5)) (yh := tI (upd g ca hh_5)) (c1 := ch_5) hca hcb hne (tI_cut hlo_5 hhh_5) hch_5 (fun _ => ⟨tI_cut hlo_11 hhh_11, hch_11⟩) (fun _ _ hs hn2 hf => by have a1 := hs ca hca; have a2 := hs cb hcb; have a3 := hf.2 hab; omega) (fun _ _ _ hs hn2 hf => by have a1 := hs ca hca; have a2 := hs cb hcb; have a3 := hf.2 hab; have a5 := (tI_cut hlo_5 hhh_5).sb cb hcb; have a6 := (tI_cut hlo_5 hhh_5).sb ca hca; omega) ⟨fun h => absurd h (by decide), fun h => absurd h.2 g1⟩ (fun _ q1 q2 => ⟨fun h => absurd h hab, fun _ => by omega⟩)
      · have hc_13 := of_decide_eq_true c_13
        refine lv_iconst (v := 1) hx hb d_AtMost_narrow_92 (by decide) ?_
        refine lv_goto (tgt := 97) hx hb d_AtMost_narrow_93 (by decide) ?_
        refine W.eq (g2 := F0 m 97 ls [.int (bi true)]) rfl ?_
        refine e_z hx hb hr hlk hQ hS d_AtMost_narrow_97 ?_
        refine ⟨cn_11, (upd (upd f ca lo_5) cb lo_11), (upd (upd g ca hh_5) cb hh_11), true, ch_11, rfl, hfr_11, ⟨hB_11.1, hB_11.2.1, hB_11.2.2⟩, ?_, hP⟩
        have g0 : tI (upd f ca lo_5) ca ≤ tI (upd g ca hh_5) ca := by rw [tI_up, tI_up]; exact of_decide_eq_true c_7
        have g1 : tI (upd (upd f ca lo_5) cb lo_11) cb ≤ tI (upd (upd g ca hh_5) cb hh_11) cb := by rw [tI_up, tI_up]; exact of_decide_eq_true c_13
        have th : ((upd g ca hh_5) cb).toInt = tI g cb := by have hba : ¬ cb = ca := fun h => hab h.symm; simp [upd, tI, hba]
        exact cut2 (f1 := tI f ca) (t1 := tI g cb - xm.toInt) (f2 := tI f ca + xm.toInt) (t2 := ((upd g ca hh_5) cb).toInt) (yl := tI (upd f ca lo_5)) (yh := tI (upd g ca hh_5)) (c1 := ch_5) hca hcb hne (tI_cut hlo_5 hhh_5) hch_5 (fun _ => ⟨tI_cut hlo_11 hhh_11, hch_11⟩) (fun _ _ hs hn2 hf => by have a1 := hs ca hca; have a2 := hs cb hcb; have a3 := hf.2 hab; omega) (fun _ _ _ hs hn2 hf => by have a1 := hs ca hca; have a2 := hs cb hcb; have a3 := hf.2 hab; have a5 := (tI_cut hlo_5 hhh_5).sb cb hcb; have a6 := (tI_cut hlo_5 hhh_5).sb ca hca; omega) ⟨fun _ => ⟨g0, g1⟩, fun _ => rfl⟩ (fun _ q1 q2 => ⟨fun h => absurd h hab, fun _ => by omega⟩)
  · refine lv_aload_n hx hb d_AtMost_narrow_11 rfl (lv_at hl 0 rfl) ?_
    refine w_gf hx hb hK i_AtMost hown hP hN hT rfl 2 (by decide) t_619 rfl rfl d_AtMost_narrow_12 ?_
    refine b_if_gt (tgt := 22) hx hb d_AtMost_narrow_15 (by decide) rfl (fun c_14 => ?_) (fun c_14 => ?_)
    · refine lv_iconst (v := 0) hx hb d_AtMost_narrow_22 (by decide) ?_
      refine W.eq (g2 := F0 m 23 ls [.int (bi false)]) rfl ?_
      refine e_z hx hb hr hlk hQ hS d_AtMost_narrow_23 ?_
      refine ⟨cn, f, g, false, ch, rfl, FrB.rf, hB, ?_, hP⟩
      have hab : ca = cb := by have := c_1; omega
      exact cutNo (fun _ _ _ _ hf => by have := hf.1 hab; omega)
    · refine lv_iconst (v := 1) hx hb d_AtMost_narrow_18 (by decide) ?_
      refine lv_goto (tgt := 23) hx hb d_AtMost_narrow_19 (by decide) ?_
      refine W.eq (g2 := F0 m 23 ls [.int (bi true)]) rfl ?_
      refine e_z hx hb hr hlk hQ hS d_AtMost_narrow_23 ?_
      refine ⟨cn, f, g, true, ch, rfl, FrB.rf, hB, ?_, hP⟩
      have hab : ca = cb := by have := c_1; omega
      exact cut0 hne ⟨fun _ => by omega, fun h => absurd hab h⟩
theorem d_Lookup_fits_0 : decode b_Lookup_fits 0 = .ok (.aload_n 0, 1) := by decide +kernel
theorem d_Lookup_fits_1 : decode b_Lookup_fits 1 = .ok (.getfield 18, 3) := by decide +kernel
theorem d_Lookup_fits_4 : decode b_Lookup_fits 4 = .ok (.getfield 33, 3) := by decide +kernel
theorem d_Lookup_fits_7 : decode b_Lookup_fits 7 = .ok (.iload_n 2, 1) := by decide +kernel
theorem d_Lookup_fits_8 : decode b_Lookup_fits 8 = .ok (.iaload, 1) := by decide +kernel
theorem d_Lookup_fits_9 : decode b_Lookup_fits 9 = .ok (.istore_n 3, 1) := by decide +kernel
theorem d_Lookup_fits_10 : decode b_Lookup_fits 10 = .ok (.aload_n 0, 1) := by decide +kernel
theorem d_Lookup_fits_11 : decode b_Lookup_fits 11 = .ok (.getfield 18, 3) := by decide +kernel
theorem d_Lookup_fits_14 : decode b_Lookup_fits 14 = .ok (.getfield 37, 3) := by decide +kernel
theorem d_Lookup_fits_17 : decode b_Lookup_fits 17 = .ok (.iload_n 2, 1) := by decide +kernel
theorem d_Lookup_fits_18 : decode b_Lookup_fits 18 = .ok (.iaload, 1) := by decide +kernel
theorem d_Lookup_fits_19 : decode b_Lookup_fits 19 = .ok (.istore 4, 2) := by decide +kernel
theorem d_Lookup_fits_21 : decode b_Lookup_fits 21 = .ok (.iload_n 3, 1) := by decide +kernel
theorem d_Lookup_fits_22 : decode b_Lookup_fits 22 = .ok (.aload_n 1, 1) := by decide +kernel
theorem d_Lookup_fits_23 : decode b_Lookup_fits 23 = .ok (.getfield 40, 3) := by decide +kernel
theorem d_Lookup_fits_26 : decode b_Lookup_fits 26 = .ok (.aload_n 0, 1) := by decide +kernel
theorem d_Lookup_fits_27 : decode b_Lookup_fits 27 = .ok (.getfield 9, 3) := by decide +kernel
theorem d_Lookup_fits_30 : decode b_Lookup_fits 30 = .ok (.iaload, 1) := by decide +kernel
theorem d_Lookup_fits_31 : decode b_Lookup_fits 31 = .ok (.if_icmp .lt 65, 3) := by decide +kernel
theorem d_Lookup_fits_34 : decode b_Lookup_fits 34 = .ok (.iload_n 3, 1) := by decide +kernel
theorem d_Lookup_fits_35 : decode b_Lookup_fits 35 = .ok (.aload_n 1, 1) := by decide +kernel
theorem d_Lookup_fits_36 : decode b_Lookup_fits 36 = .ok (.getfield 45, 3) := by decide +kernel
theorem d_Lookup_fits_39 : decode b_Lookup_fits 39 = .ok (.aload_n 0, 1) := by decide +kernel
theorem d_Lookup_fits_40 : decode b_Lookup_fits 40 = .ok (.getfield 9, 3) := by decide +kernel
theorem d_Lookup_fits_43 : decode b_Lookup_fits 43 = .ok (.iaload, 1) := by decide +kernel
theorem d_Lookup_fits_44 : decode b_Lookup_fits 44 = .ok (.if_icmp .gt 52, 3) := by decide +kernel
theorem d_Lookup_fits_47 : decode b_Lookup_fits 47 = .ok (.iload 4, 2) := by decide +kernel
theorem d_Lookup_fits_49 : decode b_Lookup_fits 49 = .ok (.aload_n 1, 1) := by decide +kernel
theorem d_Lookup_fits_50 : decode b_Lookup_fits 50 = .ok (.getfield 40, 3) := by decide +kernel
theorem d_Lookup_fits_53 : decode b_Lookup_fits 53 = .ok (.aload_n 0, 1) := by decide +kernel
theorem d_Lookup_fits_54 : decode b_Lookup_fits 54 = .ok (.getfield 15, 3) := by decide +kernel
theorem d_Lookup_fits_57 : decode b_Lookup_fits 57 = .ok (.iaload, 1) := by decide +kernel
theorem d_Lookup_fits_58 : decode b_Lookup_fits 58 = .ok (.if_icmp .lt 38, 3) := by decide +kernel
theorem d_Lookup_fits_61 : decode b_Lookup_fits 61 = .ok (.iload 4, 2) := by decide +kernel
theorem d_Lookup_fits_63 : decode b_Lookup_fits 63 = .ok (.aload_n 1, 1) := by decide +kernel
theorem d_Lookup_fits_64 : decode b_Lookup_fits 64 = .ok (.getfield 45, 3) := by decide +kernel
theorem d_Lookup_fits_67 : decode b_Lookup_fits 67 = .ok (.aload_n 0, 1) := by decide +kernel
theorem d_Lookup_fits_68 : decode b_Lookup_fits 68 = .ok (.getfield 15, 3) := by decide +kernel
theorem d_Lookup_fits_71 : decode b_Lookup_fits 71 = .ok (.iaload, 1) := by decide +kernel
theorem d_Lookup_fits_72 : decode b_Lookup_fits 72 = .ok (.if_icmp .gt 24, 3) := by decide +kernel
theorem d_Lookup_fits_75 : decode b_Lookup_fits 75 = .ok (.aload_n 0, 1) := by decide +kernel
theorem d_Lookup_fits_76 : decode b_Lookup_fits 76 = .ok (.getfield 9, 3) := by decide +kernel
theorem d_Lookup_fits_79 : decode b_Lookup_fits 79 = .ok (.aload_n 0, 1) := by decide +kernel
theorem d_Lookup_fits_80 : decode b_Lookup_fits 80 = .ok (.getfield 15, 3) := by decide +kernel
theorem d_Lookup_fits_83 : decode b_Lookup_fits 83 = .ok (.if_icmp .ne 9, 3) := by decide +kernel
theorem d_Lookup_fits_86 : decode b_Lookup_fits 86 = .ok (.iload_n 3, 1) := by decide +kernel
theorem d_Lookup_fits_87 : decode b_Lookup_fits 87 = .ok (.iload 4, 2) := by decide +kernel
theorem d_Lookup_fits_89 : decode b_Lookup_fits 89 = .ok (.if_icmp .ne 7, 3) := by decide +kernel
theorem d_Lookup_fits_92 : decode b_Lookup_fits 92 = .ok (.iconst 1, 1) := by decide +kernel
theorem d_Lookup_fits_93 : decode b_Lookup_fits 93 = .ok (.goto 4, 3) := by decide +kernel
theorem d_Lookup_fits_96 : decode b_Lookup_fits 96 = .ok (.iconst 0, 1) := by decide +kernel
theorem d_Lookup_fits_97 : decode b_Lookup_fits 97 = .ok (.ireturn, 1) := by decide +kernel
set_option maxHeartbeats 4000000 in
set_option maxRecDepth 20000 in
theorem k_Lookup_fits (l : Launch) (D : va_G) (cA : Nat → ClassId) (adr : Nat → Nat) (N : List Nat) (hi : wI N adr) (cn : Nat → va_E) (t : Nat) (xa xb : Int32) (rw : Nat) (gd : Bool) (hT : cn t = .inr (6, [.int xa, .int xb, .ref (adr rw), .int (bi gd)])) (hN : t ∈ N) (fx fy : Nat → Int32) (xn : Int32) (hR : RP cA adr cn rw fx fy xn) (hMr : BM N rw) (b : Nat) (f g : Nat → Int32) (ch : Bool) (hB : BP cA adr cn b f g ch) (hMb : BM N b) (hdt : t ≠ b ∧ t ≠ b + 1 ∧ t ≠ b + 2) (hdr : rw + 2 < b ∨ b + 2 < rw) (nn : Nat) (hn10 : nn ≤ 10) (hne : Ne nn (tI f) (tI g)) (hrg : ∀ k, k < nn → -100 ≤ tI f k ∧ tI g k ≤ 100) (ca cb cnt : Nat) (hxa : xa.toInt = (ca : Int)) (hxb : xb.toInt = (cb : Int)) (hxn : xn.toInt = (cnt : Int)) (hc10 : cnt ≤ 10) (hca : ca < nn) (hcb : cb < nn) (kx : Nat) (xk : Int32) (hxk : xk.toInt = (kx : Int)) (hk : kx < 10) : Ct l y_Lookup_fits b_Lookup_fits 5 (some .boolean) 1 D cA [.ref (adr t), .ref (adr b), .int xk] (fun H => va_P D classes (wl N adr cn) H) (fun r H => ∃ q : Bool, r = some (.int (bi q)) ∧ (q = true ↔ FitP ca cb (tI f) (tI g) (fx kx).toInt (fy kx).toInt) ∧ va_P D classes (wl N adr cn) H) (wA N adr) := by
  refine Ct.mk (by decide) (Nat.le_of_ble_eq_true rfl) ?_
  intro p e s m args below meth c Q H locs ls hx hb hr hml hlk hown hin hK hQ hS hP hl
  have hl : lv_has ls 5 [(0, .ref (adr t)), (1, .ref (adr b)), (2, .int xk)] := hl
  have hown : s.vm.findClass "RangeSheet$Lookup" = some m.cls := hown
  refine lv_aload_n hx hb d_Lookup_fits_0 rfl (lv_at hl 0 rfl) ?_
  refine w_gf hx hb hK i_Lookup hown hP hN hT rfl 2 (by decide) t_662 rfl rfl d_Lookup_fits_1 ?_
  refine w_gfN hx hb hK i_Rows hown hP hMr.1 hR.1 rfl 0 (by decide) t_70 rfl rfl d_Lookup_fits_4 ?_
  refine lv_iload_n hx hb d_Lookup_fits_7 rfl (lv_at hl 2 rfl) ?_
  refine w_ld hx hb hK hP hMr.2.1 hR.2.1 (kx) hxk (by omega) (show kx < 10 by omega) d_Lookup_fits_8 (fun z_1 ez_1 => ?_)
  subst ez_1
  refine lv_istore_n (lv' := [(3, .int (fx kx)), (0, .ref (adr t)), (1, .ref (adr b)), (2, .int xk)]) hx hb d_Lookup_fits_9 rfl hl (by decide) rfl (fun ls hl => ?_)
  refine lv_aload_n hx hb d_Lookup_fits_10 rfl (lv_at hl 1 rfl) ?_
  refine w_gf hx hb hK i_Lookup hown hP hN hT rfl 2 (by decide) t_662 rfl rfl d_Lookup_fits_11 ?_
  refine w_gfN hx hb hK i_Rows hown hP hMr.1 hR.1 rfl 1 (by decide) t_73 rfl rfl d_Lookup_fits_14 ?_
  refine lv_iload_n hx hb d_Lookup_fits_17 rfl (lv_at hl 3 rfl) ?_
  refine w_ld hx hb hK hP hMr.2.2 hR.2.2 (kx) hxk (by omega) (show kx < 10 by omega) d_Lookup_fits_18 (fun z_2 ez_2 => ?_)
  subst ez_2
  refine lv_istore (lv' := [(4, .int (fy kx)), (3, .int (fx kx)), (0, .ref (adr t)), (1, .ref (adr b)), (2, .int xk)]) hx hb d_Lookup_fits_19 hl (by decide) rfl (fun ls hl => ?_)
  refine lv_iload_n hx hb d_Lookup_fits_21 rfl (lv_at hl 1 rfl) ?_
  refine lv_aload_n hx hb d_Lookup_fits_22 rfl (lv_at hl 3 rfl) ?_
  refine w_gfN hx hb hK i_Box hown hP hMb.1 hB.1 rfl 0 (by decide) t_38 rfl rfl d_Lookup_fits_23 ?_
  refine lv_aload_n hx hb d_Lookup_fits_26 rfl (lv_at hl 2 rfl) ?_
  refine w_gf hx hb hK i_Lookup hown hP hN hT rfl 0 (by decide) t_660 rfl rfl d_Lookup_fits_27 ?_
  refine w_ld hx hb hK hP hMb.2.1 hB.2.1 (ca) hxa (by omega) (show ca < 10 by omega) d_Lookup_fits_30 (fun z_3 ez_3 => ?_)
  subst ez_3
  have K_204 : ∀ (b_204_0 : Bool), (b_204_0 = true ↔ ((f ca).toInt ≤ (fx kx).toInt ∧ ((fx kx).toInt ≤ (g ca).toInt ∧ ((f cb).toInt ≤ (fy kx).toInt ∧ ((fy kx).toInt ≤ (g cb).toInt ∧ (¬ (ca : Int) = (cb : Int) ∨ (fx kx).toInt = (fy kx).toInt)))))) → W p l e (rl 1) s m args below meth c H locs 0 0 Q (F0 m 97 ls [.int (bi b_204_0)]) := by
    intro b_204_0 hb_204_0
    refine e_z hx hb hr hlk hQ hS d_Lookup_fits_97 ?_
    refine ⟨b_204_0, rfl, ?_, hP⟩
    rw [hb_204_0]; unfold FitP tI; constructor
    · intro h; exact ⟨by omega, by omega, fun _ => by omega⟩
    · rintro ⟨h1, h2, h3⟩; by_cases e9 : ca = cb
      · have := h3 e9; omega
      · omega
  refine b_icmp_lt (tgt := 96) hx hb d_Lookup_fits_31 (by decide) rfl rfl (fun c_205 => ?_) (fun c_205 => ?_)
  · refine lv_iconst (v := 0) hx hb d_Lookup_fits_96 (by decide) ?_
    exact K_204 false ⟨fun h => absurd h (by decide), fun h => absurd h (by omega)⟩
  · refine lv_iload_n hx hb d_Lookup_fits_34 rfl (lv_at hl 1 rfl) ?_
    refine lv_aload_n hx hb d_Lookup_fits_35 rfl (lv_at hl 3 rfl) ?_
    refine w_gfN hx hb hK i_Box hown hP hMb.1 hB.1 rfl 1 (by decide) t_44 rfl rfl d_Lookup_fits_36 ?_
    refine lv_aload_n hx hb d_Lookup_fits_39 rfl (lv_at hl 2 rfl) ?_
    refine w_gf hx hb hK i_Lookup hown hP hN hT rfl 0 (by decide) t_660 rfl rfl d_Lookup_fits_40 ?_
    refine w_ld hx hb hK hP hMb.2.2 hB.2.2 (ca) hxa (by omega) (show ca < 10 by omega) d_Lookup_fits_43 (fun z_206 ez_206 => ?_)
    subst ez_206
    refine b_icmp_gt (tgt := 96) hx hb d_Lookup_fits_44 (by decide) rfl rfl (fun c_207 => ?_) (fun c_207 => ?_)
    · refine lv_iconst (v := 0) hx hb d_Lookup_fits_96 (by decide) ?_
      exact K_204 false ⟨fun h => absurd h (by decide), fun h => absurd h (by omega)⟩
    · refine lv_iload hx hb d_Lookup_fits_47 (lv_at hl 0 rfl) ?_
      refine lv_aload_n hx hb d_Lookup_fits_49 rfl (lv_at hl 3 rfl) ?_
      refine w_gfN hx hb hK i_Box hown hP hMb.1 hB.1 rfl 0 (by decide) t_38 rfl rfl d_Lookup_fits_50 ?_
      refine lv_aload_n hx hb d_Lookup_fits_53 rfl (lv_at hl 2 rfl) ?_
      refine w_gf hx hb hK i_Lookup hown hP hN hT rfl 1 (by decide) t_661 rfl rfl d_Lookup_fits_54 ?_
      refine w_ld hx hb hK hP hMb.2.1 hB.2.1 (cb) hxb (by omega) (show cb < 10 by omega) d_Lookup_fits_57 (fun z_208 ez_208 => ?_)
      subst ez_208
      refine b_icmp_lt (tgt := 96) hx hb d_Lookup_fits_58 (by decide) rfl rfl (fun c_209 => ?_) (fun c_209 => ?_)
      · refine lv_iconst (v := 0) hx hb d_Lookup_fits_96 (by decide) ?_
        exact K_204 false ⟨fun h => absurd h (by decide), fun h => absurd h (by omega)⟩
      · refine lv_iload hx hb d_Lookup_fits_61 (lv_at hl 0 rfl) ?_
        refine lv_aload_n hx hb d_Lookup_fits_63 rfl (lv_at hl 3 rfl) ?_
        refine w_gfN hx hb hK i_Box hown hP hMb.1 hB.1 rfl 1 (by decide) t_44 rfl rfl d_Lookup_fits_64 ?_
        refine lv_aload_n hx hb d_Lookup_fits_67 rfl (lv_at hl 2 rfl) ?_
        refine w_gf hx hb hK i_Lookup hown hP hN hT rfl 1 (by decide) t_661 rfl rfl d_Lookup_fits_68 ?_
        refine w_ld hx hb hK hP hMb.2.2 hB.2.2 (cb) hxb (by omega) (show cb < 10 by omega) d_Lookup_fits_71 (fun z_210 ez_210 => ?_)
        subst ez_210
        refine b_icmp_gt (tgt := 96) hx hb d_Lookup_fits_72 (by decide) rfl rfl (fun c_211 => ?_) (fun c_211 => ?_)
        · refine lv_iconst (v := 0) hx hb d_Lookup_fits_96 (by decide) ?_
          exact K_204 false ⟨fun h => absurd h (by decide), fun h => absurd h (by omega)⟩
        · refine lv_aload_n hx hb d_Lookup_fits_75 rfl (lv_at hl 2 rfl) ?_
          refine w_gf hx hb hK i_Lookup hown hP hN hT rfl 0 (by decide) t_660 rfl rfl d_Lookup_fits_76 ?_
          refine lv_aload_n hx hb d_Lookup_fits_79 rfl (lv_at hl 2 rfl) ?_
          refine w_gf hx hb hK i_Lookup hown hP hN hT rfl 1 (by decide) t_661 rfl rfl d_Lookup_fits_80 ?_
          refine b_icmp_ne (tgt := 92) hx hb d_Lookup_fits_83 (by decide) hxa hxb (fun c_212 => ?_) (fun c_212 => ?_)
          · refine lv_iconst (v := 1) hx hb d_Lookup_fits_92 (by decide) ?_
            refine lv_goto (tgt := 97) hx hb d_Lookup_fits_93 (by decide) ?_
            exact K_204 true ⟨fun _ => by omega, fun _ => rfl⟩
          · refine lv_iload_n hx hb d_Lookup_fits_86 rfl (lv_at hl 1 rfl) ?_
            refine lv_iload hx hb d_Lookup_fits_87 (lv_at hl 0 rfl) ?_
            refine b_icmp_ne (tgt := 96) hx hb d_Lookup_fits_89 (by decide) rfl rfl (fun c_213 => ?_) (fun c_213 => ?_)
            · refine lv_iconst (v := 0) hx hb d_Lookup_fits_96 (by decide) ?_
              exact K_204 false ⟨fun h => absurd h (by decide), fun h => absurd h (by omega)⟩
            · refine lv_iconst (v := 1) hx hb d_Lookup_fits_92 (by decide) ?_
              refine lv_goto (tgt := 97) hx hb d_Lookup_fits_93 (by decide) ?_
              exact K_204 true ⟨fun _ => by omega, fun _ => rfl⟩
theorem d_Lookup_narrow_0 : decode b_Lookup_narrow 0 = .ok (.sipush 200, 3) := by decide +kernel
theorem d_Lookup_narrow_3 : decode b_Lookup_narrow 3 = .ok (.istore_n 2, 1) := by decide +kernel
theorem d_Lookup_narrow_4 : decode b_Lookup_narrow 4 = .ok (.sipush (-200), 3) := by decide +kernel
theorem d_Lookup_narrow_7 : decode b_Lookup_narrow 7 = .ok (.istore_n 3, 1) := by decide +kernel
theorem d_Lookup_narrow_8 : decode b_Lookup_narrow 8 = .ok (.sipush 200, 3) := by decide +kernel
theorem d_Lookup_narrow_11 : decode b_Lookup_narrow 11 = .ok (.istore 4, 2) := by decide +kernel
theorem d_Lookup_narrow_13 : decode b_Lookup_narrow 13 = .ok (.sipush (-200), 3) := by decide +kernel
theorem d_Lookup_narrow_16 : decode b_Lookup_narrow 16 = .ok (.istore 5, 2) := by decide +kernel
theorem d_Lookup_narrow_18 : decode b_Lookup_narrow 18 = .ok (.iconst 0, 1) := by decide +kernel
theorem d_Lookup_narrow_19 : decode b_Lookup_narrow 19 = .ok (.istore 6, 2) := by decide +kernel
theorem d_Lookup_narrow_21 : decode b_Lookup_narrow 21 = .ok (.iload 6, 2) := by decide +kernel
theorem d_Lookup_narrow_23 : decode b_Lookup_narrow 23 = .ok (.aload_n 0, 1) := by decide +kernel
theorem d_Lookup_narrow_24 : decode b_Lookup_narrow 24 = .ok (.getfield 18, 3) := by decide +kernel
theorem d_Lookup_narrow_27 : decode b_Lookup_narrow 27 = .ok (.getfield 28, 3) := by decide +kernel
theorem d_Lookup_narrow_30 : decode b_Lookup_narrow 30 = .ok (.if_icmp .ge 86, 3) := by decide +kernel
theorem d_Lookup_narrow_33 : decode b_Lookup_narrow 33 = .ok (.aload_n 0, 1) := by decide +kernel
theorem d_Lookup_narrow_34 : decode b_Lookup_narrow 34 = .ok (.aload_n 1, 1) := by decide +kernel
theorem d_Lookup_narrow_35 : decode b_Lookup_narrow 35 = .ok (.iload 6, 2) := by decide +kernel
theorem d_Lookup_narrow_37 : decode b_Lookup_narrow 37 = .ok (.invokevirtual 48, 3) := by decide +kernel
theorem d_Lookup_narrow_40 : decode b_Lookup_narrow 40 = .ok (.ifCond .ne 6, 3) := by decide +kernel
theorem d_Lookup_narrow_43 : decode b_Lookup_narrow 43 = .ok (.goto 67, 3) := by decide +kernel
theorem d_Lookup_narrow_46 : decode b_Lookup_narrow 46 = .ok (.iload_n 2, 1) := by decide +kernel
theorem d_Lookup_narrow_47 : decode b_Lookup_narrow 47 = .ok (.aload_n 0, 1) := by decide +kernel
theorem d_Lookup_narrow_48 : decode b_Lookup_narrow 48 = .ok (.getfield 18, 3) := by decide +kernel
theorem d_Lookup_narrow_51 : decode b_Lookup_narrow 51 = .ok (.getfield 33, 3) := by decide +kernel
theorem d_Lookup_narrow_54 : decode b_Lookup_narrow 54 = .ok (.iload 6, 2) := by decide +kernel
theorem d_Lookup_narrow_56 : decode b_Lookup_narrow 56 = .ok (.iaload, 1) := by decide +kernel
theorem d_Lookup_narrow_57 : decode b_Lookup_narrow 57 = .ok (.invokestatic 52, 3) := by decide +kernel
theorem d_Lookup_narrow_60 : decode b_Lookup_narrow 60 = .ok (.istore_n 2, 1) := by decide +kernel
theorem d_Lookup_narrow_61 : decode b_Lookup_narrow 61 = .ok (.iload_n 3, 1) := by decide +kernel
theorem d_Lookup_narrow_62 : decode b_Lookup_narrow 62 = .ok (.aload_n 0, 1) := by decide +kernel
theorem d_Lookup_narrow_63 : decode b_Lookup_narrow 63 = .ok (.getfield 18, 3) := by decide +kernel
theorem d_Lookup_narrow_66 : decode b_Lookup_narrow 66 = .ok (.getfield 33, 3) := by decide +kernel
theorem d_Lookup_narrow_69 : decode b_Lookup_narrow 69 = .ok (.iload 6, 2) := by decide +kernel
theorem d_Lookup_narrow_71 : decode b_Lookup_narrow 71 = .ok (.iaload, 1) := by decide +kernel
theorem d_Lookup_narrow_72 : decode b_Lookup_narrow 72 = .ok (.invokestatic 22, 3) := by decide +kernel
theorem d_Lookup_narrow_75 : decode b_Lookup_narrow 75 = .ok (.istore_n 3, 1) := by decide +kernel
theorem d_Lookup_narrow_76 : decode b_Lookup_narrow 76 = .ok (.iload 4, 2) := by decide +kernel
theorem d_Lookup_narrow_78 : decode b_Lookup_narrow 78 = .ok (.aload_n 0, 1) := by decide +kernel
theorem d_Lookup_narrow_79 : decode b_Lookup_narrow 79 = .ok (.getfield 18, 3) := by decide +kernel
theorem d_Lookup_narrow_82 : decode b_Lookup_narrow 82 = .ok (.getfield 37, 3) := by decide +kernel
theorem d_Lookup_narrow_85 : decode b_Lookup_narrow 85 = .ok (.iload 6, 2) := by decide +kernel
theorem d_Lookup_narrow_87 : decode b_Lookup_narrow 87 = .ok (.iaload, 1) := by decide +kernel
theorem d_Lookup_narrow_88 : decode b_Lookup_narrow 88 = .ok (.invokestatic 52, 3) := by decide +kernel
theorem d_Lookup_narrow_91 : decode b_Lookup_narrow 91 = .ok (.istore 4, 2) := by decide +kernel
theorem d_Lookup_narrow_93 : decode b_Lookup_narrow 93 = .ok (.iload 5, 2) := by decide +kernel
theorem d_Lookup_narrow_95 : decode b_Lookup_narrow 95 = .ok (.aload_n 0, 1) := by decide +kernel
theorem d_Lookup_narrow_96 : decode b_Lookup_narrow 96 = .ok (.getfield 18, 3) := by decide +kernel
theorem d_Lookup_narrow_99 : decode b_Lookup_narrow 99 = .ok (.getfield 37, 3) := by decide +kernel
theorem d_Lookup_narrow_102 : decode b_Lookup_narrow 102 = .ok (.iload 6, 2) := by decide +kernel
theorem d_Lookup_narrow_104 : decode b_Lookup_narrow 104 = .ok (.iaload, 1) := by decide +kernel
theorem d_Lookup_narrow_105 : decode b_Lookup_narrow 105 = .ok (.invokestatic 22, 3) := by decide +kernel
theorem d_Lookup_narrow_108 : decode b_Lookup_narrow 108 = .ok (.istore 5, 2) := by decide +kernel
theorem d_Lookup_narrow_110 : decode b_Lookup_narrow 110 = .ok (.iinc 6 1, 3) := by decide +kernel
theorem d_Lookup_narrow_113 : decode b_Lookup_narrow 113 = .ok (.goto (-92), 3) := by decide +kernel
theorem d_Lookup_narrow_116 : decode b_Lookup_narrow 116 = .ok (.aload_n 1, 1) := by decide +kernel
theorem d_Lookup_narrow_117 : decode b_Lookup_narrow 117 = .ok (.aload_n 0, 1) := by decide +kernel
theorem d_Lookup_narrow_118 : decode b_Lookup_narrow 118 = .ok (.getfield 9, 3) := by decide +kernel
theorem d_Lookup_narrow_121 : decode b_Lookup_narrow 121 = .ok (.iload_n 2, 1) := by decide +kernel
theorem d_Lookup_narrow_122 : decode b_Lookup_narrow 122 = .ok (.iload_n 3, 1) := by decide +kernel
theorem d_Lookup_narrow_123 : decode b_Lookup_narrow 123 = .ok (.invokevirtual 55, 3) := by decide +kernel
theorem d_Lookup_narrow_126 : decode b_Lookup_narrow 126 = .ok (.ifCond .eq 22, 3) := by decide +kernel
theorem d_Lookup_narrow_129 : decode b_Lookup_narrow 129 = .ok (.aload_n 1, 1) := by decide +kernel
theorem d_Lookup_narrow_130 : decode b_Lookup_narrow 130 = .ok (.aload_n 0, 1) := by decide +kernel
theorem d_Lookup_narrow_131 : decode b_Lookup_narrow 131 = .ok (.getfield 15, 3) := by decide +kernel
theorem d_Lookup_narrow_134 : decode b_Lookup_narrow 134 = .ok (.iload 4, 2) := by decide +kernel
theorem d_Lookup_narrow_136 : decode b_Lookup_narrow 136 = .ok (.iload 5, 2) := by decide +kernel
theorem d_Lookup_narrow_138 : decode b_Lookup_narrow 138 = .ok (.invokevirtual 55, 3) := by decide +kernel
theorem d_Lookup_narrow_141 : decode b_Lookup_narrow 141 = .ok (.ifCond .eq 7, 3) := by decide +kernel
theorem d_Lookup_narrow_144 : decode b_Lookup_narrow 144 = .ok (.iconst 1, 1) := by decide +kernel
theorem d_Lookup_narrow_145 : decode b_Lookup_narrow 145 = .ok (.goto 4, 3) := by decide +kernel
theorem d_Lookup_narrow_148 : decode b_Lookup_narrow 148 = .ok (.iconst 0, 1) := by decide +kernel
theorem d_Lookup_narrow_149 : decode b_Lookup_narrow 149 = .ok (.ireturn, 1) := by decide +kernel
set_option maxHeartbeats 4000000 in
set_option maxRecDepth 20000 in
theorem k_Lookup_narrow (l : Launch) (D : va_G) (cA : Nat → ClassId) (adr : Nat → Nat) (N : List Nat) (hi : wI N adr) (cn : Nat → va_E) (t : Nat) (xa xb : Int32) (rw : Nat) (gd : Bool) (hT : cn t = .inr (6, [.int xa, .int xb, .ref (adr rw), .int (bi gd)])) (hN : t ∈ N) (fx fy : Nat → Int32) (xn : Int32) (hR : RP cA adr cn rw fx fy xn) (hMr : BM N rw) (b : Nat) (f g : Nat → Int32) (ch : Bool) (hB : BP cA adr cn b f g ch) (hMb : BM N b) (hdt : t ≠ b ∧ t ≠ b + 1 ∧ t ≠ b + 2) (hdr : rw + 2 < b ∨ b + 2 < rw) (nn : Nat) (hn10 : nn ≤ 10) (hne : Ne nn (tI f) (tI g)) (hrg : ∀ k, k < nn → -100 ≤ tI f k ∧ tI g k ≤ 100) (ca cb cnt : Nat) (hxa : xa.toInt = (ca : Int)) (hxb : xb.toInt = (cb : Int)) (hxn : xn.toInt = (cnt : Int)) (hc10 : cnt ≤ 10) (hca : ca < nn) (hcb : cb < nn) (hrr : ∀ k, k < cnt → (-100 ≤ (fx k).toInt ∧ (fx k).toInt ≤ 100) ∧ (-100 ≤ (fy k).toInt ∧ (fy k).toInt ≤ 100)) : Ct l y_Lookup_narrow b_Lookup_narrow 7 (some .boolean) 5 D cA [.ref (adr t), .ref (adr b)] (fun H => va_P D classes (wl N adr cn) H) (fun r H => ∃ (cn2 : Nat → va_E) (f2 g2 : Nat → Int32) (q c2 : Bool), r = some (.int (bi q)) ∧ FrB b cn cn2 ∧ BP cA adr cn2 b f2 g2 c2 ∧ NOK nn (Fx8 (rsP cnt fx fy) ca cb) (tI f) (tI g) q (tI f2) (tI g2) ch c2 ∧ va_P D classes (wl N adr cn2) H) (wA N adr) := by
  refine Ct.mk (by decide) (Nat.le_of_ble_eq_true rfl) ?_
  intro p e s m args below meth c Q H locs ls hx hb hr hml hlk hown hin hK hQ hS hP hl
  have hl : lv_has ls 7 [(0, .ref (adr t)), (1, .ref (adr b))] := hl
  have hown : s.vm.findClass "RangeSheet$Lookup" = some m.cls := hown
  refine lv_sipush (v := 200) hx hb d_Lookup_narrow_0 (by decide) ?_
  refine lv_istore_n (lv' := [(2, .int (200 : Int32)), (0, .ref (adr t)), (1, .ref (adr b))]) hx hb d_Lookup_narrow_3 rfl hl (by decide) rfl (fun ls hl => ?_)
  refine lv_sipush (v := (-200)) hx hb d_Lookup_narrow_4 (by decide) ?_
  refine lv_istore_n (lv' := [(3, .int (-200 : Int32)), (2, .int (200 : Int32)), (0, .ref (adr t)), (1, .ref (adr b))]) hx hb d_Lookup_narrow_7 rfl hl (by decide) rfl (fun ls hl => ?_)
  refine lv_sipush (v := 200) hx hb d_Lookup_narrow_8 (by decide) ?_
  refine lv_istore (lv' := [(4, .int (200 : Int32)), (3, .int (-200 : Int32)), (2, .int (200 : Int32)), (0, .ref (adr t)), (1, .ref (adr b))]) hx hb d_Lookup_narrow_11 hl (by decide) rfl (fun ls hl => ?_)
  refine lv_sipush (v := (-200)) hx hb d_Lookup_narrow_13 (by decide) ?_
  refine lv_istore (lv' := [(5, .int (-200 : Int32)), (4, .int (200 : Int32)), (3, .int (-200 : Int32)), (2, .int (200 : Int32)), (0, .ref (adr t)), (1, .ref (adr b))]) hx hb d_Lookup_narrow_16 hl (by decide) rfl (fun ls hl => ?_)
  refine lv_iconst (v := 0) hx hb d_Lookup_narrow_18 (by decide) ?_
  refine lv_istore (lv' := [(6, .int (0 : Int32)), (5, .int (-200 : Int32)), (4, .int (200 : Int32)), (3, .int (-200 : Int32)), (2, .int (200 : Int32)), (0, .ref (adr t)), (1, .ref (adr b))]) hx hb d_Lookup_narrow_19 hl (by decide) rfl (fun ls hl => ?_)
  have L_1 : ∀ (n : Nat) (kx : Nat) (y2 : Int32) (y3 : Int32) (y4 : Int32) (y5 : Int32) (x6 : Int32) (H : Heap) (locs : List Loc) (ls : Array Slot), (cnt - kx) < n → (kx ≤ cnt) → (x6.toInt = (kx : Int)) → (E4 kx fx fy ca cb (tI f) (tI g) y2.toInt y3.toInt y4.toInt y5.toInt) → va_P D classes (wl N adr cn) H → va_S (wA N adr) s.heap H locs → lv_has ls 7 [(0, .ref (adr t)), (1, .ref (adr b)), (2, .int y2), (3, .int y3), (4, .int y4), (5, .int y5), (6, .int x6)] → W p l e (rl 5) s m args below meth c H locs 0 0 Q (F0 m 21 ls []) := by
    intro n
    induction n with
    | zero => intro kx y2 y3 y4 y5 x6 H locs ls hmu; exact absurd hmu (Nat.not_lt_zero _)
    | succ n ih_1 =>
      intro kx y2 y3 y4 y5 x6 H locs ls hmu hkx h6 hE1 hP hS hl
      refine lv_iload hx hb d_Lookup_narrow_21 (lv_at hl 6 rfl) ?_
      refine lv_aload_n hx hb d_Lookup_narrow_23 rfl (lv_at hl 0 rfl) ?_
      refine w_gf hx hb hK i_Lookup hown hP hN hT rfl 2 (by decide) t_662 rfl rfl d_Lookup_narrow_24 ?_
      refine w_gfN hx hb hK i_Rows hown hP hMr.1 hR.1 rfl 2 (by decide) t_75 rfl rfl d_Lookup_narrow_27 ?_
      refine b_icmp_ge (tgt := 116) hx hb d_Lookup_narrow_30 (by decide) h6 hxn (fun c_2 => ?_) (fun c_2 => ?_)
      · refine lv_aload_n hx hb d_Lookup_narrow_116 rfl (lv_at hl 1 rfl) ?_
        refine lv_aload_n hx hb d_Lookup_narrow_117 rfl (lv_at hl 0 rfl) ?_
        refine w_gf hx hb hK i_Lookup hown hP hN hT rfl 0 (by decide) t_660 rfl rfl d_Lookup_narrow_118 ?_
        refine lv_iload_n hx hb d_Lookup_narrow_121 rfl (lv_at hl 2 rfl) ?_
        refine lv_iload_n hx hb d_Lookup_narrow_122 rfl (lv_at hl 3 rfl) ?_
        refine x_V (As := [.int xa, .int y2, .int y3]) (rest := []) hx hb hml hown hK (k_Box_cut l D cA adr N hi cn b f g ch ⟨hB.1, hB.2.1, hB.2.2⟩ hMb ca xa y2 y3 hxa (by omega)) t_176 t_2 t_295 t_174 t_175 yk_Box_cut ⟨Nat.le_of_ble_eq_true rfl, Nat.le_of_ble_eq_true rfl⟩ (w_rec hK hP hMb.1 hB.1 rfl) hP rfl hl.1 rfl (Nat.le_of_ble_eq_true rfl) d_Lookup_narrow_123 ⟨Nat.le_of_ble_eq_true rfl, Nat.le_of_ble_eq_true rfl⟩ hS (fun q h => h) (fun r H locs hq _ hS => ?_)
        obtain ⟨cn_3, lo_3, hh_3, hlo_3, hhh_3, rfl, hFb_3, hB_3, hP⟩ := hq
        obtain ⟨ch_3, hch_3⟩ : ∃ q : Bool, q = (ch || decide ((f ca).toInt < y2.toInt ∨ y3.toInt < (g ca).toInt)) := ⟨_, rfl⟩
        rw [← hch_3] at hB_3
        have hx_3_4 : cn_3 t = .inr (6, [.int xa, .int xb, .ref (adr rw), .int (bi gd)]) := (hFb_3 t (by omega) (by omega) (by omega)).trans hT
        have hx_3_5 : cn_3 rw = .inr (3, [.ref (adr (rw + 1)), .ref (adr (rw + 2)), .int xn]) := (hFb_3 rw (by omega) (by omega) (by omega)).trans hR.1
        have hx_3_6 : cn_3 (rw + 1) = .inl (cA 0, 10, .inl fx) := (hFb_3 (rw + 1) (by omega) (by omega) (by omega)).trans hR.2.1
        have hx_3_7 : cn_3 (rw + 2) = .inl (cA 0, 10, .inl fy) := (hFb_3 (rw + 2) (by omega) (by omega) (by omega)).trans hR.2.2
        have hfr_3 : FrB b cn cn_3 := hFb_3
        refine W.eq (g2 := F0 m 126 ls [.int (bi (decide (lo_3.toInt ≤ hh_3.toInt)))]) rfl ?_
        refine b_bool_eq (tgt := 148) hx hb d_Lookup_narrow_126 (by decide) (fun c_8 => ?_) (fun c_8 => ?_)
        · have hc_8 := of_decide_eq_false c_8
          refine lv_iconst (v := 0) hx hb d_Lookup_narrow_148 (by decide) ?_
          refine W.eq (g2 := F0 m 149 ls [.int (bi false)]) rfl ?_
          refine e_z hx hb hr hlk hQ hS d_Lookup_narrow_149 ?_
          refine ⟨cn_3, (upd f ca lo_3), (upd g ca hh_3), false, ch_3, rfl, hfr_3, ⟨hB_3.1, hB_3.2.1, hB_3.2.2⟩, ?_, hP⟩
          have g0 : ¬ tI (upd f ca lo_3) ca ≤ tI (upd g ca hh_3) ca := by rw [tI_up, tI_up]; exact of_decide_eq_false c_8
          have hke : kx = cnt := by omega
          subst hke
          obtain ⟨pp, qq, hE⟩ := hE1
          have hra9 := hrg ca hca
          exact hull2 (far := 200) (yl := tI (upd f ca lo_3)) (yh := tI (upd g ca hh_3)) (c1 := ch_3) hca hcb hne (by omega) hE (tI_cut hlo_3 hhh_3) hch_3 (fun h => absurd h g0) ⟨fun h => absurd h (by decide), fun h => absurd h.1 g0⟩
        · have hc_8 := of_decide_eq_true c_8
          refine lv_aload_n hx hb d_Lookup_narrow_129 rfl (lv_at hl 1 rfl) ?_
          refine lv_aload_n hx hb d_Lookup_narrow_130 rfl (lv_at hl 0 rfl) ?_
          refine w_gf hx hb hK i_Lookup hown hP hN hx_3_4 rfl 1 (by decide) t_661 rfl rfl d_Lookup_narrow_131 ?_
          refine lv_iload hx hb d_Lookup_narrow_134 (lv_at hl 4 rfl) ?_
          refine lv_iload hx hb d_Lookup_narrow_136 (lv_at hl 5 rfl) ?_
          refine x_V (As := [.int xb, .int y4, .int y5]) (rest := []) hx hb hml hown hK (k_Box_cut l D cA adr N hi cn_3 b (upd f ca lo_3) (upd g ca hh_3) ch_3 ⟨hB_3.1, hB_3.2.1, hB_3.2.2⟩ hMb cb xb y4 y5 hxb (by omega)) t_176 t_2 t_295 t_174 t_175 yk_Box_cut ⟨Nat.le_of_ble_eq_true rfl, Nat.le_of_ble_eq_true rfl⟩ (w_rec hK hP hMb.1 hB_3.1 rfl) hP rfl hl.1 rfl (Nat.le_of_ble_eq_true rfl) d_Lookup_narrow_138 ⟨Nat.le_of_ble_eq_true rfl, Nat.le_of_ble_eq_true rfl⟩ hS (fun q h => h) (fun r H locs hq _ hS => ?_)
          obtain ⟨cn_9, lo_9, hh_9, hlo_9, hhh_9, rfl, hFb_9, hB_9, hP⟩ := hq
          obtain ⟨ch_9, hch_9⟩ : ∃ q : Bool, q = (ch_3 || decide (((upd f ca lo_3) cb).toInt < y4.toInt ∨ y5.toInt < ((upd g ca hh_3) cb).toInt)) := ⟨_, rfl⟩
          rw [← hch_9] at hB_9
          have hx_9_10 : cn_9 t = .inr (6, [.int xa, .int xb, .ref (adr rw), .int (bi gd)]) := (hFb_9 t (by omega) (by omega) (by omega)).trans hx_3_4
          have hx_9_11 : cn_9 rw = .inr (3, [.ref (adr (rw + 1)), .ref (adr (rw + 2)), .int xn]) := (hFb_9 rw (by omega) (by omega) (by omega)).trans hx_3_5
          have hx_9_12 : cn_9 (rw + 1) = .inl (cA 0, 10, .inl fx) := (hFb_9 (rw + 1) (by omega) (by omega) (by omega)).trans hx_3_6
          have hx_9_13 : cn_9 (rw + 2) = .inl (cA 0, 10, .inl fy) := (hFb_9 (rw + 2) (by omega) (by omega) (by omega)).trans hx_3_7
          have hfr_9 : FrB b cn cn_9 := hfr_3.tr hFb_9
          refine W.eq (g2 := F0 m 141 ls [.int (bi (decide (lo_9.toInt ≤ hh_9.toInt)))]) rfl ?_
          refine b_bool_eq (tgt := 148) hx hb d_Lookup_narrow_141 (by decide) (fun c_14 => ?_) (fun c_14 => ?_)
          · have hc_14 := of_decide_eq_false c_14
            refine lv_iconst (v := 0) hx hb d_Lookup_narrow_148 (by decide) ?_
            refine W.eq (g2 := F0 m 149 ls [.int (bi false)]) rfl ?_
            refine e_z hx hb hr hlk hQ hS d_Lookup_narrow_149 ?_
            refine ⟨cn_9, (upd (upd f ca lo_3) cb lo_9), (upd (upd g ca hh_3) cb hh_9), false, ch_9, rfl, hfr_9, ⟨hB_9.1, hB_9.2.1, hB_9.2.2⟩, ?_, hP⟩
            have g0 : tI (upd f ca lo_3) ca ≤ tI (upd g ca hh_3) ca := by rw [tI_up, tI_up]; exact of_decide_eq_true c_8
            have g1 : ¬ tI (upd (upd f ca lo_3) cb lo_9) cb ≤ tI (upd (upd g ca hh_3) cb hh_9) cb := by rw [tI_up, tI_up]; exact of_decide_eq_false c_14
            have hke : kx = cnt := by omega
            subst hke
            obtain ⟨pp, qq, hE⟩ := hE1
            have hra9 := hrg ca hca
            exact hull2 (far := 200) (yl := tI (upd f ca lo_3)) (yh := tI (upd g ca hh_3)) (c1 := ch_3) hca hcb hne (by omega) hE (tI_cut hlo_3 hhh_3) hch_3 (fun _ => ⟨tI_cut hlo_9 hhh_9, hch_9⟩) ⟨fun h => absurd h (by decide), fun h => absurd h.2 g1⟩
          · have hc_14 := of_decide_eq_true c_14
            refine lv_iconst (v := 1) hx hb d_Lookup_narrow_144 (by decide) ?_
            refine lv_goto (tgt := 149) hx hb d_Lookup_narrow_145 (by decide) ?_
            refine W.eq (g2 := F0 m 149 ls [.int (bi true)]) rfl ?_
            refine e_z hx hb hr hlk hQ hS d_Lookup_narrow_149 ?_
            refine ⟨cn_9, (upd (upd f ca lo_3) cb lo_9), (upd (upd g ca hh_3) cb hh_9), true, ch_9, rfl, hfr_9, ⟨hB_9.1, hB_9.2.1, hB_9.2.2⟩, ?_, hP⟩
            have g0 : tI (upd f ca lo_3) ca ≤ tI (upd g ca hh_3) ca := by rw [tI_up, tI_up]; exact of_decide_eq_true c_8
            have g1 : tI (upd (upd f ca lo_3) cb lo_9) cb ≤ tI (upd (upd g ca hh_3) cb hh_9) cb := by rw [tI_up, tI_up]; exact of_decide_eq_true c_14
            have hke : kx = cnt := by omega
            subst hke
            obtain ⟨pp, qq, hE⟩ := hE1
            have hra9 := hrg ca hca
            exact hull2 (far := 200) (yl := tI (upd f ca lo_3)) (yh := tI (upd g ca hh_3)) (c1 := ch_3) hca hcb hne (by omega) hE (tI_cut hlo_3 hhh_3) hch_3 (fun _ => ⟨tI_cut hlo_9 hhh_9, hch_9⟩) ⟨fun _ => ⟨g0, g1⟩, fun _ => rfl⟩
      · refine lv_aload_n hx hb d_Lookup_narrow_33 rfl (lv_at hl 0 rfl) ?_
        refine lv_aload_n hx hb d_Lookup_narrow_34 rfl (lv_at hl 1 rfl) ?_
        refine lv_iload hx hb d_Lookup_narrow_35 (lv_at hl 6 rfl) ?_
        refine x_V (As := [.ref (adr b), .int x6]) (rest := []) hx hb hml hown hK (k_Lookup_fits l D cA adr N hi cn t xa xb rw gd hT hN fx fy xn hR hMr b f g ch hB hMb hdt hdr nn hn10 hne hrg ca cb cnt hxa hxb hxn hc10 hca hcb kx x6 h6 (by omega)) t_292 t_20 t_288 t_290 ts_6 yk_Lookup_fits ⟨Nat.le_of_ble_eq_true rfl, Nat.le_of_ble_eq_true rfl⟩ (w_rec hK hP hN hT rfl) hP rfl hl.1 rfl (Nat.le_of_ble_eq_true rfl) d_Lookup_narrow_37 ⟨Nat.le_of_ble_eq_true rfl, Nat.le_of_ble_eq_true rfl⟩ hS (fun q h => h) (fun r H locs hq _ hS => ?_)
        obtain ⟨q_15, rfl, hq_15, hP⟩ := hq
        refine W.eq (g2 := F0 m 40 ls [.int (bi q_15)]) rfl ?_
        refine b_bool_ne (tgt := 46) hx hb d_Lookup_narrow_40 (by decide) (fun c_16 => ?_) (fun c_16 => ?_)
        · refine lv_iload_n hx hb d_Lookup_narrow_46 rfl (lv_at hl 2 rfl) ?_
          refine lv_aload_n hx hb d_Lookup_narrow_47 rfl (lv_at hl 0 rfl) ?_
          refine w_gf hx hb hK i_Lookup hown hP hN hT rfl 2 (by decide) t_662 rfl rfl d_Lookup_narrow_48 ?_
          refine w_gfN hx hb hK i_Rows hown hP hMr.1 hR.1 rfl 0 (by decide) t_70 rfl rfl d_Lookup_narrow_51 ?_
          refine lv_iload hx hb d_Lookup_narrow_54 (lv_at hl 6 rfl) ?_
          refine w_ld hx hb hK hP hMr.2.1 hR.2.1 (kx) h6 (by omega) (show kx < 10 by omega) d_Lookup_narrow_56 (fun z_17 ez_17 => ?_)
          subst ez_17
          refine x_min hx hb hml hown hK hl.1 t_293 (Nat.le_of_ble_eq_true rfl) (Nat.le_of_ble_eq_true rfl) ⟨Nat.le_of_ble_eq_true rfl, Nat.le_of_ble_eq_true rfl⟩ (Nat.le_of_ble_eq_true rfl) rfl rfl  d_Lookup_narrow_57 (fun z_18 tz_18 => ?_)
          refine lv_istore_n (lv' := [(2, .int z_18), (0, .ref (adr t)), (1, .ref (adr b)), (3, .int y3), (4, .int y4), (5, .int y5), (6, .int x6)]) hx hb d_Lookup_narrow_60 rfl hl (by decide) rfl (fun ls hl => ?_)
          refine lv_iload_n hx hb d_Lookup_narrow_61 rfl (lv_at hl 3 rfl) ?_
          refine lv_aload_n hx hb d_Lookup_narrow_62 rfl (lv_at hl 1 rfl) ?_
          refine w_gf hx hb hK i_Lookup hown hP hN hT rfl 2 (by decide) t_662 rfl rfl d_Lookup_narrow_63 ?_
          refine w_gfN hx hb hK i_Rows hown hP hMr.1 hR.1 rfl 0 (by decide) t_70 rfl rfl d_Lookup_narrow_66 ?_
          refine lv_iload hx hb d_Lookup_narrow_69 (lv_at hl 6 rfl) ?_
          refine w_ld hx hb hK hP hMr.2.1 hR.2.1 (kx) h6 (by omega) (show kx < 10 by omega) d_Lookup_narrow_71 (fun z_19 ez_19 => ?_)
          subst ez_19
          refine x_max hx hb hml hown hK hl.1 t_294 (Nat.le_of_ble_eq_true rfl) (Nat.le_of_ble_eq_true rfl) ⟨Nat.le_of_ble_eq_true rfl, Nat.le_of_ble_eq_true rfl⟩ (Nat.le_of_ble_eq_true rfl) rfl rfl  d_Lookup_narrow_72 (fun z_20 tz_20 => ?_)
          refine lv_istore_n (lv' := [(3, .int z_20), (2, .int z_18), (0, .ref (adr t)), (1, .ref (adr b)), (4, .int y4), (5, .int y5), (6, .int x6)]) hx hb d_Lookup_narrow_75 rfl hl (by decide) rfl (fun ls hl => ?_)
          refine lv_iload hx hb d_Lookup_narrow_76 (lv_at hl 4 rfl) ?_
          refine lv_aload_n hx hb d_Lookup_narrow_78 rfl (lv_at hl 2 rfl) ?_
          refine w_gf hx hb hK i_Lookup hown hP hN hT rfl 2 (by decide) t_662 rfl rfl d_Lookup_narrow_79 ?_
          refine w_gfN hx hb hK i_Rows hown hP hMr.1 hR.1 rfl 1 (by decide) t_73 rfl rfl d_Lookup_narrow_82 ?_
          refine lv_iload hx hb d_Lookup_narrow_85 (lv_at hl 6 rfl) ?_
          refine w_ld hx hb hK hP hMr.2.2 hR.2.2 (kx) h6 (by omega) (show kx < 10 by omega) d_Lookup_narrow_87 (fun z_21 ez_21 => ?_)
          subst ez_21
          refine x_min hx hb hml hown hK hl.1 t_293 (Nat.le_of_ble_eq_true rfl) (Nat.le_of_ble_eq_true rfl) ⟨Nat.le_of_ble_eq_true rfl, Nat.le_of_ble_eq_true rfl⟩ (Nat.le_of_ble_eq_true rfl) rfl rfl  d_Lookup_narrow_88 (fun z_22 tz_22 => ?_)
          refine lv_istore (lv' := [(4, .int z_22), (3, .int z_20), (2, .int z_18), (0, .ref (adr t)), (1, .ref (adr b)), (5, .int y5), (6, .int x6)]) hx hb d_Lookup_narrow_91 hl (by decide) rfl (fun ls hl => ?_)
          refine lv_iload hx hb d_Lookup_narrow_93 (lv_at hl 5 rfl) ?_
          refine lv_aload_n hx hb d_Lookup_narrow_95 rfl (lv_at hl 3 rfl) ?_
          refine w_gf hx hb hK i_Lookup hown hP hN hT rfl 2 (by decide) t_662 rfl rfl d_Lookup_narrow_96 ?_
          refine w_gfN hx hb hK i_Rows hown hP hMr.1 hR.1 rfl 1 (by decide) t_73 rfl rfl d_Lookup_narrow_99 ?_
          refine lv_iload hx hb d_Lookup_narrow_102 (lv_at hl 6 rfl) ?_
          refine w_ld hx hb hK hP hMr.2.2 hR.2.2 (kx) h6 (by omega) (show kx < 10 by omega) d_Lookup_narrow_104 (fun z_23 ez_23 => ?_)
          subst ez_23
          refine x_max hx hb hml hown hK hl.1 t_294 (Nat.le_of_ble_eq_true rfl) (Nat.le_of_ble_eq_true rfl) ⟨Nat.le_of_ble_eq_true rfl, Nat.le_of_ble_eq_true rfl⟩ (Nat.le_of_ble_eq_true rfl) rfl rfl  d_Lookup_narrow_105 (fun z_24 tz_24 => ?_)
          refine lv_istore (lv' := [(5, .int z_24), (4, .int z_22), (3, .int z_20), (2, .int z_18), (0, .ref (adr t)), (1, .ref (adr b)), (6, .int x6)]) hx hb d_Lookup_narrow_108 hl (by decide) rfl (fun ls hl => ?_)
          refine x_iinc (k := 6) (lv' := fun v_ => [(6, .int v_), (5, .int z_24), (4, .int z_22), (3, .int z_20), (2, .int z_18), (0, .ref (adr t)), (1, .ref (adr b))]) hx hb d_Lookup_narrow_110 hl rfl h6 (by decide) (by omega) (by decide) (fun v_ => rfl) (fun z_25 tz_25 ls hl => ?_)
          refine lv_goto (tgt := 21) hx hb d_Lookup_narrow_113 (by decide) ?_
          have hE9 := hE1.yes (hq_15.mp c_16) (hrr kx (by omega))
          rw [← tz_18, ← tz_20, ← tz_22, ← tz_24] at hE9
          exact ih_1 (kx + 1) z_18 z_20 z_22 z_24 z_25 _ _ _ (by omega) (by omega) (by omega) hE9 hP hS (lv_sub hl [5, 6, 4, 3, 2, 1, 0] rfl)
        · refine lv_goto (tgt := 110) hx hb d_Lookup_narrow_43 (by decide) ?_
          refine x_iinc (k := 6) (lv' := fun v_ => [(6, .int v_), (0, .ref (adr t)), (1, .ref (adr b)), (2, .int y2), (3, .int y3), (4, .int y4), (5, .int y5)]) hx hb d_Lookup_narrow_110 hl rfl h6 (by decide) (by omega) (by decide) (fun v_ => rfl) (fun z_26 tz_26 ls hl => ?_)
          refine lv_goto (tgt := 21) hx hb d_Lookup_narrow_113 (by decide) ?_
          have hE9 := hE1.no (fun h => by have := hq_15.mpr h; rw [c_16] at this; cases this)
          exact ih_1 (kx + 1) y2 y3 y4 y5 z_26 _ _ _ (by omega) (by omega) (by omega) hE9 hP hS (lv_sub hl [1, 2, 3, 4, 5, 6, 0] rfl)
  exact L_1 (_ + 1) 0 (200 : Int32) (-200 : Int32) (200 : Int32) (-200 : Int32) (0 : Int32) _ _ _ (Nat.lt_succ_self _) (by omega) kc_0 ⟨200, -200, by rw [kc_200, kc_m200]; exact Ends.none (fun x y z h => by obtain ⟨k, hk, _⟩ := h.1; omega)⟩ hP hS (lv_sub hl [5, 6, 4, 3, 2, 1, 0] rfl)
