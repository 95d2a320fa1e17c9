/-! three cells: the ends that are told -/
def TP (cn : Nat → va_E) (t ci : Nat) (xa xb xc : Int32) (e : Nat → Int32) (gd : Bool) : Prop := cn t = .inr (ci, [.int xa, .int xb, .int xc, .int (e 0), .int (e 1), .int (e 2), .int (e 3), .int (e 4), .int (e 5), .int (bi gd)])
def FrT (t : Nat) (cn cn' : Nat → va_E) : Prop := ∀ k, k ≠ t → cn' k = cn k
theorem FrT.rf {t : Nat} {cn : Nat → va_E} : FrT t cn cn := fun _ _ => rfl
theorem FrT.tr {t : Nat} {cn cn' cn'' : Nat → va_E} (h : FrT t cn cn') (g : FrT t cn' cn'') : FrT t cn cn'' := fun k a => (g k a).trans (h k a)
def EE (S : Int → Int → Int → Prop) (e : Nat → Int32) : Prop := Ends S 200 (e 0).toInt (e 1).toInt (e 2).toInt (e 3).toInt (e 4).toInt (e 5).toInt
def AddR (e e' : Nat → Int32) (x fb tb fc tc : Int) : Prop := ((fb ≤ tb ∧ fc ≤ tc) → (e' 0).toInt = min (e 0).toInt x ∧ (e' 1).toInt = max (e 1).toInt x ∧ (e' 2).toInt = min (e 2).toInt fb ∧ (e' 3).toInt = max (e 3).toInt tb ∧ (e' 4).toInt = min (e 4).toInt fc ∧ (e' 5).toInt = max (e 5).toInt tc) ∧ (¬ (fb ≤ tb ∧ fc ≤ tc) → e' = e)
theorem AddR.ends {S : Int → Int → Int → Prop} {T : Int → Int → Prop} {e e' : Nat → Int32} {x fb tb fc tc : Int} (h : AddR e e' x fb tb fc tc) (hE : EE S e) (hx : -200 ≤ x ∧ x ≤ 200) (hr : fb ≤ tb → fc ≤ tc → -200 ≤ fb ∧ tb ≤ 200 ∧ -200 ≤ fc ∧ tc ≤ 200)
    (hT : ∀ y z, T y z → fb ≤ y ∧ y ≤ tb ∧ fc ≤ z ∧ z ≤ tc) (he : fb ≤ tb → fc ≤ tc → (∃ z, T fb z) ∧ (∃ z, T tb z) ∧ (∃ y, T y fc) ∧ (∃ y, T y tc)) : EE (fun a y z => S a y z ∨ (a = x ∧ T y z)) e' := by
  by_cases q : fb ≤ tb ∧ fc ≤ tc
  · obtain ⟨e1, e2, e3, e4, e5, e6⟩ := h.1 q
    obtain ⟨⟨z1, t1⟩, ⟨z2, t2⟩, ⟨y3, t3⟩, ⟨y4, t4⟩⟩ := he q.1 q.2
    have hr := hr q.1 q.2
    unfold EE at *
    rw [e1, e2, e3, e4, e5, e6]
    exact hE.add (T := fun a y z => a = x ∧ T y z) (by omega) (fun a y z hh => by have := hT y z hh.2; exact ⟨hh.1, by omega⟩) q ⟨z1, rfl, t1⟩ ⟨z2, rfl, t2⟩ ⟨y3, rfl, t3⟩ ⟨y4, rfl, t4⟩
  · rw [h.2 q]
    exact hE.congr (fun a y z => ⟨Or.inl, fun z2 => z2.elim id (fun z2 => by have := hT y z z2.2; omega)⟩)
theorem d_Three_add_0 : decode b_Three_add 0 = .ok (.iload_n 2, 1) := by decide +kernel
theorem d_Three_add_1 : decode b_Three_add 1 = .ok (.iload_n 3, 1) := by decide +kernel
theorem d_Three_add_2 : decode b_Three_add 2 = .ok (.if_icmp .gt 10, 3) := by decide +kernel
theorem d_Three_add_5 : decode b_Three_add 5 = .ok (.iload 4, 2) := by decide +kernel
theorem d_Three_add_7 : decode b_Three_add 7 = .ok (.iload 5, 2) := by decide +kernel
theorem d_Three_add_9 : decode b_Three_add 9 = .ok (.if_icmp .le 4, 3) := by decide +kernel
theorem d_Three_add_12 : decode b_Three_add 12 = .ok (.return_, 1) := by decide +kernel
theorem d_Three_add_13 : decode b_Three_add 13 = .ok (.aload_n 0, 1) := by decide +kernel
theorem d_Three_add_14 : decode b_Three_add 14 = .ok (.aload_n 0, 1) := by decide +kernel
theorem d_Three_add_15 : decode b_Three_add 15 = .ok (.getfield 31, 3) := by decide +kernel
theorem d_Three_add_18 : decode b_Three_add 18 = .ok (.iload_n 1, 1) := by decide +kernel
theorem d_Three_add_19 : decode b_Three_add 19 = .ok (.invokestatic 34, 3) := by decide +kernel
theorem d_Three_add_22 : decode b_Three_add 22 = .ok (.putfield 31, 3) := by decide +kernel
theorem d_Three_add_25 : decode b_Three_add 25 = .ok (.aload_n 0, 1) := by decide +kernel
theorem d_Three_add_26 : decode b_Three_add 26 = .ok (.aload_n 0, 1) := by decide +kernel
theorem d_Three_add_27 : decode b_Three_add 27 = .ok (.getfield 37, 3) := by decide +kernel
theorem d_Three_add_30 : decode b_Three_add 30 = .ok (.iload_n 1, 1) := by decide +kernel
theorem d_Three_add_31 : decode b_Three_add 31 = .ok (.invokestatic 21, 3) := by decide +kernel
theorem d_Three_add_34 : decode b_Three_add 34 = .ok (.putfield 37, 3) := by decide +kernel
theorem d_Three_add_37 : decode b_Three_add 37 = .ok (.aload_n 0, 1) := by decide +kernel
theorem d_Three_add_38 : decode b_Three_add 38 = .ok (.aload_n 0, 1) := by decide +kernel
theorem d_Three_add_39 : decode b_Three_add 39 = .ok (.getfield 40, 3) := by decide +kernel
theorem d_Three_add_42 : decode b_Three_add 42 = .ok (.iload_n 2, 1) := by decide +kernel
theorem d_Three_add_43 : decode b_Three_add 43 = .ok (.invokestatic 34, 3) := by decide +kernel
theorem d_Three_add_46 : decode b_Three_add 46 = .ok (.putfield 40, 3) := by decide +kernel
theorem d_Three_add_49 : decode b_Three_add 49 = .ok (.aload_n 0, 1) := by decide +kernel
theorem d_Three_add_50 : decode b_Three_add 50 = .ok (.aload_n 0, 1) := by decide +kernel
theorem d_Three_add_51 : decode b_Three_add 51 = .ok (.getfield 43, 3) := by decide +kernel
theorem d_Three_add_54 : decode b_Three_add 54 = .ok (.iload_n 3, 1) := by decide +kernel
theorem d_Three_add_55 : decode b_Three_add 55 = .ok (.invokestatic 21, 3) := by decide +kernel
theorem d_Three_add_58 : decode b_Three_add 58 = .ok (.putfield 43, 3) := by decide +kernel
theorem d_Three_add_61 : decode b_Three_add 61 = .ok (.aload_n 0, 1) := by decide +kernel
theorem d_Three_add_62 : decode b_Three_add 62 = .ok (.aload_n 0, 1) := by decide +kernel
theorem d_Three_add_63 : decode b_Three_add 63 = .ok (.getfield 46, 3) := by decide +kernel
theorem d_Three_add_66 : decode b_Three_add 66 = .ok (.iload 4, 2) := by decide +kernel
theorem d_Three_add_68 : decode b_Three_add 68 = .ok (.invokestatic 34, 3) := by decide +kernel
theorem d_Three_add_71 : decode b_Three_add 71 = .ok (.putfield 46, 3) := by decide +kernel
theorem d_Three_add_74 : decode b_Three_add 74 = .ok (.aload_n 0, 1) := by decide +kernel
theorem d_Three_add_75 : decode b_Three_add 75 = .ok (.aload_n 0, 1) := by decide +kernel
theorem d_Three_add_76 : decode b_Three_add 76 = .ok (.getfield 49, 3) := by decide +kernel
theorem d_Three_add_79 : decode b_Three_add 79 = .ok (.iload 5, 2) := by decide +kernel
theorem d_Three_add_81 : decode b_Three_add 81 = .ok (.invokestatic 21, 3) := by decide +kernel
theorem d_Three_add_84 : decode b_Three_add 84 = .ok (.putfield 49, 3) := by decide +kernel
theorem d_Three_add_87 : decode b_Three_add 87 = .ok (.return_, 1) := by decide +kernel
set_option maxHeartbeats 4000000 in
set_option maxRecDepth 20000 in
theorem k_add_Sum (l : Launch) (D : va_G) (cA : Nat → ClassId) (adr : Nat → Nat) (N : List Nat) (hi : wI N adr) (cn : Nat → va_E) (t : Nat) (xa xb xc : Int32) (e0 : Nat → Int32) (gd : Bool) (hT : TP cn t 7 xa xb xc e0 gd) (hN : t ∈ N) (x fb tb fc tc : Int32) : Ct l y_Three_add b_Three_add 6 none 2 D cA [.ref (adr t), .int x, .int fb, .int tb, .int fc, .int tc] (fun H => va_P D classes (wl N adr cn) H) (fun r H => ∃ (cn2 : Nat → va_E) (e2 : Nat → Int32), r = none ∧ FrT t cn cn2 ∧ TP cn2 t 7 xa xb xc e2 gd ∧ AddR e0 e2 x.toInt fb.toInt tb.toInt fc.toInt tc.toInt ∧ va_P D classes (wl N adr cn2) H) (wA N adr) := by
  refine Ct.mk (by decide) (Nat.le_of_ble_eq_true rfl) ?_
  intro p e s m args below meth c Q H locs ls hx hb hr hml hlk hown hin hK hQ hS hP hl
  have hl : lv_has ls 6 [(0, .ref (adr t)), (1, .int x), (2, .int fb), (3, .int tb), (4, .int fc), (5, .int tc)] := hl
  have hown : s.vm.findClass "RangeSheet$Three" = some m.cls := hown
  refine lv_iload_n hx hb d_Three_add_0 rfl (lv_at hl 2 rfl) ?_
  refine lv_iload_n hx hb d_Three_add_1 rfl (lv_at hl 3 rfl) ?_
  refine b_icmp_gt (tgt := 12) hx hb d_Three_add_2 (by decide) rfl rfl (fun c_1 => ?_) (fun c_1 => ?_)
  · refine e_v hx hb hr hlk hQ hS d_Three_add_12 ?_
    exact ⟨cn, e0, rfl, FrT.rf, hT, ⟨fun h => absurd h (by omega), fun _ => rfl⟩, hP⟩
  · refine lv_iload hx hb d_Three_add_5 (lv_at hl 4 rfl) ?_
    refine lv_iload hx hb d_Three_add_7 (lv_at hl 5 rfl) ?_
    refine b_icmp_le (tgt := 13) hx hb d_Three_add_9 (by decide) rfl rfl (fun c_2 => ?_) (fun c_2 => ?_)
    · refine lv_aload_n hx hb d_Three_add_13 rfl (lv_at hl 0 rfl) ?_
      refine lv_aload_n hx hb d_Three_add_14 rfl (lv_at hl 0 rfl) ?_
      refine w_gf hx hb hK i_Sum hown hP hN hT rfl 3 (by decide) t_514 rfl rfl d_Three_add_15 ?_
      refine lv_iload_n hx hb d_Three_add_18 rfl (lv_at hl 1 rfl) ?_
      refine x_min hx hb hml hown hK hl.1 t_231 (Nat.le_of_ble_eq_true rfl) (Nat.le_of_ble_eq_true rfl) ⟨Nat.le_of_ble_eq_true rfl, Nat.le_of_ble_eq_true rfl⟩ (Nat.le_of_ble_eq_true rfl) rfl rfl  d_Three_add_19 (fun z_3 tz_3 => ?_)
      refine w_pf hx hb hK i_Sum t_Sum t_Sum_ok n_Sum hown hi hP hS wA_mem hN hT rfl 3 (by decide) t_514 rfl rfl rfl rfl rfl d_Three_add_22 (fun H locs hP hS => ?_)
      obtain ⟨cn_4, ecn_4⟩ : ∃ q : Nat → va_E, q = va_up cn t (.inr (7, [.int xa, .int xb, .int xc, .int z_3, .int (e0 1), .int (e0 2), .int (e0 3), .int (e0 4), .int (e0 5), .int (bi gd)])) := ⟨_, rfl⟩
      have hP : va_P D classes (wl N adr cn_4) H := by rw [ecn_4]; exact hP
      have ho_4_5 : cn_4 t = .inr (7, [.int xa, .int xb, .int xc, .int z_3, .int (e0 1), .int (e0 2), .int (e0 3), .int (e0 4), .int (e0 5), .int (bi gd)]) := by rw [ecn_4]; exact va_up_self _ _ _
      have hfr_4 : ∀ k, k ≠ t → cn_4 k = cn k := fun k a1 => (congrFun ecn_4 k).trans ((va_up_ne _ _ (by omega)).trans rfl)
      refine lv_aload_n hx hb d_Three_add_25 rfl (lv_at hl 0 rfl) ?_
      refine lv_aload_n hx hb d_Three_add_26 rfl (lv_at hl 0 rfl) ?_
      refine w_gf hx hb hK i_Sum hown hP hN ho_4_5 rfl 4 (by decide) t_515 rfl rfl d_Three_add_27 ?_
      refine lv_iload_n hx hb d_Three_add_30 rfl (lv_at hl 1 rfl) ?_
      refine x_max hx hb hml hown hK hl.1 t_232 (Nat.le_of_ble_eq_true rfl) (Nat.le_of_ble_eq_true rfl) ⟨Nat.le_of_ble_eq_true rfl, Nat.le_of_ble_eq_true rfl⟩ (Nat.le_of_ble_eq_true rfl) rfl rfl  d_Three_add_31 (fun z_6 tz_6 => ?_)
      refine w_pf hx hb hK i_Sum t_Sum t_Sum_ok n_Sum hown hi hP hS wA_mem hN ho_4_5 rfl 4 (by decide) t_515 rfl rfl rfl rfl rfl d_Three_add_34 (fun H locs hP hS => ?_)
      obtain ⟨cn_7, ecn_7⟩ : ∃ q : Nat → va_E, q = va_up cn_4 t (.inr (7, [.int xa, .int xb, .int xc, .int z_3, .int z_6, .int (e0 2), .int (e0 3), .int (e0 4), .int (e0 5), .int (bi gd)])) := ⟨_, rfl⟩
      have hP : va_P D classes (wl N adr cn_7) H := by rw [ecn_7]; exact hP
      have ho_7_8 : cn_7 t = .inr (7, [.int xa, .int xb, .int xc, .int z_3, .int z_6, .int (e0 2), .int (e0 3), .int (e0 4), .int (e0 5), .int (bi gd)]) := by rw [ecn_7]; exact va_up_self _ _ _
      have hfr_7 : ∀ k, k ≠ t → cn_7 k = cn k := fun k a1 => (congrFun ecn_7 k).trans ((va_up_ne _ _ (by omega)).trans (hfr_4 k a1))
      refine lv_aload_n hx hb d_Three_add_37 rfl (lv_at hl 0 rfl) ?_
      refine lv_aload_n hx hb d_Three_add_38 rfl (lv_at hl 0 rfl) ?_
      refine w_gf hx hb hK i_Sum hown hP hN ho_7_8 rfl 5 (by decide) t_516 rfl rfl d_Three_add_39 ?_
      refine lv_iload_n hx hb d_Three_add_42 rfl (lv_at hl 2 rfl) ?_
      refine x_min hx hb hml hown hK hl.1 t_231 (Nat.le_of_ble_eq_true rfl) (Nat.le_of_ble_eq_true rfl) ⟨Nat.le_of_ble_eq_true rfl, Nat.le_of_ble_eq_true rfl⟩ (Nat.le_of_ble_eq_true rfl) rfl rfl  d_Three_add_43 (fun z_9 tz_9 => ?_)
      refine w_pf hx hb hK i_Sum t_Sum t_Sum_ok n_Sum hown hi hP hS wA_mem hN ho_7_8 rfl 5 (by decide) t_516 rfl rfl rfl rfl rfl d_Three_add_46 (fun H locs hP hS => ?_)
      obtain ⟨cn_10, ecn_10⟩ : ∃ q : Nat → va_E, q = va_up cn_7 t (.inr (7, [.int xa, .int xb, .int xc, .int z_3, .int z_6, .int z_9, .int (e0 3), .int (e0 4), .int (e0 5), .int (bi gd)])) := ⟨_, rfl⟩
      have hP : va_P D classes (wl N adr cn_10) H := by rw [ecn_10]; exact hP
      have ho_10_11 : cn_10 t = .inr (7, [.int xa, .int xb, .int xc, .int z_3, .int z_6, .int z_9, .int (e0 3), .int (e0 4), .int (e0 5), .int (bi gd)]) := by rw [ecn_10]; exact va_up_self _ _ _
      have hfr_10 : ∀ k, k ≠ t → cn_10 k = cn k := fun k a1 => (congrFun ecn_10 k).trans ((va_up_ne _ _ (by omega)).trans (hfr_7 k a1))
      refine lv_aload_n hx hb d_Three_add_49 rfl (lv_at hl 0 rfl) ?_
      refine lv_aload_n hx hb d_Three_add_50 rfl (lv_at hl 0 rfl) ?_
      refine w_gf hx hb hK i_Sum hown hP hN ho_10_11 rfl 6 (by decide) t_517 rfl rfl d_Three_add_51 ?_
      refine lv_iload_n hx hb d_Three_add_54 rfl (lv_at hl 3 rfl) ?_
      refine x_max hx hb hml hown hK hl.1 t_232 (Nat.le_of_ble_eq_true rfl) (Nat.le_of_ble_eq_true rfl) ⟨Nat.le_of_ble_eq_true rfl, Nat.le_of_ble_eq_true rfl⟩ (Nat.le_of_ble_eq_true rfl) rfl rfl  d_Three_add_55 (fun z_12 tz_12 => ?_)
      refine w_pf hx hb hK i_Sum t_Sum t_Sum_ok n_Sum hown hi hP hS wA_mem hN ho_10_11 rfl 6 (by decide) t_517 rfl rfl rfl rfl rfl d_Three_add_58 (fun H locs hP hS => ?_)
      obtain ⟨cn_13, ecn_13⟩ : ∃ q : Nat → va_E, q = va_up cn_10 t (.inr (7, [.int xa, .int xb, .int xc, .int z_3, .int z_6, .int z_9, .int z_12, .int (e0 4), .int (e0 5), .int (bi gd)])) := ⟨_, rfl⟩
      have hP : va_P D classes (wl N adr cn_13) H := by rw [ecn_13]; exact hP
      have ho_13_14 : cn_13 t = .inr (7, [.int xa, .int xb, .int xc, .int z_3, .int z_6, .int z_9, .int z_12, .int (e0 4), .int (e0 5), .int (bi gd)]) := by rw [ecn_13]; exact va_up_self _ _ _
      have hfr_13 : ∀ k, k ≠ t → cn_13 k = cn k := fun k a1 => (congrFun ecn_13 k).trans ((va_up_ne _ _ (by omega)).trans (hfr_10 k a1))
      refine lv_aload_n hx hb d_Three_add_61 rfl (lv_at hl 0 rfl) ?_
      refine lv_aload_n hx hb d_Three_add_62 rfl (lv_at hl 0 rfl) ?_
      refine w_gf hx hb hK i_Sum hown hP hN ho_13_14 rfl 7 (by decide) t_518 rfl rfl d_Three_add_63 ?_
      refine lv_iload hx hb d_Three_add_66 (lv_at hl 4 rfl) ?_
      refine x_min hx hb hml hown hK hl.1 t_231 (Nat.le_of_ble_eq_true rfl) (Nat.le_of_ble_eq_true rfl) ⟨Nat.le_of_ble_eq_true rfl, Nat.le_of_ble_eq_true rfl⟩ (Nat.le_of_ble_eq_true rfl) rfl rfl  d_Three_add_68 (fun z_15 tz_15 => ?_)
      refine w_pf hx hb hK i_Sum t_Sum t_Sum_ok n_Sum hown hi hP hS wA_mem hN ho_13_14 rfl 7 (by decide) t_518 rfl rfl rfl rfl rfl d_Three_add_71 (fun H locs hP hS => ?_)
      obtain ⟨cn_16, ecn_16⟩ : ∃ q : Nat → va_E, q = va_up cn_13 t (.inr (7, [.int xa, .int xb, .int xc, .int z_3, .int z_6, .int z_9, .int z_12, .int z_15, .int (e0 5), .int (bi gd)])) := ⟨_, rfl⟩
      have hP : va_P D classes (wl N adr cn_16) H := by rw [ecn_16]; exact hP
      have ho_16_17 : cn_16 t = .inr (7, [.int xa, .int xb, .int xc, .int z_3, .int z_6, .int z_9, .int z_12, .int z_15, .int (e0 5), .int (bi gd)]) := by rw [ecn_16]; exact va_up_self _ _ _
      have hfr_16 : ∀ k, k ≠ t → cn_16 k = cn k := fun k a1 => (congrFun ecn_16 k).trans ((va_up_ne _ _ (by omega)).trans (hfr_13 k a1))
      refine lv_aload_n hx hb d_Three_add_74 rfl (lv_at hl 0 rfl) ?_
      refine lv_aload_n hx hb d_Three_add_75 rfl (lv_at hl 0 rfl) ?_
      refine w_gf hx hb hK i_Sum hown hP hN ho_16_17 rfl 8 (by decide) t_519 rfl rfl d_Three_add_76 ?_
      refine lv_iload hx hb d_Three_add_79 (lv_at hl 5 rfl) ?_
      refine x_max hx hb hml hown hK hl.1 t_232 (Nat.le_of_ble_eq_true rfl) (Nat.le_of_ble_eq_true rfl) ⟨Nat.le_of_ble_eq_true rfl, Nat.le_of_ble_eq_true rfl⟩ (Nat.le_of_ble_eq_true rfl) rfl rfl  d_Three_add_81 (fun z_18 tz_18 => ?_)
      refine w_pf hx hb hK i_Sum t_Sum t_Sum_ok n_Sum hown hi hP hS wA_mem hN ho_16_17 rfl 8 (by decide) t_519 rfl rfl rfl rfl rfl d_Three_add_84 (fun H locs hP hS => ?_)
      obtain ⟨cn_19, ecn_19⟩ : ∃ q : Nat → va_E, q = va_up cn_16 t (.inr (7, [.int xa, .int xb, .int xc, .int z_3, .int z_6, .int z_9, .int z_12, .int z_15, .int z_18, .int (bi gd)])) := ⟨_, rfl⟩
      have hP : va_P D classes (wl N adr cn_19) H := by rw [ecn_19]; exact hP
      have ho_19_20 : cn_19 t = .inr (7, [.int xa, .int xb, .int xc, .int z_3, .int z_6, .int z_9, .int z_12, .int z_15, .int z_18, .int (bi gd)]) := by rw [ecn_19]; exact va_up_self _ _ _
      have hfr_19 : ∀ k, k ≠ t → cn_19 k = cn k := fun k a1 => (congrFun ecn_19 k).trans ((va_up_ne _ _ (by omega)).trans (hfr_16 k a1))
      refine e_v hx hb hr hlk hQ hS d_Three_add_87 ?_
      refine ⟨cn_19, fun k => match k with | 0 => z_3 | 1 => z_6 | 2 => z_9 | 3 => z_12 | 4 => z_15 | _ => z_18, rfl, hfr_19, ho_19_20, ⟨fun _ => ⟨tz_3, tz_6, tz_9, tz_12, tz_15, tz_18⟩, fun h => absurd (by omega) h⟩, hP⟩
    · refine e_v hx hb hr hlk hQ hS d_Three_add_12 ?_
      exact ⟨cn, e0, rfl, FrT.rf, hT, ⟨fun h => absurd h (by omega), fun _ => rfl⟩, hP⟩
set_option maxHeartbeats 4000000 in
set_option maxRecDepth 20000 in
theorem k_add_Product (l : Launch) (D : va_G) (cA : Nat → ClassId) (adr : Nat → Nat) (N : List Nat) (hi : wI N adr) (cn : Nat → va_E) (t : Nat) (xa xb xc : Int32) (e0 : Nat → Int32) (gd : Bool) (hT : TP cn t 8 xa xb xc e0 gd) (hN : t ∈ N) (x fb tb fc tc : Int32) : Ct l y_Three_add b_Three_add 6 none 2 D cA [.ref (adr t), .int x, .int fb, .int tb, .int fc, .int tc] (fun H => va_P D classes (wl N adr cn) H) (fun r H => ∃ (cn2 : Nat → va_E) (e2 : Nat → Int32), r = none ∧ FrT t cn cn2 ∧ TP cn2 t 8 xa xb xc e2 gd ∧ AddR e0 e2 x.toInt fb.toInt tb.toInt fc.toInt tc.toInt ∧ va_P D classes (wl N adr cn2) H) (wA N adr) := by
  refine Ct.mk (by decide) (Nat.le_of_ble_eq_true rfl) ?_
  intro p e s m args below meth c Q H locs ls hx hb hr hml hlk hown hin hK hQ hS hP hl
  have hl : lv_has ls 6 [(0, .ref (adr t)), (1, .int x), (2, .int fb), (3, .int tb), (4, .int fc), (5, .int tc)] := hl
  have hown : s.vm.findClass "RangeSheet$Three" = some m.cls := hown
  refine lv_iload_n hx hb d_Three_add_0 rfl (lv_at hl 2 rfl) ?_
  refine lv_iload_n hx hb d_Three_add_1 rfl (lv_at hl 3 rfl) ?_
  refine b_icmp_gt (tgt := 12) hx hb d_Three_add_2 (by decide) rfl rfl (fun c_1 => ?_) (fun c_1 => ?_)
  · refine e_v hx hb hr hlk hQ hS d_Three_add_12 ?_
    exact ⟨cn, e0, rfl, FrT.rf, hT, ⟨fun h => absurd h (by omega), fun _ => rfl⟩, hP⟩
  · refine lv_iload hx hb d_Three_add_5 (lv_at hl 4 rfl) ?_
    refine lv_iload hx hb d_Three_add_7 (lv_at hl 5 rfl) ?_
    refine b_icmp_le (tgt := 13) hx hb d_Three_add_9 (by decide) rfl rfl (fun c_2 => ?_) (fun c_2 => ?_)
    · refine lv_aload_n hx hb d_Three_add_13 rfl (lv_at hl 0 rfl) ?_
      refine lv_aload_n hx hb d_Three_add_14 rfl (lv_at hl 0 rfl) ?_
      refine w_gf hx hb hK i_Product hown hP hN hT rfl 3 (by decide) t_514 rfl rfl d_Three_add_15 ?_
      refine lv_iload_n hx hb d_Three_add_18 rfl (lv_at hl 1 rfl) ?_
      refine x_min hx hb hml hown hK hl.1 t_231 (Nat.le_of_ble_eq_true rfl) (Nat.le_of_ble_eq_true rfl) ⟨Nat.le_of_ble_eq_true rfl, Nat.le_of_ble_eq_true rfl⟩ (Nat.le_of_ble_eq_true rfl) rfl rfl  d_Three_add_19 (fun z_3 tz_3 => ?_)
      refine w_pf hx hb hK i_Product t_Product t_Product_ok n_Product hown hi hP hS wA_mem hN hT rfl 3 (by decide) t_514 rfl rfl rfl rfl rfl d_Three_add_22 (fun H locs hP hS => ?_)
      obtain ⟨cn_4, ecn_4⟩ : ∃ q : Nat → va_E, q = va_up cn t (.inr (8, [.int xa, .int xb, .int xc, .int z_3, .int (e0 1), .int (e0 2), .int (e0 3), .int (e0 4), .int (e0 5), .int (bi gd)])) := ⟨_, rfl⟩
      have hP : va_P D classes (wl N adr cn_4) H := by rw [ecn_4]; exact hP
      have ho_4_5 : cn_4 t = .inr (8, [.int xa, .int xb, .int xc, .int z_3, .int (e0 1), .int (e0 2), .int (e0 3), .int (e0 4), .int (e0 5), .int (bi gd)]) := by rw [ecn_4]; exact va_up_self _ _ _
      have hfr_4 : ∀ k, k ≠ t → cn_4 k = cn k := fun k a1 => (congrFun ecn_4 k).trans ((va_up_ne _ _ (by omega)).trans rfl)
      refine lv_aload_n hx hb d_Three_add_25 rfl (lv_at hl 0 rfl) ?_
      refine lv_aload_n hx hb d_Three_add_26 rfl (lv_at hl 0 rfl) ?_
      refine w_gf hx hb hK i_Product hown hP hN ho_4_5 rfl 4 (by decide) t_515 rfl rfl d_Three_add_27 ?_
      refine lv_iload_n hx hb d_Three_add_30 rfl (lv_at hl 1 rfl) ?_
      refine x_max hx hb hml hown hK hl.1 t_232 (Nat.le_of_ble_eq_true rfl) (Nat.le_of_ble_eq_true rfl) ⟨Nat.le_of_ble_eq_true rfl, Nat.le_of_ble_eq_true rfl⟩ (Nat.le_of_ble_eq_true rfl) rfl rfl  d_Three_add_31 (fun z_6 tz_6 => ?_)
      refine w_pf hx hb hK i_Product t_Product t_Product_ok n_Product hown hi hP hS wA_mem hN ho_4_5 rfl 4 (by decide) t_515 rfl rfl rfl rfl rfl d_Three_add_34 (fun H locs hP hS => ?_)
      obtain ⟨cn_7, ecn_7⟩ : ∃ q : Nat → va_E, q = va_up cn_4 t (.inr (8, [.int xa, .int xb, .int xc, .int z_3, .int z_6, .int (e0 2), .int (e0 3), .int (e0 4), .int (e0 5), .int (bi gd)])) := ⟨_, rfl⟩
      have hP : va_P D classes (wl N adr cn_7) H := by rw [ecn_7]; exact hP
      have ho_7_8 : cn_7 t = .inr (8, [.int xa, .int xb, .int xc, .int z_3, .int z_6, .int (e0 2), .int (e0 3), .int (e0 4), .int (e0 5), .int (bi gd)]) := by rw [ecn_7]; exact va_up_self _ _ _
      have hfr_7 : ∀ k, k ≠ t → cn_7 k = cn k := fun k a1 => (congrFun ecn_7 k).trans ((va_up_ne _ _ (by omega)).trans (hfr_4 k a1))
      refine lv_aload_n hx hb d_Three_add_37 rfl (lv_at hl 0 rfl) ?_
      refine lv_aload_n hx hb d_Three_add_38 rfl (lv_at hl 0 rfl) ?_
      refine w_gf hx hb hK i_Product hown hP hN ho_7_8 rfl 5 (by decide) t_516 rfl rfl d_Three_add_39 ?_
      refine lv_iload_n hx hb d_Three_add_42 rfl (lv_at hl 2 rfl) ?_
      refine x_min hx hb hml hown hK hl.1 t_231 (Nat.le_of_ble_eq_true rfl) (Nat.le_of_ble_eq_true rfl) ⟨Nat.le_of_ble_eq_true rfl, Nat.le_of_ble_eq_true rfl⟩ (Nat.le_of_ble_eq_true rfl) rfl rfl  d_Three_add_43 (fun z_9 tz_9 => ?_)
      refine w_pf hx hb hK i_Product t_Product t_Product_ok n_Product hown hi hP hS wA_mem hN ho_7_8 rfl 5 (by decide) t_516 rfl rfl rfl rfl rfl d_Three_add_46 (fun H locs hP hS => ?_)
      obtain ⟨cn_10, ecn_10⟩ : ∃ q : Nat → va_E, q = va_up cn_7 t (.inr (8, [.int xa, .int xb, .int xc, .int z_3, .int z_6, .int z_9, .int (e0 3), .int (e0 4), .int (e0 5), .int (bi gd)])) := ⟨_, rfl⟩
      have hP : va_P D classes (wl N adr cn_10) H := by rw [ecn_10]; exact hP
      have ho_10_11 : cn_10 t = .inr (8, [.int xa, .int xb, .int xc, .int z_3, .int z_6, .int z_9, .int (e0 3), .int (e0 4), .int (e0 5), .int (bi gd)]) := by rw [ecn_10]; exact va_up_self _ _ _
      have hfr_10 : ∀ k, k ≠ t → cn_10 k = cn k := fun k a1 => (congrFun ecn_10 k).trans ((va_up_ne _ _ (by omega)).trans (hfr_7 k a1))
      refine lv_aload_n hx hb d_Three_add_49 rfl (lv_at hl 0 rfl) ?_
      refine lv_aload_n hx hb d_Three_add_50 rfl (lv_at hl 0 rfl) ?_
      refine w_gf hx hb hK i_Product hown hP hN ho_10_11 rfl 6 (by decide) t_517 rfl rfl d_Three_add_51 ?_
      refine lv_iload_n hx hb d_Three_add_54 rfl (lv_at hl 3 rfl) ?_
      refine x_max hx hb hml hown hK hl.1 t_232 (Nat.le_of_ble_eq_true rfl) (Nat.le_of_ble_eq_true rfl) ⟨Nat.le_of_ble_eq_true rfl, Nat.le_of_ble_eq_true rfl⟩ (Nat.le_of_ble_eq_true rfl) rfl rfl  d_Three_add_55 (fun z_12 tz_12 => ?_)
      refine w_pf hx hb hK i_Product t_Product t_Product_ok n_Product hown hi hP hS wA_mem hN ho_10_11 rfl 6 (by decide) t_517 rfl rfl rfl rfl rfl d_Three_add_58 (fun H locs hP hS => ?_)
      obtain ⟨cn_13, ecn_13⟩ : ∃ q : Nat → va_E, q = va_up cn_10 t (.inr (8, [.int xa, .int xb, .int xc, .int z_3, .int z_6, .int z_9, .int z_12, .int (e0 4), .int (e0 5), .int (bi gd)])) := ⟨_, rfl⟩
      have hP : va_P D classes (wl N adr cn_13) H := by rw [ecn_13]; exact hP
      have ho_13_14 : cn_13 t = .inr (8, [.int xa, .int xb, .int xc, .int z_3, .int z_6, .int z_9, .int z_12, .int (e0 4), .int (e0 5), .int (bi gd)]) := by rw [ecn_13]; exact va_up_self _ _ _
      have hfr_13 : ∀ k, k ≠ t → cn_13 k = cn k := fun k a1 => (congrFun ecn_13 k).trans ((va_up_ne _ _ (by omega)).trans (hfr_10 k a1))
      refine lv_aload_n hx hb d_Three_add_61 rfl (lv_at hl 0 rfl) ?_
      refine lv_aload_n hx hb d_Three_add_62 rfl (lv_at hl 0 rfl) ?_
      refine w_gf hx hb hK i_Product hown hP hN ho_13_14 rfl 7 (by decide) t_518 rfl rfl d_Three_add_63 ?_
      refine lv_iload hx hb d_Three_add_66 (lv_at hl 4 rfl) ?_
      refine x_min hx hb hml hown hK hl.1 t_231 (Nat.le_of_ble_eq_true rfl) (Nat.le_of_ble_eq_true rfl) ⟨Nat.le_of_ble_eq_true rfl, Nat.le_of_ble_eq_true rfl⟩ (Nat.le_of_ble_eq_true rfl) rfl rfl  d_Three_add_68 (fun z_15 tz_15 => ?_)
      refine w_pf hx hb hK i_Product t_Product t_Product_ok n_Product hown hi hP hS wA_mem hN ho_13_14 rfl 7 (by decide) t_518 rfl rfl rfl rfl rfl d_Three_add_71 (fun H locs hP hS => ?_)
      obtain ⟨cn_16, ecn_16⟩ : ∃ q : Nat → va_E, q = va_up cn_13 t (.inr (8, [.int xa, .int xb, .int xc, .int z_3, .int z_6, .int z_9, .int z_12, .int z_15, .int (e0 5), .int (bi gd)])) := ⟨_, rfl⟩
      have hP : va_P D classes (wl N adr cn_16) H := by rw [ecn_16]; exact hP
      have ho_16_17 : cn_16 t = .inr (8, [.int xa, .int xb, .int xc, .int z_3, .int z_6, .int z_9, .int z_12, .int z_15, .int (e0 5), .int (bi gd)]) := by rw [ecn_16]; exact va_up_self _ _ _
      have hfr_16 : ∀ k, k ≠ t → cn_16 k = cn k := fun k a1 => (congrFun ecn_16 k).trans ((va_up_ne _ _ (by omega)).trans (hfr_13 k a1))
      refine lv_aload_n hx hb d_Three_add_74 rfl (lv_at hl 0 rfl) ?_
      refine lv_aload_n hx hb d_Three_add_75 rfl (lv_at hl 0 rfl) ?_
      refine w_gf hx hb hK i_Product hown hP hN ho_16_17 rfl 8 (by decide) t_519 rfl rfl d_Three_add_76 ?_
      refine lv_iload hx hb d_Three_add_79 (lv_at hl 5 rfl) ?_
      refine x_max hx hb hml hown hK hl.1 t_232 (Nat.le_of_ble_eq_true rfl) (Nat.le_of_ble_eq_true rfl) ⟨Nat.le_of_ble_eq_true rfl, Nat.le_of_ble_eq_true rfl⟩ (Nat.le_of_ble_eq_true rfl) rfl rfl  d_Three_add_81 (fun z_18 tz_18 => ?_)
      refine w_pf hx hb hK i_Product t_Product t_Product_ok n_Product hown hi hP hS wA_mem hN ho_16_17 rfl 8 (by decide) t_519 rfl rfl rfl rfl rfl d_Three_add_84 (fun H locs hP hS => ?_)
      obtain ⟨cn_19, ecn_19⟩ : ∃ q : Nat → va_E, q = va_up cn_16 t (.inr (8, [.int xa, .int xb, .int xc, .int z_3, .int z_6, .int z_9, .int z_12, .int z_15, .int z_18, .int (bi gd)])) := ⟨_, rfl⟩
      have hP : va_P D classes (wl N adr cn_19) H := by rw [ecn_19]; exact hP
      have ho_19_20 : cn_19 t = .inr (8, [.int xa, .int xb, .int xc, .int z_3, .int z_6, .int z_9, .int z_12, .int z_15, .int z_18, .int (bi gd)]) := by rw [ecn_19]; exact va_up_self _ _ _
      have hfr_19 : ∀ k, k ≠ t → cn_19 k = cn k := fun k a1 => (congrFun ecn_19 k).trans ((va_up_ne _ _ (by omega)).trans (hfr_16 k a1))
      refine e_v hx hb hr hlk hQ hS d_Three_add_87 ?_
      refine ⟨cn_19, fun k => match k with | 0 => z_3 | 1 => z_6 | 2 => z_9 | 3 => z_12 | 4 => z_15 | _ => z_18, rfl, hfr_19, ho_19_20, ⟨fun _ => ⟨tz_3, tz_6, tz_9, tz_12, tz_15, tz_18⟩, fun h => absurd (by omega) h⟩, hP⟩
    · refine e_v hx hb hr hlk hQ hS d_Three_add_12 ?_
      exact ⟨cn, e0, rfl, FrT.rf, hT, ⟨fun h => absurd h (by omega), fun _ => rfl⟩, hP⟩
set_option maxHeartbeats 4000000 in
set_option maxRecDepth 20000 in
theorem k_add_Quotient (l : Launch) (D : va_G) (cA : Nat → ClassId) (adr : Nat → Nat) (N : List Nat) (hi : wI N adr) (cn : Nat → va_E) (t : Nat) (xa xb xc : Int32) (e0 : Nat → Int32) (gd : Bool) (hT : TP cn t 9 xa xb xc e0 gd) (hN : t ∈ N) (x fb tb fc tc : Int32) : Ct l y_Three_add b_Three_add 6 none 2 D cA [.ref (adr t), .int x, .int fb, .int tb, .int fc, .int tc] (fun H => va_P D classes (wl N adr cn) H) (fun r H => ∃ (cn2 : Nat → va_E) (e2 : Nat → Int32), r = none ∧ FrT t cn cn2 ∧ TP cn2 t 9 xa xb xc e2 gd ∧ AddR e0 e2 x.toInt fb.toInt tb.toInt fc.toInt tc.toInt ∧ va_P D classes (wl N adr cn2) H) (wA N adr) := by
  refine Ct.mk (by decide) (Nat.le_of_ble_eq_true rfl) ?_
  intro p e s m args below meth c Q H locs ls hx hb hr hml hlk hown hin hK hQ hS hP hl
  have hl : lv_has ls 6 [(0, .ref (adr t)), (1, .int x), (2, .int fb), (3, .int tb), (4, .int fc), (5, .int tc)] := hl
  have hown : s.vm.findClass "RangeSheet$Three" = some m.cls := hown
  refine lv_iload_n hx hb d_Three_add_0 rfl (lv_at hl 2 rfl) ?_
  refine lv_iload_n hx hb d_Three_add_1 rfl (lv_at hl 3 rfl) ?_
  refine b_icmp_gt (tgt := 12) hx hb d_Three_add_2 (by decide) rfl rfl (fun c_1 => ?_) (fun c_1 => ?_)
  · refine e_v hx hb hr hlk hQ hS d_Three_add_12 ?_
    exact ⟨cn, e0, rfl, FrT.rf, hT, ⟨fun h => absurd h (by omega), fun _ => rfl⟩, hP⟩
  · refine lv_iload hx hb d_Three_add_5 (lv_at hl 4 rfl) ?_
    refine lv_iload hx hb d_Three_add_7 (lv_at hl 5 rfl) ?_
    refine b_icmp_le (tgt := 13) hx hb d_Three_add_9 (by decide) rfl rfl (fun c_2 => ?_) (fun c_2 => ?_)
    · refine lv_aload_n hx hb d_Three_add_13 rfl (lv_at hl 0 rfl) ?_
      refine lv_aload_n hx hb d_Three_add_14 rfl (lv_at hl 0 rfl) ?_
      refine w_gf hx hb hK i_Quotient hown hP hN hT rfl 3 (by decide) t_514 rfl rfl d_Three_add_15 ?_
      refine lv_iload_n hx hb d_Three_add_18 rfl (lv_at hl 1 rfl) ?_
      refine x_min hx hb hml hown hK hl.1 t_231 (Nat.le_of_ble_eq_true rfl) (Nat.le_of_ble_eq_true rfl) ⟨Nat.le_of_ble_eq_true rfl, Nat.le_of_ble_eq_true rfl⟩ (Nat.le_of_ble_eq_true rfl) rfl rfl  d_Three_add_19 (fun z_3 tz_3 => ?_)
      refine w_pf hx hb hK i_Quotient t_Quotient t_Quotient_ok n_Quotient hown hi hP hS wA_mem hN hT rfl 3 (by decide) t_514 rfl rfl rfl rfl rfl d_Three_add_22 (fun H locs hP hS => ?_)
      obtain ⟨cn_4, ecn_4⟩ : ∃ q : Nat → va_E, q = va_up cn t (.inr (9, [.int xa, .int xb, .int xc, .int z_3, .int (e0 1), .int (e0 2), .int (e0 3), .int (e0 4), .int (e0 5), .int (bi gd)])) := ⟨_, rfl⟩
      have hP : va_P D classes (wl N adr cn_4) H := by rw [ecn_4]; exact hP
      have ho_4_5 : cn_4 t = .inr (9, [.int xa, .int xb, .int xc, .int z_3, .int (e0 1), .int (e0 2), .int (e0 3), .int (e0 4), .int (e0 5), .int (bi gd)]) := by rw [ecn_4]; exact va_up_self _ _ _
      have hfr_4 : ∀ k, k ≠ t → cn_4 k = cn k := fun k a1 => (congrFun ecn_4 k).trans ((va_up_ne _ _ (by omega)).trans rfl)
      refine lv_aload_n hx hb d_Three_add_25 rfl (lv_at hl 0 rfl) ?_
      refine lv_aload_n hx hb d_Three_add_26 rfl (lv_at hl 0 rfl) ?_
      refine w_gf hx hb hK i_Quotient hown hP hN ho_4_5 rfl 4 (by decide) t_515 rfl rfl d_Three_add_27 ?_
      refine lv_iload_n hx hb d_Three_add_30 rfl (lv_at hl 1 rfl) ?_
      refine x_max hx hb hml hown hK hl.1 t_232 (Nat.le_of_ble_eq_true rfl) (Nat.le_of_ble_eq_true rfl) ⟨Nat.le_of_ble_eq_true rfl, Nat.le_of_ble_eq_true rfl⟩ (Nat.le_of_ble_eq_true rfl) rfl rfl  d_Three_add_31 (fun z_6 tz_6 => ?_)
      refine w_pf hx hb hK i_Quotient t_Quotient t_Quotient_ok n_Quotient hown hi hP hS wA_mem hN ho_4_5 rfl 4 (by decide) t_515 rfl rfl rfl rfl rfl d_Three_add_34 (fun H locs hP hS => ?_)
      obtain ⟨cn_7, ecn_7⟩ : ∃ q : Nat → va_E, q = va_up cn_4 t (.inr (9, [.int xa, .int xb, .int xc, .int z_3, .int z_6, .int (e0 2), .int (e0 3), .int (e0 4), .int (e0 5), .int (bi gd)])) := ⟨_, rfl⟩
      have hP : va_P D classes (wl N adr cn_7) H := by rw [ecn_7]; exact hP
      have ho_7_8 : cn_7 t = .inr (9, [.int xa, .int xb, .int xc, .int z_3, .int z_6, .int (e0 2), .int (e0 3), .int (e0 4), .int (e0 5), .int (bi gd)]) := by rw [ecn_7]; exact va_up_self _ _ _
      have hfr_7 : ∀ k, k ≠ t → cn_7 k = cn k := fun k a1 => (congrFun ecn_7 k).trans ((va_up_ne _ _ (by omega)).trans (hfr_4 k a1))
      refine lv_aload_n hx hb d_Three_add_37 rfl (lv_at hl 0 rfl) ?_
      refine lv_aload_n hx hb d_Three_add_38 rfl (lv_at hl 0 rfl) ?_
      refine w_gf hx hb hK i_Quotient hown hP hN ho_7_8 rfl 5 (by decide) t_516 rfl rfl d_Three_add_39 ?_
      refine lv_iload_n hx hb d_Three_add_42 rfl (lv_at hl 2 rfl) ?_
      refine x_min hx hb hml hown hK hl.1 t_231 (Nat.le_of_ble_eq_true rfl) (Nat.le_of_ble_eq_true rfl) ⟨Nat.le_of_ble_eq_true rfl, Nat.le_of_ble_eq_true rfl⟩ (Nat.le_of_ble_eq_true rfl) rfl rfl  d_Three_add_43 (fun z_9 tz_9 => ?_)
      refine w_pf hx hb hK i_Quotient t_Quotient t_Quotient_ok n_Quotient hown hi hP hS wA_mem hN ho_7_8 rfl 5 (by decide) t_516 rfl rfl rfl rfl rfl d_Three_add_46 (fun H locs hP hS => ?_)
      obtain ⟨cn_10, ecn_10⟩ : ∃ q : Nat → va_E, q = va_up cn_7 t (.inr (9, [.int xa, .int xb, .int xc, .int z_3, .int z_6, .int z_9, .int (e0 3), .int (e0 4), .int (e0 5), .int (bi gd)])) := ⟨_, rfl⟩
      have hP : va_P D classes (wl N adr cn_10) H := by rw [ecn_10]; exact hP
      have ho_10_11 : cn_10 t = .inr (9, [.int xa, .int xb, .int xc, .int z_3, .int z_6, .int z_9, .int (e0 3), .int (e0 4), .int (e0 5), .int (bi gd)]) := by rw [ecn_10]; exact va_up_self _ _ _
      have hfr_10 : ∀ k, k ≠ t → cn_10 k = cn k := fun k a1 => (congrFun ecn_10 k).trans ((va_up_ne _ _ (by omega)).trans (hfr_7 k a1))
      refine lv_aload_n hx hb d_Three_add_49 rfl (lv_at hl 0 rfl) ?_
      refine lv_aload_n hx hb d_Three_add_50 rfl (lv_at hl 0 rfl) ?_
      refine w_gf hx hb hK i_Quotient hown hP hN ho_10_11 rfl 6 (by decide) t_517 rfl rfl d_Three_add_51 ?_
      refine lv_iload_n hx hb d_Three_add_54 rfl (lv_at hl 3 rfl) ?_
      refine x_max hx hb hml hown hK hl.1 t_232 (Nat.le_of_ble_eq_true rfl) (Nat.le_of_ble_eq_true rfl) ⟨Nat.le_of_ble_eq_true rfl, Nat.le_of_ble_eq_true rfl⟩ (Nat.le_of_ble_eq_true rfl) rfl rfl  d_Three_add_55 (fun z_12 tz_12 => ?_)
      refine w_pf hx hb hK i_Quotient t_Quotient t_Quotient_ok n_Quotient hown hi hP hS wA_mem hN ho_10_11 rfl 6 (by decide) t_517 rfl rfl rfl rfl rfl d_Three_add_58 (fun H locs hP hS => ?_)
      obtain ⟨cn_13, ecn_13⟩ : ∃ q : Nat → va_E, q = va_up cn_10 t (.inr (9, [.int xa, .int xb, .int xc, .int z_3, .int z_6, .int z_9, .int z_12, .int (e0 4), .int (e0 5), .int (bi gd)])) := ⟨_, rfl⟩
      have hP : va_P D classes (wl N adr cn_13) H := by rw [ecn_13]; exact hP
      have ho_13_14 : cn_13 t = .inr (9, [.int xa, .int xb, .int xc, .int z_3, .int z_6, .int z_9, .int z_12, .int (e0 4), .int (e0 5), .int (bi gd)]) := by rw [ecn_13]; exact va_up_self _ _ _
      have hfr_13 : ∀ k, k ≠ t → cn_13 k = cn k := fun k a1 => (congrFun ecn_13 k).trans ((va_up_ne _ _ (by omega)).trans (hfr_10 k a1))
      refine lv_aload_n hx hb d_Three_add_61 rfl (lv_at hl 0 rfl) ?_
      refine lv_aload_n hx hb d_Three_add_62 rfl (lv_at hl 0 rfl) ?_
      refine w_gf hx hb hK i_Quotient hown hP hN ho_13_14 rfl 7 (by decide) t_518 rfl rfl d_Three_add_63 ?_
      refine lv_iload hx hb d_Three_add_66 (lv_at hl 4 rfl) ?_
      refine x_min hx hb hml hown hK hl.1 t_231 (Nat.le_of_ble_eq_true rfl) (Nat.le_of_ble_eq_true rfl) ⟨Nat.le_of_ble_eq_true rfl, Nat.le_of_ble_eq_true rfl⟩ (Nat.le_of_ble_eq_true rfl) rfl rfl  d_Three_add_68 (fun z_15 tz_15 => ?_)
      refine w_pf hx hb hK i_Quotient t_Quotient t_Quotient_ok n_Quotient hown hi hP hS wA_mem hN ho_13_14 rfl 7 (by decide) t_518 rfl rfl rfl rfl rfl d_Three_add_71 (fun H locs hP hS => ?_)
      obtain ⟨cn_16, ecn_16⟩ : ∃ q : Nat → va_E, q = va_up cn_13 t (.inr (9, [.int xa, .int xb, .int xc, .int z_3, .int z_6, .int z_9, .int z_12, .int z_15, .int (e0 5), .int (bi gd)])) := ⟨_, rfl⟩
      have hP : va_P D classes (wl N adr cn_16) H := by rw [ecn_16]; exact hP
      have ho_16_17 : cn_16 t = .inr (9, [.int xa, .int xb, .int xc, .int z_3, .int z_6, .int z_9, .int z_12, .int z_15, .int (e0 5), .int (bi gd)]) := by rw [ecn_16]; exact va_up_self _ _ _
      have hfr_16 : ∀ k, k ≠ t → cn_16 k = cn k := fun k a1 => (congrFun ecn_16 k).trans ((va_up_ne _ _ (by omega)).trans (hfr_13 k a1))
      refine lv_aload_n hx hb d_Three_add_74 rfl (lv_at hl 0 rfl) ?_
      refine lv_aload_n hx hb d_Three_add_75 rfl (lv_at hl 0 rfl) ?_
      refine w_gf hx hb hK i_Quotient hown hP hN ho_16_17 rfl 8 (by decide) t_519 rfl rfl d_Three_add_76 ?_
      refine lv_iload hx hb d_Three_add_79 (lv_at hl 5 rfl) ?_
      refine x_max hx hb hml hown hK hl.1 t_232 (Nat.le_of_ble_eq_true rfl) (Nat.le_of_ble_eq_true rfl) ⟨Nat.le_of_ble_eq_true rfl, Nat.le_of_ble_eq_true rfl⟩ (Nat.le_of_ble_eq_true rfl) rfl rfl  d_Three_add_81 (fun z_18 tz_18 => ?_)
      refine w_pf hx hb hK i_Quotient t_Quotient t_Quotient_ok n_Quotient hown hi hP hS wA_mem hN ho_16_17 rfl 8 (by decide) t_519 rfl rfl rfl rfl rfl d_Three_add_84 (fun H locs hP hS => ?_)
      obtain ⟨cn_19, ecn_19⟩ : ∃ q : Nat → va_E, q = va_up cn_16 t (.inr (9, [.int xa, .int xb, .int xc, .int z_3, .int z_6, .int z_9, .int z_12, .int z_15, .int z_18, .int (bi gd)])) := ⟨_, rfl⟩
      have hP : va_P D classes (wl N adr cn_19) H := by rw [ecn_19]; exact hP
      have ho_19_20 : cn_19 t = .inr (9, [.int xa, .int xb, .int xc, .int z_3, .int z_6, .int z_9, .int z_12, .int z_15, .int z_18, .int (bi gd)]) := by rw [ecn_19]; exact va_up_self _ _ _
      have hfr_19 : ∀ k, k ≠ t → cn_19 k = cn k := fun k a1 => (congrFun ecn_19 k).trans ((va_up_ne _ _ (by omega)).trans (hfr_16 k a1))
      refine e_v hx hb hr hlk hQ hS d_Three_add_87 ?_
      refine ⟨cn_19, fun k => match k with | 0 => z_3 | 1 => z_6 | 2 => z_9 | 3 => z_12 | 4 => z_15 | _ => z_18, rfl, hfr_19, ho_19_20, ⟨fun _ => ⟨tz_3, tz_6, tz_9, tz_12, tz_15, tz_18⟩, fun h => absurd (by omega) h⟩, hP⟩
    · refine e_v hx hb hr hlk hQ hS d_Three_add_12 ?_
      exact ⟨cn, e0, rfl, FrT.rf, hT, ⟨fun h => absurd h (by omega), fun _ => rfl⟩, hP⟩
set_option maxHeartbeats 4000000 in
set_option maxRecDepth 20000 in
theorem k_add_Lesser (l : Launch) (D : va_G) (cA : Nat → ClassId) (adr : Nat → Nat) (N : List Nat) (hi : wI N adr) (cn : Nat → va_E) (t : Nat) (xa xb xc : Int32) (e0 : Nat → Int32) (gd : Bool) (hT : TP cn t 10 xa xb xc e0 gd) (hN : t ∈ N) (x fb tb fc tc : Int32) : Ct l y_Three_add b_Three_add 6 none 2 D cA [.ref (adr t), .int x, .int fb, .int tb, .int fc, .int tc] (fun H => va_P D classes (wl N adr cn) H) (fun r H => ∃ (cn2 : Nat → va_E) (e2 : Nat → Int32), r = none ∧ FrT t cn cn2 ∧ TP cn2 t 10 xa xb xc e2 gd ∧ AddR e0 e2 x.toInt fb.toInt tb.toInt fc.toInt tc.toInt ∧ va_P D classes (wl N adr cn2) H) (wA N adr) := by
  refine Ct.mk (by decide) (Nat.le_of_ble_eq_true rfl) ?_
  intro p e s m args below meth c Q H locs ls hx hb hr hml hlk hown hin hK hQ hS hP hl
  have hl : lv_has ls 6 [(0, .ref (adr t)), (1, .int x), (2, .int fb), (3, .int tb), (4, .int fc), (5, .int tc)] := hl
  have hown : s.vm.findClass "RangeSheet$Three" = some m.cls := hown
  refine lv_iload_n hx hb d_Three_add_0 rfl (lv_at hl 2 rfl) ?_
  refine lv_iload_n hx hb d_Three_add_1 rfl (lv_at hl 3 rfl) ?_
  refine b_icmp_gt (tgt := 12) hx hb d_Three_add_2 (by decide) rfl rfl (fun c_1 => ?_) (fun c_1 => ?_)
  · refine e_v hx hb hr hlk hQ hS d_Three_add_12 ?_
    exact ⟨cn, e0, rfl, FrT.rf, hT, ⟨fun h => absurd h (by omega), fun _ => rfl⟩, hP⟩
  · refine lv_iload hx hb d_Three_add_5 (lv_at hl 4 rfl) ?_
    refine lv_iload hx hb d_Three_add_7 (lv_at hl 5 rfl) ?_
    refine b_icmp_le (tgt := 13) hx hb d_Three_add_9 (by decide) rfl rfl (fun c_2 => ?_) (fun c_2 => ?_)
    · refine lv_aload_n hx hb d_Three_add_13 rfl (lv_at hl 0 rfl) ?_
      refine lv_aload_n hx hb d_Three_add_14 rfl (lv_at hl 0 rfl) ?_
      refine w_gf hx hb hK i_Lesser hown hP hN hT rfl 3 (by decide) t_514 rfl rfl d_Three_add_15 ?_
      refine lv_iload_n hx hb d_Three_add_18 rfl (lv_at hl 1 rfl) ?_
      refine x_min hx hb hml hown hK hl.1 t_231 (Nat.le_of_ble_eq_true rfl) (Nat.le_of_ble_eq_true rfl) ⟨Nat.le_of_ble_eq_true rfl, Nat.le_of_ble_eq_true rfl⟩ (Nat.le_of_ble_eq_true rfl) rfl rfl  d_Three_add_19 (fun z_3 tz_3 => ?_)
      refine w_pf hx hb hK i_Lesser t_Lesser t_Lesser_ok n_Lesser hown hi hP hS wA_mem hN hT rfl 3 (by decide) t_514 rfl rfl rfl rfl rfl d_Three_add_22 (fun H locs hP hS => ?_)
      obtain ⟨cn_4, ecn_4⟩ : ∃ q : Nat → va_E, q = va_up cn t (.inr (10, [.int xa, .int xb, .int xc, .int z_3, .int (e0 1), .int (e0 2), .int (e0 3), .int (e0 4), .int (e0 5), .int (bi gd)])) := ⟨_, rfl⟩
      have hP : va_P D classes (wl N adr cn_4) H := by rw [ecn_4]; exact hP
      have ho_4_5 : cn_4 t = .inr (10, [.int xa, .int xb, .int xc, .int z_3, .int (e0 1), .int (e0 2), .int (e0 3), .int (e0 4), .int (e0 5), .int (bi gd)]) := by rw [ecn_4]; exact va_up_self _ _ _
      have hfr_4 : ∀ k, k ≠ t → cn_4 k = cn k := fun k a1 => (congrFun ecn_4 k).trans ((va_up_ne _ _ (by omega)).trans rfl)
      refine lv_aload_n hx hb d_Three_add_25 rfl (lv_at hl 0 rfl) ?_
      refine lv_aload_n hx hb d_Three_add_26 rfl (lv_at hl 0 rfl) ?_
      refine w_gf hx hb hK i_Lesser hown hP hN ho_4_5 rfl 4 (by decide) t_515 rfl rfl d_Three_add_27 ?_
      refine lv_iload_n hx hb d_Three_add_30 rfl (lv_at hl 1 rfl) ?_
      refine x_max hx hb hml hown hK hl.1 t_232 (Nat.le_of_ble_eq_true rfl) (Nat.le_of_ble_eq_true rfl) ⟨Nat.le_of_ble_eq_true rfl, Nat.le_of_ble_eq_true rfl⟩ (Nat.le_of_ble_eq_true rfl) rfl rfl  d_Three_add_31 (fun z_6 tz_6 => ?_)
      refine w_pf hx hb hK i_Lesser t_Lesser t_Lesser_ok n_Lesser hown hi hP hS wA_mem hN ho_4_5 rfl 4 (by decide) t_515 rfl rfl rfl rfl rfl d_Three_add_34 (fun H locs hP hS => ?_)
      obtain ⟨cn_7, ecn_7⟩ : ∃ q : Nat → va_E, q = va_up cn_4 t (.inr (10, [.int xa, .int xb, .int xc, .int z_3, .int z_6, .int (e0 2), .int (e0 3), .int (e0 4), .int (e0 5), .int (bi gd)])) := ⟨_, rfl⟩
      have hP : va_P D classes (wl N adr cn_7) H := by rw [ecn_7]; exact hP
      have ho_7_8 : cn_7 t = .inr (10, [.int xa, .int xb, .int xc, .int z_3, .int z_6, .int (e0 2), .int (e0 3), .int (e0 4), .int (e0 5), .int (bi gd)]) := by rw [ecn_7]; exact va_up_self _ _ _
      have hfr_7 : ∀ k, k ≠ t → cn_7 k = cn k := fun k a1 => (congrFun ecn_7 k).trans ((va_up_ne _ _ (by omega)).trans (hfr_4 k a1))
      refine lv_aload_n hx hb d_Three_add_37 rfl (lv_at hl 0 rfl) ?_
      refine lv_aload_n hx hb d_Three_add_38 rfl (lv_at hl 0 rfl) ?_
      refine w_gf hx hb hK i_Lesser hown hP hN ho_7_8 rfl 5 (by decide) t_516 rfl rfl d_Three_add_39 ?_
      refine lv_iload_n hx hb d_Three_add_42 rfl (lv_at hl 2 rfl) ?_
      refine x_min hx hb hml hown hK hl.1 t_231 (Nat.le_of_ble_eq_true rfl) (Nat.le_of_ble_eq_true rfl) ⟨Nat.le_of_ble_eq_true rfl, Nat.le_of_ble_eq_true rfl⟩ (Nat.le_of_ble_eq_true rfl) rfl rfl  d_Three_add_43 (fun z_9 tz_9 => ?_)
      refine w_pf hx hb hK i_Lesser t_Lesser t_Lesser_ok n_Lesser hown hi hP hS wA_mem hN ho_7_8 rfl 5 (by decide) t_516 rfl rfl rfl rfl rfl d_Three_add_46 (fun H locs hP hS => ?_)
      obtain ⟨cn_10, ecn_10⟩ : ∃ q : Nat → va_E, q = va_up cn_7 t (.inr (10, [.int xa, .int xb, .int xc, .int z_3, .int z_6, .int z_9, .int (e0 3), .int (e0 4), .int (e0 5), .int (bi gd)])) := ⟨_, rfl⟩
      have hP : va_P D classes (wl N adr cn_10) H := by rw [ecn_10]; exact hP
      have ho_10_11 : cn_10 t = .inr (10, [.int xa, .int xb, .int xc, .int z_3, .int z_6, .int z_9, .int (e0 3), .int (e0 4), .int (e0 5), .int (bi gd)]) := by rw [ecn_10]; exact va_up_self _ _ _
      have hfr_10 : ∀ k, k ≠ t → cn_10 k = cn k := fun k a1 => (congrFun ecn_10 k).trans ((va_up_ne _ _ (by omega)).trans (hfr_7 k a1))
      refine lv_aload_n hx hb d_Three_add_49 rfl (lv_at hl 0 rfl) ?_
      refine lv_aload_n hx hb d_Three_add_50 rfl (lv_at hl 0 rfl) ?_
      refine w_gf hx hb hK i_Lesser hown hP hN ho_10_11 rfl 6 (by decide) t_517 rfl rfl d_Three_add_51 ?_
      refine lv_iload_n hx hb d_Three_add_54 rfl (lv_at hl 3 rfl) ?_
      refine x_max hx hb hml hown hK hl.1 t_232 (Nat.le_of_ble_eq_true rfl) (Nat.le_of_ble_eq_true rfl) ⟨Nat.le_of_ble_eq_true rfl, Nat.le_of_ble_eq_true rfl⟩ (Nat.le_of_ble_eq_true rfl) rfl rfl  d_Three_add_55 (fun z_12 tz_12 => ?_)
      refine w_pf hx hb hK i_Lesser t_Lesser t_Lesser_ok n_Lesser hown hi hP hS wA_mem hN ho_10_11 rfl 6 (by decide) t_517 rfl rfl rfl rfl rfl d_Three_add_58 (fun H locs hP hS => ?_)
      obtain ⟨cn_13, ecn_13⟩ : ∃ q : Nat → va_E, q = va_up cn_10 t (.inr (10, [.int xa, .int xb, .int xc, .int z_3, .int z_6, .int z_9, .int z_12, .int (e0 4), .int (e0 5), .int (bi gd)])) := ⟨_, rfl⟩
      have hP : va_P D classes (wl N adr cn_13) H := by rw [ecn_13]; exact hP
      have ho_13_14 : cn_13 t = .inr (10, [.int xa, .int xb, .int xc, .int z_3, .int z_6, .int z_9, .int z_12, .int (e0 4), .int (e0 5), .int (bi gd)]) := by rw [ecn_13]; exact va_up_self _ _ _
      have hfr_13 : ∀ k, k ≠ t → cn_13 k = cn k := fun k a1 => (congrFun ecn_13 k).trans ((va_up_ne _ _ (by omega)).trans (hfr_10 k a1))
      refine lv_aload_n hx hb d_Three_add_61 rfl (lv_at hl 0 rfl) ?_
      refine lv_aload_n hx hb d_Three_add_62 rfl (lv_at hl 0 rfl) ?_
      refine w_gf hx hb hK i_Lesser hown hP hN ho_13_14 rfl 7 (by decide) t_518 rfl rfl d_Three_add_63 ?_
      refine lv_iload hx hb d_Three_add_66 (lv_at hl 4 rfl) ?_
      refine x_min hx hb hml hown hK hl.1 t_231 (Nat.le_of_ble_eq_true rfl) (Nat.le_of_ble_eq_true rfl) ⟨Nat.le_of_ble_eq_true rfl, Nat.le_of_ble_eq_true rfl⟩ (Nat.le_of_ble_eq_true rfl) rfl rfl  d_Three_add_68 (fun z_15 tz_15 => ?_)
      refine w_pf hx hb hK i_Lesser t_Lesser t_Lesser_ok n_Lesser hown hi hP hS wA_mem hN ho_13_14 rfl 7 (by decide) t_518 rfl rfl rfl rfl rfl d_Three_add_71 (fun H locs hP hS => ?_)
      obtain ⟨cn_16, ecn_16⟩ : ∃ q : Nat → va_E, q = va_up cn_13 t (.inr (10, [.int xa, .int xb, .int xc, .int z_3, .int z_6, .int z_9, .int z_12, .int z_15, .int (e0 5), .int (bi gd)])) := ⟨_, rfl⟩
      have hP : va_P D classes (wl N adr cn_16) H := by rw [ecn_16]; exact hP
      have ho_16_17 : cn_16 t = .inr (10, [.int xa, .int xb, .int xc, .int z_3, .int z_6, .int z_9, .int z_12, .int z_15, .int (e0 5), .int (bi gd)]) := by rw [ecn_16]; exact va_up_self _ _ _
      have hfr_16 : ∀ k, k ≠ t → cn_16 k = cn k := fun k a1 => (congrFun ecn_16 k).trans ((va_up_ne _ _ (by omega)).trans (hfr_13 k a1))
      refine lv_aload_n hx hb d_Three_add_74 rfl (lv_at hl 0 rfl) ?_
      refine lv_aload_n hx hb d_Three_add_75 rfl (lv_at hl 0 rfl) ?_
      refine w_gf hx hb hK i_Lesser hown hP hN ho_16_17 rfl 8 (by decide) t_519 rfl rfl d_Three_add_76 ?_
      refine lv_iload hx hb d_Three_add_79 (lv_at hl 5 rfl) ?_
      refine x_max hx hb hml hown hK hl.1 t_232 (Nat.le_of_ble_eq_true rfl) (Nat.le_of_ble_eq_true rfl) ⟨Nat.le_of_ble_eq_true rfl, Nat.le_of_ble_eq_true rfl⟩ (Nat.le_of_ble_eq_true rfl) rfl rfl  d_Three_add_81 (fun z_18 tz_18 => ?_)
      refine w_pf hx hb hK i_Lesser t_Lesser t_Lesser_ok n_Lesser hown hi hP hS wA_mem hN ho_16_17 rfl 8 (by decide) t_519 rfl rfl rfl rfl rfl d_Three_add_84 (fun H locs hP hS => ?_)
      obtain ⟨cn_19, ecn_19⟩ : ∃ q : Nat → va_E, q = va_up cn_16 t (.inr (10, [.int xa, .int xb, .int xc, .int z_3, .int z_6, .int z_9, .int z_12, .int z_15, .int z_18, .int (bi gd)])) := ⟨_, rfl⟩
      have hP : va_P D classes (wl N adr cn_19) H := by rw [ecn_19]; exact hP
      have ho_19_20 : cn_19 t = .inr (10, [.int xa, .int xb, .int xc, .int z_3, .int z_6, .int z_9, .int z_12, .int z_15, .int z_18, .int (bi gd)]) := by rw [ecn_19]; exact va_up_self _ _ _
      have hfr_19 : ∀ k, k ≠ t → cn_19 k = cn k := fun k a1 => (congrFun ecn_19 k).trans ((va_up_ne _ _ (by omega)).trans (hfr_16 k a1))
      refine e_v hx hb hr hlk hQ hS d_Three_add_87 ?_
      refine ⟨cn_19, fun k => match k with | 0 => z_3 | 1 => z_6 | 2 => z_9 | 3 => z_12 | 4 => z_15 | _ => z_18, rfl, hfr_19, ho_19_20, ⟨fun _ => ⟨tz_3, tz_6, tz_9, tz_12, tz_15, tz_18⟩, fun h => absurd (by omega) h⟩, hP⟩
    · refine e_v hx hb hr hlk hQ hS d_Three_add_12 ?_
      exact ⟨cn, e0, rfl, FrT.rf, hT, ⟨fun h => absurd h (by omega), fun _ => rfl⟩, hP⟩
set_option maxHeartbeats 4000000 in
set_option maxRecDepth 20000 in
theorem k_add_Greater (l : Launch) (D : va_G) (cA : Nat → ClassId) (adr : Nat → Nat) (N : List Nat) (hi : wI N adr) (cn : Nat → va_E) (t : Nat) (xa xb xc : Int32) (e0 : Nat → Int32) (gd : Bool) (hT : TP cn t 11 xa xb xc e0 gd) (hN : t ∈ N) (x fb tb fc tc : Int32) : Ct l y_Three_add b_Three_add 6 none 2 D cA [.ref (adr t), .int x, .int fb, .int tb, .int fc, .int tc] (fun H => va_P D classes (wl N adr cn) H) (fun r H => ∃ (cn2 : Nat → va_E) (e2 : Nat → Int32), r = none ∧ FrT t cn cn2 ∧ TP cn2 t 11 xa xb xc e2 gd ∧ AddR e0 e2 x.toInt fb.toInt tb.toInt fc.toInt tc.toInt ∧ va_P D classes (wl N adr cn2) H) (wA N adr) := by
  refine Ct.mk (by decide) (Nat.le_of_ble_eq_true rfl) ?_
  intro p e s m args below meth c Q H locs ls hx hb hr hml hlk hown hin hK hQ hS hP hl
  have hl : lv_has ls 6 [(0, .ref (adr t)), (1, .int x), (2, .int fb), (3, .int tb), (4, .int fc), (5, .int tc)] := hl
  have hown : s.vm.findClass "RangeSheet$Three" = some m.cls := hown
  refine lv_iload_n hx hb d_Three_add_0 rfl (lv_at hl 2 rfl) ?_
  refine lv_iload_n hx hb d_Three_add_1 rfl (lv_at hl 3 rfl) ?_
  refine b_icmp_gt (tgt := 12) hx hb d_Three_add_2 (by decide) rfl rfl (fun c_1 => ?_) (fun c_1 => ?_)
  · refine e_v hx hb hr hlk hQ hS d_Three_add_12 ?_
    exact ⟨cn, e0, rfl, FrT.rf, hT, ⟨fun h => absurd h (by omega), fun _ => rfl⟩, hP⟩
  · refine lv_iload hx hb d_Three_add_5 (lv_at hl 4 rfl) ?_
    refine lv_iload hx hb d_Three_add_7 (lv_at hl 5 rfl) ?_
    refine b_icmp_le (tgt := 13) hx hb d_Three_add_9 (by decide) rfl rfl (fun c_2 => ?_) (fun c_2 => ?_)
    · refine lv_aload_n hx hb d_Three_add_13 rfl (lv_at hl 0 rfl) ?_
      refine lv_aload_n hx hb d_Three_add_14 rfl (lv_at hl 0 rfl) ?_
      refine w_gf hx hb hK i_Greater hown hP hN hT rfl 3 (by decide) t_514 rfl rfl d_Three_add_15 ?_
      refine lv_iload_n hx hb d_Three_add_18 rfl (lv_at hl 1 rfl) ?_
      refine x_min hx hb hml hown hK hl.1 t_231 (Nat.le_of_ble_eq_true rfl) (Nat.le_of_ble_eq_true rfl) ⟨Nat.le_of_ble_eq_true rfl, Nat.le_of_ble_eq_true rfl⟩ (Nat.le_of_ble_eq_true rfl) rfl rfl  d_Three_add_19 (fun z_3 tz_3 => ?_)
      refine w_pf hx hb hK i_Greater t_Greater t_Greater_ok n_Greater hown hi hP hS wA_mem hN hT rfl 3 (by decide) t_514 rfl rfl rfl rfl rfl d_Three_add_22 (fun H locs hP hS => ?_)
      obtain ⟨cn_4, ecn_4⟩ : ∃ q : Nat → va_E, q = va_up cn t (.inr (11, [.int xa, .int xb, .int xc, .int z_3, .int (e0 1), .int (e0 2), .int (e0 3), .int (e0 4), .int (e0 5), .int (bi gd)])) := ⟨_, rfl⟩
      have hP : va_P D classes (wl N adr cn_4) H := by rw [ecn_4]; exact hP
      have ho_4_5 : cn_4 t = .inr (11, [.int xa, .int xb, .int xc, .int z_3, .int (e0 1), .int (e0 2), .int (e0 3), .int (e0 4), .int (e0 5), .int (bi gd)]) := by rw [ecn_4]; exact va_up_self _ _ _
      have hfr_4 : ∀ k, k ≠ t → cn_4 k = cn k := fun k a1 => (congrFun ecn_4 k).trans ((va_up_ne _ _ (by omega)).trans rfl)
      refine lv_aload_n hx hb d_Three_add_25 rfl (lv_at hl 0 rfl) ?_
      refine lv_aload_n hx hb d_Three_add_26 rfl (lv_at hl 0 rfl) ?_
      refine w_gf hx hb hK i_Greater hown hP hN ho_4_5 rfl 4 (by decide) t_515 rfl rfl d_Three_add_27 ?_
      refine lv_iload_n hx hb d_Three_add_30 rfl (lv_at hl 1 rfl) ?_
      refine x_max hx hb hml hown hK hl.1 t_232 (Nat.le_of_ble_eq_true rfl) (Nat.le_of_ble_eq_true rfl) ⟨Nat.le_of_ble_eq_true rfl, Nat.le_of_ble_eq_true rfl⟩ (Nat.le_of_ble_eq_true rfl) rfl rfl  d_Three_add_31 (fun z_6 tz_6 => ?_)
      refine w_pf hx hb hK i_Greater t_Greater t_Greater_ok n_Greater hown hi hP hS wA_mem hN ho_4_5 rfl 4 (by decide) t_515 rfl rfl rfl rfl rfl d_Three_add_34 (fun H locs hP hS => ?_)
      obtain ⟨cn_7, ecn_7⟩ : ∃ q : Nat → va_E, q = va_up cn_4 t (.inr (11, [.int xa, .int xb, .int xc, .int z_3, .int z_6, .int (e0 2), .int (e0 3), .int (e0 4), .int (e0 5), .int (bi gd)])) := ⟨_, rfl⟩
      have hP : va_P D classes (wl N adr cn_7) H := by rw [ecn_7]; exact hP
      have ho_7_8 : cn_7 t = .inr (11, [.int xa, .int xb, .int xc, .int z_3, .int z_6, .int (e0 2), .int (e0 3), .int (e0 4), .int (e0 5), .int (bi gd)]) := by rw [ecn_7]; exact va_up_self _ _ _
      have hfr_7 : ∀ k, k ≠ t → cn_7 k = cn k := fun k a1 => (congrFun ecn_7 k).trans ((va_up_ne _ _ (by omega)).trans (hfr_4 k a1))
      refine lv_aload_n hx hb d_Three_add_37 rfl (lv_at hl 0 rfl) ?_
      refine lv_aload_n hx hb d_Three_add_38 rfl (lv_at hl 0 rfl) ?_
      refine w_gf hx hb hK i_Greater hown hP hN ho_7_8 rfl 5 (by decide) t_516 rfl rfl d_Three_add_39 ?_
      refine lv_iload_n hx hb d_Three_add_42 rfl (lv_at hl 2 rfl) ?_
      refine x_min hx hb hml hown hK hl.1 t_231 (Nat.le_of_ble_eq_true rfl) (Nat.le_of_ble_eq_true rfl) ⟨Nat.le_of_ble_eq_true rfl, Nat.le_of_ble_eq_true rfl⟩ (Nat.le_of_ble_eq_true rfl) rfl rfl  d_Three_add_43 (fun z_9 tz_9 => ?_)
      refine w_pf hx hb hK i_Greater t_Greater t_Greater_ok n_Greater hown hi hP hS wA_mem hN ho_7_8 rfl 5 (by decide) t_516 rfl rfl rfl rfl rfl d_Three_add_46 (fun H locs hP hS => ?_)
      obtain ⟨cn_10, ecn_10⟩ : ∃ q : Nat → va_E, q = va_up cn_7 t (.inr (11, [.int xa, .int xb, .int xc, .int z_3, .int z_6, .int z_9, .int (e0 3), .int (e0 4), .int (e0 5), .int (bi gd)])) := ⟨_, rfl⟩
      have hP : va_P D classes (wl N adr cn_10) H := by rw [ecn_10]; exact hP
      have ho_10_11 : cn_10 t = .inr (11, [.int xa, .int xb, .int xc, .int z_3, .int z_6, .int z_9, .int (e0 3), .int (e0 4), .int (e0 5), .int (bi gd)]) := by rw [ecn_10]; exact va_up_self _ _ _
      have hfr_10 : ∀ k, k ≠ t → cn_10 k = cn k := fun k a1 => (congrFun ecn_10 k).trans ((va_up_ne _ _ (by omega)).trans (hfr_7 k a1))
      refine lv_aload_n hx hb d_Three_add_49 rfl (lv_at hl 0 rfl) ?_
      refine lv_aload_n hx hb d_Three_add_50 rfl (lv_at hl 0 rfl) ?_
      refine w_gf hx hb hK i_Greater hown hP hN ho_10_11 rfl 6 (by decide) t_517 rfl rfl d_Three_add_51 ?_
      refine lv_iload_n hx hb d_Three_add_54 rfl (lv_at hl 3 rfl) ?_
      refine x_max hx hb hml hown hK hl.1 t_232 (Nat.le_of_ble_eq_true rfl) (Nat.le_of_ble_eq_true rfl) ⟨Nat.le_of_ble_eq_true rfl, Nat.le_of_ble_eq_true rfl⟩ (Nat.le_of_ble_eq_true rfl) rfl rfl  d_Three_add_55 (fun z_12 tz_12 => ?_)
      refine w_pf hx hb hK i_Greater t_Greater t_Greater_ok n_Greater hown hi hP hS wA_mem hN ho_10_11 rfl 6 (by decide) t_517 rfl rfl rfl rfl rfl d_Three_add_58 (fun H locs hP hS => ?_)
      obtain ⟨cn_13, ecn_13⟩ : ∃ q : Nat → va_E, q = va_up cn_10 t (.inr (11, [.int xa, .int xb, .int xc, .int z_3, .int z_6, .int z_9, .int z_12, .int (e0 4), .int (e0 5), .int (bi gd)])) := ⟨_, rfl⟩
      have hP : va_P D classes (wl N adr cn_13) H := by rw [ecn_13]; exact hP
      have ho_13_14 : cn_13 t = .inr (11, [.int xa, .int xb, .int xc, .int z_3, .int z_6, .int z_9, .int z_12, .int (e0 4), .int (e0 5), .int (bi gd)]) := by rw [ecn_13]; exact va_up_self _ _ _
      have hfr_13 : ∀ k, k ≠ t → cn_13 k = cn k := fun k a1 => (congrFun ecn_13 k).trans ((va_up_ne _ _ (by omega)).trans (hfr_10 k a1))
      refine lv_aload_n hx hb d_Three_add_61 rfl (lv_at hl 0 rfl) ?_
      refine lv_aload_n hx hb d_Three_add_62 rfl (lv_at hl 0 rfl) ?_
      refine w_gf hx hb hK i_Greater hown hP hN ho_13_14 rfl 7 (by decide) t_518 rfl rfl d_Three_add_63 ?_
      refine lv_iload hx hb d_Three_add_66 (lv_at hl 4 rfl) ?_
      refine x_min hx hb hml hown hK hl.1 t_231 (Nat.le_of_ble_eq_true rfl) (Nat.le_of_ble_eq_true rfl) ⟨Nat.le_of_ble_eq_true rfl, Nat.le_of_ble_eq_true rfl⟩ (Nat.le_of_ble_eq_true rfl) rfl rfl  d_Three_add_68 (fun z_15 tz_15 => ?_)
      refine w_pf hx hb hK i_Greater t_Greater t_Greater_ok n_Greater hown hi hP hS wA_mem hN ho_13_14 rfl 7 (by decide) t_518 rfl rfl rfl rfl rfl d_Three_add_71 (fun H locs hP hS => ?_)
      obtain ⟨cn_16, ecn_16⟩ : ∃ q : Nat → va_E, q = va_up cn_13 t (.inr (11, [.int xa, .int xb, .int xc, .int z_3, .int z_6, .int z_9, .int z_12, .int z_15, .int (e0 5), .int (bi gd)])) := ⟨_, rfl⟩
      have hP : va_P D classes (wl N adr cn_16) H := by rw [ecn_16]; exact hP
      have ho_16_17 : cn_16 t = .inr (11, [.int xa, .int xb, .int xc, .int z_3, .int z_6, .int z_9, .int z_12, .int z_15, .int (e0 5), .int (bi gd)]) := by rw [ecn_16]; exact va_up_self _ _ _
      have hfr_16 : ∀ k, k ≠ t → cn_16 k = cn k := fun k a1 => (congrFun ecn_16 k).trans ((va_up_ne _ _ (by omega)).trans (hfr_13 k a1))
      refine lv_aload_n hx hb d_Three_add_74 rfl (lv_at hl 0 rfl) ?_
      refine lv_aload_n hx hb d_Three_add_75 rfl (lv_at hl 0 rfl) ?_
      refine w_gf hx hb hK i_Greater hown hP hN ho_16_17 rfl 8 (by decide) t_519 rfl rfl d_Three_add_76 ?_
      refine lv_iload hx hb d_Three_add_79 (lv_at hl 5 rfl) ?_
      refine x_max hx hb hml hown hK hl.1 t_232 (Nat.le_of_ble_eq_true rfl) (Nat.le_of_ble_eq_true rfl) ⟨Nat.le_of_ble_eq_true rfl, Nat.le_of_ble_eq_true rfl⟩ (Nat.le_of_ble_eq_true rfl) rfl rfl  d_Three_add_81 (fun z_18 tz_18 => ?_)
      refine w_pf hx hb hK i_Greater t_Greater t_Greater_ok n_Greater hown hi hP hS wA_mem hN ho_16_17 rfl 8 (by decide) t_519 rfl rfl rfl rfl rfl d_Three_add_84 (fun H locs hP hS => ?_)
      obtain ⟨cn_19, ecn_19⟩ : ∃ q : Nat → va_E, q = va_up cn_16 t (.inr (11, [.int xa, .int xb, .int xc, .int z_3, .int z_6, .int z_9, .int z_12, .int z_15, .int z_18, .int (bi gd)])) := ⟨_, rfl⟩
      have hP : va_P D classes (wl N adr cn_19) H := by rw [ecn_19]; exact hP
      have ho_19_20 : cn_19 t = .inr (11, [.int xa, .int xb, .int xc, .int z_3, .int z_6, .int z_9, .int z_12, .int z_15, .int z_18, .int (bi gd)]) := by rw [ecn_19]; exact va_up_self _ _ _
      have hfr_19 : ∀ k, k ≠ t → cn_19 k = cn k := fun k a1 => (congrFun ecn_19 k).trans ((va_up_ne _ _ (by omega)).trans (hfr_16 k a1))
      refine e_v hx hb hr hlk hQ hS d_Three_add_87 ?_
      refine ⟨cn_19, fun k => match k with | 0 => z_3 | 1 => z_6 | 2 => z_9 | 3 => z_12 | 4 => z_15 | _ => z_18, rfl, hfr_19, ho_19_20, ⟨fun _ => ⟨tz_3, tz_6, tz_9, tz_12, tz_15, tz_18⟩, fun h => absurd (by omega) h⟩, hP⟩
    · refine e_v hx hb hr hlk hQ hS d_Three_add_12 ?_
      exact ⟨cn, e0, rfl, FrT.rf, hT, ⟨fun h => absurd h (by omega), fun _ => rfl⟩, hP⟩
set_option maxHeartbeats 4000000 in
set_option maxRecDepth 20000 in
theorem k_add_If (l : Launch) (D : va_G) (cA : Nat → ClassId) (adr : Nat → Nat) (N : List Nat) (hi : wI N adr) (cn : Nat → va_E) (t : Nat) (xa xb xc : Int32) (e0 : Nat → Int32) (gd : Bool) (hT : TP cn t 12 xa xb xc e0 gd) (hN : t ∈ N) (x fb tb fc tc : Int32) : Ct l y_Three_add b_Three_add 6 none 2 D cA [.ref (adr t), .int x, .int fb, .int tb, .int fc, .int tc] (fun H => va_P D classes (wl N adr cn) H) (fun r H => ∃ (cn2 : Nat → va_E) (e2 : Nat → Int32), r = none ∧ FrT t cn cn2 ∧ TP cn2 t 12 xa xb xc e2 gd ∧ AddR e0 e2 x.toInt fb.toInt tb.toInt fc.toInt tc.toInt ∧ va_P D classes (wl N adr cn2) H) (wA N adr) := by
  refine Ct.mk (by decide) (Nat.le_of_ble_eq_true rfl) ?_
  intro p e s m args below meth c Q H locs ls hx hb hr hml hlk hown hin hK hQ hS hP hl
  have hl : lv_has ls 6 [(0, .ref (adr t)), (1, .int x), (2, .int fb), (3, .int tb), (4, .int fc), (5, .int tc)] := hl
  have hown : s.vm.findClass "RangeSheet$Three" = some m.cls := hown
  refine lv_iload_n hx hb d_Three_add_0 rfl (lv_at hl 2 rfl) ?_
  refine lv_iload_n hx hb d_Three_add_1 rfl (lv_at hl 3 rfl) ?_
  refine b_icmp_gt (tgt := 12) hx hb d_Three_add_2 (by decide) rfl rfl (fun c_1 => ?_) (fun c_1 => ?_)
  · refine e_v hx hb hr hlk hQ hS d_Three_add_12 ?_
    exact ⟨cn, e0, rfl, FrT.rf, hT, ⟨fun h => absurd h (by omega), fun _ => rfl⟩, hP⟩
  · refine lv_iload hx hb d_Three_add_5 (lv_at hl 4 rfl) ?_
    refine lv_iload hx hb d_Three_add_7 (lv_at hl 5 rfl) ?_
    refine b_icmp_le (tgt := 13) hx hb d_Three_add_9 (by decide) rfl rfl (fun c_2 => ?_) (fun c_2 => ?_)
    · refine lv_aload_n hx hb d_Three_add_13 rfl (lv_at hl 0 rfl) ?_
      refine lv_aload_n hx hb d_Three_add_14 rfl (lv_at hl 0 rfl) ?_
      refine w_gf hx hb hK i_If hown hP hN hT rfl 3 (by decide) t_514 rfl rfl d_Three_add_15 ?_
      refine lv_iload_n hx hb d_Three_add_18 rfl (lv_at hl 1 rfl) ?_
      refine x_min hx hb hml hown hK hl.1 t_231 (Nat.le_of_ble_eq_true rfl) (Nat.le_of_ble_eq_true rfl) ⟨Nat.le_of_ble_eq_true rfl, Nat.le_of_ble_eq_true rfl⟩ (Nat.le_of_ble_eq_true rfl) rfl rfl  d_Three_add_19 (fun z_3 tz_3 => ?_)
      refine w_pf hx hb hK i_If t_If t_If_ok n_If hown hi hP hS wA_mem hN hT rfl 3 (by decide) t_514 rfl rfl rfl rfl rfl d_Three_add_22 (fun H locs hP hS => ?_)
      obtain ⟨cn_4, ecn_4⟩ : ∃ q : Nat → va_E, q = va_up cn t (.inr (12, [.int xa, .int xb, .int xc, .int z_3, .int (e0 1), .int (e0 2), .int (e0 3), .int (e0 4), .int (e0 5), .int (bi gd)])) := ⟨_, rfl⟩
      have hP : va_P D classes (wl N adr cn_4) H := by rw [ecn_4]; exact hP
      have ho_4_5 : cn_4 t = .inr (12, [.int xa, .int xb, .int xc, .int z_3, .int (e0 1), .int (e0 2), .int (e0 3), .int (e0 4), .int (e0 5), .int (bi gd)]) := by rw [ecn_4]; exact va_up_self _ _ _
      have hfr_4 : ∀ k, k ≠ t → cn_4 k = cn k := fun k a1 => (congrFun ecn_4 k).trans ((va_up_ne _ _ (by omega)).trans rfl)
      refine lv_aload_n hx hb d_Three_add_25 rfl (lv_at hl 0 rfl) ?_
      refine lv_aload_n hx hb d_Three_add_26 rfl (lv_at hl 0 rfl) ?_
      refine w_gf hx hb hK i_If hown hP hN ho_4_5 rfl 4 (by decide) t_515 rfl rfl d_Three_add_27 ?_
      refine lv_iload_n hx hb d_Three_add_30 rfl (lv_at hl 1 rfl) ?_
      refine x_max hx hb hml hown hK hl.1 t_232 (Nat.le_of_ble_eq_true rfl) (Nat.le_of_ble_eq_true rfl) ⟨Nat.le_of_ble_eq_true rfl, Nat.le_of_ble_eq_true rfl⟩ (Nat.le_of_ble_eq_true rfl) rfl rfl  d_Three_add_31 (fun z_6 tz_6 => ?_)
      refine w_pf hx hb hK i_If t_If t_If_ok n_If hown hi hP hS wA_mem hN ho_4_5 rfl 4 (by decide) t_515 rfl rfl rfl rfl rfl d_Three_add_34 (fun H locs hP hS => ?_)
      obtain ⟨cn_7, ecn_7⟩ : ∃ q : Nat → va_E, q = va_up cn_4 t (.inr (12, [.int xa, .int xb, .int xc, .int z_3, .int z_6, .int (e0 2), .int (e0 3), .int (e0 4), .int (e0 5), .int (bi gd)])) := ⟨_, rfl⟩
      have hP : va_P D classes (wl N adr cn_7) H := by rw [ecn_7]; exact hP
      have ho_7_8 : cn_7 t = .inr (12, [.int xa, .int xb, .int xc, .int z_3, .int z_6, .int (e0 2), .int (e0 3), .int (e0 4), .int (e0 5), .int (bi gd)]) := by rw [ecn_7]; exact va_up_self _ _ _
      have hfr_7 : ∀ k, k ≠ t → cn_7 k = cn k := fun k a1 => (congrFun ecn_7 k).trans ((va_up_ne _ _ (by omega)).trans (hfr_4 k a1))
      refine lv_aload_n hx hb d_Three_add_37 rfl (lv_at hl 0 rfl) ?_
      refine lv_aload_n hx hb d_Three_add_38 rfl (lv_at hl 0 rfl) ?_
      refine w_gf hx hb hK i_If hown hP hN ho_7_8 rfl 5 (by decide) t_516 rfl rfl d_Three_add_39 ?_
      refine lv_iload_n hx hb d_Three_add_42 rfl (lv_at hl 2 rfl) ?_
      refine x_min hx hb hml hown hK hl.1 t_231 (Nat.le_of_ble_eq_true rfl) (Nat.le_of_ble_eq_true rfl) ⟨Nat.le_of_ble_eq_true rfl, Nat.le_of_ble_eq_true rfl⟩ (Nat.le_of_ble_eq_true rfl) rfl rfl  d_Three_add_43 (fun z_9 tz_9 => ?_)
      refine w_pf hx hb hK i_If t_If t_If_ok n_If hown hi hP hS wA_mem hN ho_7_8 rfl 5 (by decide) t_516 rfl rfl rfl rfl rfl d_Three_add_46 (fun H locs hP hS => ?_)
      obtain ⟨cn_10, ecn_10⟩ : ∃ q : Nat → va_E, q = va_up cn_7 t (.inr (12, [.int xa, .int xb, .int xc, .int z_3, .int z_6, .int z_9, .int (e0 3), .int (e0 4), .int (e0 5), .int (bi gd)])) := ⟨_, rfl⟩
      have hP : va_P D classes (wl N adr cn_10) H := by rw [ecn_10]; exact hP
      have ho_10_11 : cn_10 t = .inr (12, [.int xa, .int xb, .int xc, .int z_3, .int z_6, .int z_9, .int (e0 3), .int (e0 4), .int (e0 5), .int (bi gd)]) := by rw [ecn_10]; exact va_up_self _ _ _
      have hfr_10 : ∀ k, k ≠ t → cn_10 k = cn k := fun k a1 => (congrFun ecn_10 k).trans ((va_up_ne _ _ (by omega)).trans (hfr_7 k a1))
      refine lv_aload_n hx hb d_Three_add_49 rfl (lv_at hl 0 rfl) ?_
      refine lv_aload_n hx hb d_Three_add_50 rfl (lv_at hl 0 rfl) ?_
      refine w_gf hx hb hK i_If hown hP hN ho_10_11 rfl 6 (by decide) t_517 rfl rfl d_Three_add_51 ?_
      refine lv_iload_n hx hb d_Three_add_54 rfl (lv_at hl 3 rfl) ?_
      refine x_max hx hb hml hown hK hl.1 t_232 (Nat.le_of_ble_eq_true rfl) (Nat.le_of_ble_eq_true rfl) ⟨Nat.le_of_ble_eq_true rfl, Nat.le_of_ble_eq_true rfl⟩ (Nat.le_of_ble_eq_true rfl) rfl rfl  d_Three_add_55 (fun z_12 tz_12 => ?_)
      refine w_pf hx hb hK i_If t_If t_If_ok n_If hown hi hP hS wA_mem hN ho_10_11 rfl 6 (by decide) t_517 rfl rfl rfl rfl rfl d_Three_add_58 (fun H locs hP hS => ?_)
      obtain ⟨cn_13, ecn_13⟩ : ∃ q : Nat → va_E, q = va_up cn_10 t (.inr (12, [.int xa, .int xb, .int xc, .int z_3, .int z_6, .int z_9, .int z_12, .int (e0 4), .int (e0 5), .int (bi gd)])) := ⟨_, rfl⟩
      have hP : va_P D classes (wl N adr cn_13) H := by rw [ecn_13]; exact hP
      have ho_13_14 : cn_13 t = .inr (12, [.int xa, .int xb, .int xc, .int z_3, .int z_6, .int z_9, .int z_12, .int (e0 4), .int (e0 5), .int (bi gd)]) := by rw [ecn_13]; exact va_up_self _ _ _
      have hfr_13 : ∀ k, k ≠ t → cn_13 k = cn k := fun k a1 => (congrFun ecn_13 k).trans ((va_up_ne _ _ (by omega)).trans (hfr_10 k a1))
      refine lv_aload_n hx hb d_Three_add_61 rfl (lv_at hl 0 rfl) ?_
      refine lv_aload_n hx hb d_Three_add_62 rfl (lv_at hl 0 rfl) ?_
      refine w_gf hx hb hK i_If hown hP hN ho_13_14 rfl 7 (by decide) t_518 rfl rfl d_Three_add_63 ?_
      refine lv_iload hx hb d_Three_add_66 (lv_at hl 4 rfl) ?_
      refine x_min hx hb hml hown hK hl.1 t_231 (Nat.le_of_ble_eq_true rfl) (Nat.le_of_ble_eq_true rfl) ⟨Nat.le_of_ble_eq_true rfl, Nat.le_of_ble_eq_true rfl⟩ (Nat.le_of_ble_eq_true rfl) rfl rfl  d_Three_add_68 (fun z_15 tz_15 => ?_)
      refine w_pf hx hb hK i_If t_If t_If_ok n_If hown hi hP hS wA_mem hN ho_13_14 rfl 7 (by decide) t_518 rfl rfl rfl rfl rfl d_Three_add_71 (fun H locs hP hS => ?_)
      obtain ⟨cn_16, ecn_16⟩ : ∃ q : Nat → va_E, q = va_up cn_13 t (.inr (12, [.int xa, .int xb, .int xc, .int z_3, .int z_6, .int z_9, .int z_12, .int z_15, .int (e0 5), .int (bi gd)])) := ⟨_, rfl⟩
      have hP : va_P D classes (wl N adr cn_16) H := by rw [ecn_16]; exact hP
      have ho_16_17 : cn_16 t = .inr (12, [.int xa, .int xb, .int xc, .int z_3, .int z_6, .int z_9, .int z_12, .int z_15, .int (e0 5), .int (bi gd)]) := by rw [ecn_16]; exact va_up_self _ _ _
      have hfr_16 : ∀ k, k ≠ t → cn_16 k = cn k := fun k a1 => (congrFun ecn_16 k).trans ((va_up_ne _ _ (by omega)).trans (hfr_13 k a1))
      refine lv_aload_n hx hb d_Three_add_74 rfl (lv_at hl 0 rfl) ?_
      refine lv_aload_n hx hb d_Three_add_75 rfl (lv_at hl 0 rfl) ?_
      refine w_gf hx hb hK i_If hown hP hN ho_16_17 rfl 8 (by decide) t_519 rfl rfl d_Three_add_76 ?_
      refine lv_iload hx hb d_Three_add_79 (lv_at hl 5 rfl) ?_
      refine x_max hx hb hml hown hK hl.1 t_232 (Nat.le_of_ble_eq_true rfl) (Nat.le_of_ble_eq_true rfl) ⟨Nat.le_of_ble_eq_true rfl, Nat.le_of_ble_eq_true rfl⟩ (Nat.le_of_ble_eq_true rfl) rfl rfl  d_Three_add_81 (fun z_18 tz_18 => ?_)
      refine w_pf hx hb hK i_If t_If t_If_ok n_If hown hi hP hS wA_mem hN ho_16_17 rfl 8 (by decide) t_519 rfl rfl rfl rfl rfl d_Three_add_84 (fun H locs hP hS => ?_)
      obtain ⟨cn_19, ecn_19⟩ : ∃ q : Nat → va_E, q = va_up cn_16 t (.inr (12, [.int xa, .int xb, .int xc, .int z_3, .int z_6, .int z_9, .int z_12, .int z_15, .int z_18, .int (bi gd)])) := ⟨_, rfl⟩
      have hP : va_P D classes (wl N adr cn_19) H := by rw [ecn_19]; exact hP
      have ho_19_20 : cn_19 t = .inr (12, [.int xa, .int xb, .int xc, .int z_3, .int z_6, .int z_9, .int z_12, .int z_15, .int z_18, .int (bi gd)]) := by rw [ecn_19]; exact va_up_self _ _ _
      have hfr_19 : ∀ k, k ≠ t → cn_19 k = cn k := fun k a1 => (congrFun ecn_19 k).trans ((va_up_ne _ _ (by omega)).trans (hfr_16 k a1))
      refine e_v hx hb hr hlk hQ hS d_Three_add_87 ?_
      refine ⟨cn_19, fun k => match k with | 0 => z_3 | 1 => z_6 | 2 => z_9 | 3 => z_12 | 4 => z_15 | _ => z_18, rfl, hfr_19, ho_19_20, ⟨fun _ => ⟨tz_3, tz_6, tz_9, tz_12, tz_15, tz_18⟩, fun h => absurd (by omega) h⟩, hP⟩
    · refine e_v hx hb hr hlk hQ hS d_Three_add_12 ?_
      exact ⟨cn, e0, rfl, FrT.rf, hT, ⟨fun h => absurd h (by omega), fun _ => rfl⟩, hP⟩
