/-- the heap of the component holds the state (I, F) -/
def CP (cA : Nat → ClassId) (adr : Nat → Nat) (cn : Nat → va_E) (I : Nat → Int32) (F : Nat → Nat → Int32) (mm : Nat) (x : Nat → Int32) (dn : Bool) : Prop :=
  SR cA adr cn F mm x dn ∧ (x 1 = I 1 ∧ x 3 = I 4 ∧ x 8 = I 13 ∧ x 9 = I 17 ∧ x 11 = I 28 ∧ x 14 = I 31 ∧ x 18 = I 32) ∧
  (cn 2 = .inl (cA 4, 3, .inr (.inr (.inr (.inr (fun k => if k < 3 then some (adr (47 + 3 * k)) else none))))) ∧ cn 3 = .inl (cA 0, 12, .inl (F 14)) ∧ cn 4 = .inl (cA 0, 12, .inl (F 15)) ∧ cn 5 = .inl (cA 0, 12, .inl (F 16)) ∧ cn 6 = .inl (cA 5, 11, .inr (.inr (.inr (.inr (fun k => if k < 11 then some (adr (14 + 3 * k)) else none))))) ∧ cn 7 = .inl (cA 0, 10, .inl (F 33))) ∧
  (∃ c, BP cA adr cn 8 (F 2) (F 3) c) ∧ (∃ f g c, BP cA adr cn 11 f g c ∧ ∀ k : Nat, (k : Int) < (I 28).toInt → f k = F 29 k ∧ g k = F 30 k) ∧ (∀ d, d < 11 → ∃ f g c, BP cA adr cn (14 + 3 * d) f g c)
theorem BP.frS {cA : Nat → ClassId} {adr : Nat → Nat} {cn cn' : Nat → va_E} {b mm a : Nat} {f g : Nat → Int32} {c : Bool} (h : BP cA adr cn a f g c) (hf : FrS b mm cn cn') (h1 : a + 2 < b ∨ b + 2 < a) (h2 : a + 2 < 56) : BP cA adr cn' a f g c :=
  ⟨(hf a (by omega) (by omega) (by omega) (by omega)).trans h.1, (hf (a + 1) (by omega) (by omega) (by omega) (by omega)).trans h.2.1, (hf (a + 2) (by omega) (by omega) (by omega) (by omega)).trans h.2.2⟩
/-- a work box and the relations' own cells may change -/
theorem CP.fr {cA : Nat → ClassId} {adr : Nat → Nat} {cn cn' : Nat → va_E} {I : Nat → Int32} {F : Nat → Nat → Int32} {mm d : Nat} {x : Nat → Int32} {dn : Bool} {f g : Nat → Int32} {c : Bool} (h : CP cA adr cn I F mm x dn) (hd : d < 11) (hf : FrS (14 + 3 * d) mm cn cn') (hr : ∀ r, r < mm → RelAt adr cn' F r) (hB : BP cA adr cn' (14 + 3 * d) f g c) : CP cA adr cn' I F mm x dn := by
  obtain ⟨h1, h2, ⟨a2, a3, a4, a5, a6, a7⟩, ⟨c8, b8⟩, ⟨f11, g11, c11, b11, e11⟩, hb⟩ := h
  refine ⟨h1.fr (by omega) hf hr, h2, ⟨(hf 2 (by omega) (by omega) (by omega) (by omega)).trans a2, (hf 3 (by omega) (by omega) (by omega) (by omega)).trans a3, (hf 4 (by omega) (by omega) (by omega) (by omega)).trans a4, (hf 5 (by omega) (by omega) (by omega) (by omega)).trans a5, (hf 6 (by omega) (by omega) (by omega) (by omega)).trans a6, (hf 7 (by omega) (by omega) (by omega) (by omega)).trans a7⟩, ⟨c8, b8.frS hf (by omega) (by omega)⟩, ⟨f11, g11, c11, b11.frS hf (by omega) (by omega), e11⟩, fun j hj => ?_⟩
  by_cases e : j = d
  · subst e; exact ⟨f, g, c, hB⟩
  · obtain ⟨f0, g0, c0, b0⟩ := hb j hj
    exact ⟨f0, g0, c0, b0.frS hf (by omega) (by omega)⟩
/-- the component sees no more of the state than Sm -/
theorem CP.sm {cA : Nat → ClassId} {adr : Nat → Nat} {cn : Nat → va_E} {J I : Nat → Int32} {G F : Nat → Nat → Int32} {mm : Nat} {x : Nat → Int32} {dn : Bool} (h : CP cA adr cn J G mm x dn) (hs : Sm J G I F) : CP cA adr cn I F mm x dn := by
  have hf := hs.ft
  have q := hs.2.1
  have e2 := q 2 (by decide) (by decide) (by decide) (by decide) (by decide) (by decide) (by decide)
  have e3 := q 3 (by decide) (by decide) (by decide) (by decide) (by decide) (by decide) (by decide)
  have e14 := q 14 (by decide) (by decide) (by decide) (by decide) (by decide) (by decide) (by decide)
  have e15 := q 15 (by decide) (by decide) (by decide) (by decide) (by decide) (by decide) (by decide)
  have e16 := q 16 (by decide) (by decide) (by decide) (by decide) (by decide) (by decide) (by decide)
  have e33 := q 33 (by decide) (by decide) (by decide) (by decide) (by decide) (by decide) (by decide)
  have eT := hs.2.2
  obtain ⟨⟨s1, s2, s3, s4, s5, s6, s7⟩, -, -⟩ := hs
  obtain ⟨h5, h6, h7, h8, h9, h10, h11, h12⟩ := hf
  obtain ⟨⟨r0, r1, r2, r3, r4⟩, ⟨y1, y2, y3, y4, y5, y6, y7⟩, ⟨a2, a3, a4, a5, a6, a7⟩, ⟨c8, b8⟩, ⟨f11, g11, c11, b11, e11⟩, hb⟩ := h
  refine ⟨⟨r0, r1, r2, ?_, ?_⟩, ⟨y1.trans s1.symm, y2.trans s2.symm, y3.trans s3.symm, y4.trans s4.symm, y5.trans s5.symm, y6.trans s6.symm, y7.trans s7.symm⟩, ⟨a2, by rw [e14]; exact a3, by rw [e15]; exact a4, by rw [e16]; exact a5, a6, by rw [e33]; exact a7⟩, ⟨c8, by rw [e2, e3]; exact b8⟩, ⟨f11, g11, c11, b11, fun k hk => ?_⟩, hb⟩
  · intro t ht
    have := r3 t ht
    rw [h10, h11, h12]
    exact this
  · intro r hr
    have := r4 r hr
    unfold RelAt gB at *
    rw [h5, h6, h7, h8, h9]
    exact this
  · rw [s5] at hk
    have a := e11 k hk
    have b := eT k hk
    exact ⟨a.1.trans b.1.symm, a.2.trans b.2.symm⟩
theorem d_Sht_narrowWith_0 : decode b_Sht_narrowWith 0 = .ok (.aload_n 0, 1) := by decide +kernel
theorem d_Sht_narrowWith_1 : decode b_Sht_narrowWith 1 = .ok (.getfield 48, 3) := by decide +kernel
theorem d_Sht_narrowWith_4 : decode b_Sht_narrowWith 4 = .ok (.iconst 0, 1) := by decide +kernel
theorem d_Sht_narrowWith_5 : decode b_Sht_narrowWith 5 = .ok (.aaload, 1) := by decide +kernel
theorem d_Sht_narrowWith_6 : decode b_Sht_narrowWith 6 = .ok (.astore_n 2, 1) := by decide +kernel
theorem d_Sht_narrowWith_7 : decode b_Sht_narrowWith 7 = .ok (.aload_n 2, 1) := by decide +kernel
theorem d_Sht_narrowWith_8 : decode b_Sht_narrowWith 8 = .ok (.aload_n 0, 1) := by decide +kernel
theorem d_Sht_narrowWith_9 : decode b_Sht_narrowWith 9 = .ok (.getfield 16, 3) := by decide +kernel
theorem d_Sht_narrowWith_12 : decode b_Sht_narrowWith 12 = .ok (.invokevirtual 160, 3) := by decide +kernel
theorem d_Sht_narrowWith_15 : decode b_Sht_narrowWith 15 = .ok (.iconst 1, 1) := by decide +kernel
theorem d_Sht_narrowWith_16 : decode b_Sht_narrowWith 16 = .ok (.istore_n 3, 1) := by decide +kernel
theorem d_Sht_narrowWith_17 : decode b_Sht_narrowWith 17 = .ok (.iconst 0, 1) := by decide +kernel
theorem d_Sht_narrowWith_18 : decode b_Sht_narrowWith 18 = .ok (.istore 4, 2) := by decide +kernel
theorem d_Sht_narrowWith_20 : decode b_Sht_narrowWith 20 = .ok (.iload 4, 2) := by decide +kernel
theorem d_Sht_narrowWith_22 : decode b_Sht_narrowWith 22 = .ok (.aload_n 0, 1) := by decide +kernel
theorem d_Sht_narrowWith_23 : decode b_Sht_narrowWith 23 = .ok (.getfield 147, 3) := by decide +kernel
theorem d_Sht_narrowWith_26 : decode b_Sht_narrowWith 26 = .ok (.if_icmp .ge 54, 3) := by decide +kernel
theorem d_Sht_narrowWith_29 : decode b_Sht_narrowWith 29 = .ok (.iload_n 3, 1) := by decide +kernel
theorem d_Sht_narrowWith_30 : decode b_Sht_narrowWith 30 = .ok (.iload_n 1, 1) := by decide +kernel
theorem d_Sht_narrowWith_31 : decode b_Sht_narrowWith 31 = .ok (.iload 4, 2) := by decide +kernel
theorem d_Sht_narrowWith_33 : decode b_Sht_narrowWith 33 = .ok (.ishr, 1) := by decide +kernel
theorem d_Sht_narrowWith_34 : decode b_Sht_narrowWith 34 = .ok (.iconst 1, 1) := by decide +kernel
theorem d_Sht_narrowWith_35 : decode b_Sht_narrowWith 35 = .ok (.iand, 1) := by decide +kernel
theorem d_Sht_narrowWith_36 : decode b_Sht_narrowWith 36 = .ok (.ifCond .eq 31, 3) := by decide +kernel
theorem d_Sht_narrowWith_39 : decode b_Sht_narrowWith 39 = .ok (.aload_n 2, 1) := by decide +kernel
theorem d_Sht_narrowWith_40 : decode b_Sht_narrowWith 40 = .ok (.aload_n 0, 1) := by decide +kernel
theorem d_Sht_narrowWith_41 : decode b_Sht_narrowWith 41 = .ok (.getfield 35, 3) := by decide +kernel
theorem d_Sht_narrowWith_44 : decode b_Sht_narrowWith 44 = .ok (.iload 4, 2) := by decide +kernel
theorem d_Sht_narrowWith_46 : decode b_Sht_narrowWith 46 = .ok (.iaload, 1) := by decide +kernel
theorem d_Sht_narrowWith_47 : decode b_Sht_narrowWith 47 = .ok (.aload_n 0, 1) := by decide +kernel
theorem d_Sht_narrowWith_48 : decode b_Sht_narrowWith 48 = .ok (.getfield 39, 3) := by decide +kernel
theorem d_Sht_narrowWith_51 : decode b_Sht_narrowWith 51 = .ok (.iload 4, 2) := by decide +kernel
theorem d_Sht_narrowWith_53 : decode b_Sht_narrowWith 53 = .ok (.iaload, 1) := by decide +kernel
theorem d_Sht_narrowWith_54 : decode b_Sht_narrowWith 54 = .ok (.aload_n 0, 1) := by decide +kernel
theorem d_Sht_narrowWith_55 : decode b_Sht_narrowWith 55 = .ok (.getfield 42, 3) := by decide +kernel
theorem d_Sht_narrowWith_58 : decode b_Sht_narrowWith 58 = .ok (.iload 4, 2) := by decide +kernel
theorem d_Sht_narrowWith_60 : decode b_Sht_narrowWith 60 = .ok (.iaload, 1) := by decide +kernel
theorem d_Sht_narrowWith_61 : decode b_Sht_narrowWith 61 = .ok (.invokevirtual 164, 3) := by decide +kernel
theorem d_Sht_narrowWith_64 : decode b_Sht_narrowWith 64 = .ok (.ifCond .eq 7, 3) := by decide +kernel
theorem d_Sht_narrowWith_67 : decode b_Sht_narrowWith 67 = .ok (.iconst 1, 1) := by decide +kernel
theorem d_Sht_narrowWith_68 : decode b_Sht_narrowWith 68 = .ok (.goto 4, 3) := by decide +kernel
theorem d_Sht_narrowWith_71 : decode b_Sht_narrowWith 71 = .ok (.iconst 0, 1) := by decide +kernel
theorem d_Sht_narrowWith_72 : decode b_Sht_narrowWith 72 = .ok (.iand, 1) := by decide +kernel
theorem d_Sht_narrowWith_73 : decode b_Sht_narrowWith 73 = .ok (.istore_n 3, 1) := by decide +kernel
theorem d_Sht_narrowWith_74 : decode b_Sht_narrowWith 74 = .ok (.iinc 4 1, 3) := by decide +kernel
theorem d_Sht_narrowWith_77 : decode b_Sht_narrowWith 77 = .ok (.goto (-57), 3) := by decide +kernel
theorem d_Sht_narrowWith_80 : decode b_Sht_narrowWith 80 = .ok (.iload_n 3, 1) := by decide +kernel
theorem d_Sht_narrowWith_81 : decode b_Sht_narrowWith 81 = .ok (.ifCond .eq 15, 3) := by decide +kernel
theorem d_Sht_narrowWith_84 : decode b_Sht_narrowWith 84 = .ok (.aload_n 0, 1) := by decide +kernel
theorem d_Sht_narrowWith_85 : decode b_Sht_narrowWith 85 = .ok (.aload_n 2, 1) := by decide +kernel
theorem d_Sht_narrowWith_86 : decode b_Sht_narrowWith 86 = .ok (.invokevirtual 167, 3) := by decide +kernel
theorem d_Sht_narrowWith_89 : decode b_Sht_narrowWith 89 = .ok (.ifCond .eq 7, 3) := by decide +kernel
theorem d_Sht_narrowWith_92 : decode b_Sht_narrowWith 92 = .ok (.iconst 1, 1) := by decide +kernel
theorem d_Sht_narrowWith_93 : decode b_Sht_narrowWith 93 = .ok (.goto 4, 3) := by decide +kernel
theorem d_Sht_narrowWith_96 : decode b_Sht_narrowWith 96 = .ok (.iconst 0, 1) := by decide +kernel
theorem d_Sht_narrowWith_97 : decode b_Sht_narrowWith 97 = .ok (.ireturn, 1) := by decide +kernel
set_option maxHeartbeats 4000000 in
set_option maxRecDepth 20000 in
theorem k_Sht_narrowWith (l : Launch) (D : va_G) (cA : Nat → ClassId) (adr : Nat → Nat) (N : List Nat) (hi : wI N adr) (cn : Nat → va_E) (F : Nat → Nat → Int32) (I : Nat → Int32) (nn mm en mk0 : Nat) (x : Nat → Int32) (dn : Bool) (hCP : CP cA adr cn I F mm x dn) (hNm : ∀ k, k < 56 + mm → k ∈ N) (hWF : WF I F nn mm en mk0) (mk : Nat) (xm : Int32) (hxm : xm.toInt = (mk : Int)) : Ct l y_Sht_narrowWith b_Sht_narrowWith 5 (some .boolean) 14 D cA [.ref (adr 0), .int xm] (fun H => va_P D classes (wl N adr cn) H) (fun r H => ∃ (cn2 : Nat → va_E) (f2 g2 : Nat → Int32) (q c2 : Bool), r = some (.int (bi q)) ∧ FrS 14 mm cn cn2 ∧ (∀ r, r < mm → RelAt adr cn2 F r) ∧ BP cA adr cn2 14 f2 g2 c2 ∧ (q = true → ∃ y, nw F nn mm en mk = some y ∧ Eqb nn (tI f2) (tI g2) y.1 y.2) ∧ (q = false → nw F nn mm en mk = none) ∧ va_P D classes (wl N adr cn2) H) (wA N adr) := by
  refine Ct.mk (by decide) (Nat.le_of_ble_eq_true rfl) ?_
  intro p e s m args below meth c Q H locs ls hx hb hr hml hlk hown hin hK hQ hS hP hl
  have hl : lv_has ls 5 [(0, .ref (adr 0)), (1, .int xm)] := hl
  have hown : s.vm.findClass "RangeSheet" = some m.cls := hown
  obtain ⟨hW, hE, hen, ⟨hmk, hmke⟩, htd, hsp, hsd, hset, hgd⟩ := hWF
  obtain ⟨hSR, ⟨hx1, hx3, hx8, hx9, hx11, hx14, hx18⟩, ⟨hc2, hc3, hc4, hc5, hc6, hc7⟩, ⟨cf, hBf⟩, ⟨fn0, gn0, cn0, hBn, hBne⟩, hBx⟩ := hCP
  obtain ⟨f, g, ch, hB⟩ := hBx 0 (by omega)
  have hB : BP cA adr cn 14 f g ch := hB
  have hn10 := hW.1
  have hm12 := hW.2.1
  have hen12 := hE.1
  have hv1 : (x 1).toInt = (nn : Int) := by rw [hx1]; exact hW.2.2.1
  have hv8 : (x 8).toInt = (en : Int) := by rw [hx8]; exact hen
  have hv9 : (x 9).toInt = (mk0 : Int) := by rw [hx9]; exact hmk
  have hm31 : mk < 2147483648 := by have := xm.toInt_lt; omega
  refine lv_aload_n hx hb d_Sht_narrowWith_0 rfl (lv_at hl 0 rfl) ?_
  refine w_gf hx hb hK i_Sht hown hP (hNm 0 (by omega)) hSR.1 rfl 12 (by decide) t_97 rfl rfl d_Sht_narrowWith_1 ?_
  refine lv_iconst (v := 0) hx hb d_Sht_narrowWith_4 (by decide) ?_
  refine w_ald hx hb hK hP (hNm 6 (by omega)) hc6 rfl (0) kc_0 (by omega) (show 0 < 11 by omega) rfl d_Sht_narrowWith_5 ?_
  refine lv_astore_n (lv' := [(2, .ref (adr 14)), (0, .ref (adr 0)), (1, .int xm)]) hx hb d_Sht_narrowWith_6 rfl hl (by decide) rfl (fun ls hl => ?_)
  refine lv_aload_n hx hb d_Sht_narrowWith_7 rfl (lv_at hl 0 rfl) ?_
  refine lv_aload_n hx hb d_Sht_narrowWith_8 rfl (lv_at hl 1 rfl) ?_
  refine w_gf hx hb hK i_Sht hown hP (hNm 0 (by omega)) hSR.1 rfl 0 (by decide) t_85 rfl rfl d_Sht_narrowWith_9 ?_
  refine x_V (As := [.ref (adr 8)]) (rest := []) hx hb hml hown hK (k_Box_copy l D cA adr N hi cn 14 f g ch ⟨hB.1, hB.2.1, hB.2.2⟩ ⟨hNm _ (by omega), hNm _ (by omega), hNm _ (by omega)⟩ 8 (F 2) (F 3) cf ⟨hBf.1, hBf.2.1, hBf.2.2⟩ ⟨hNm _ (by omega), hNm _ (by omega), hNm _ (by omega)⟩ (by omega)) t_169 t_2 t_166 t_167 t_168 yk_Box_copy ⟨Nat.le_of_ble_eq_true rfl, Nat.le_of_ble_eq_true rfl⟩ (w_rec hK hP (hNm 14 (by omega)) hB.1 rfl) hP rfl hl.1 rfl (Nat.le_of_ble_eq_true rfl) d_Sht_narrowWith_12 ⟨Nat.le_of_ble_eq_true rfl, Nat.le_of_ble_eq_true rfl⟩ hS (fun q h => h) (fun r H locs hq _ hS => ?_)
  obtain ⟨cn_1, rfl, hFb_1, hB_1, hP⟩ := hq
  have hx_1_2 : cn_1 0 = .inr (1, [.ref (adr 8), .int (x 1), .ref (adr 1), .int (x 3), .ref (adr 2), .ref (adr 3), .ref (adr 4), .ref (adr 5), .int (x 8), .int (x 9), .ref (adr 11), .int (x 11), .ref (adr 6), .int (x 13), .int (x 14), .int (x 15), .int (bi dn), .ref (adr 7), .int (x 18)]) := (hFb_1 0 (by omega) (by omega) (by omega)).trans hSR.1
  have hx_1_3 : cn_1 1 = .inl (cA 3, 12, .inr (.inr (.inr (.inr (fun k => if k < mm then some (adr (56 + k)) else none))))) := (hFb_1 1 (by omega) (by omega) (by omega)).trans hSR.2.1
  have hx_1_4 : cn_1 3 = .inl (cA 0, 12, .inl (F 14)) := (hFb_1 3 (by omega) (by omega) (by omega)).trans hc3
  have hx_1_5 : cn_1 4 = .inl (cA 0, 12, .inl (F 15)) := (hFb_1 4 (by omega) (by omega) (by omega)).trans hc4
  have hx_1_6 : cn_1 5 = .inl (cA 0, 12, .inl (F 16)) := (hFb_1 5 (by omega) (by omega) (by omega)).trans hc5
  have hx_1_7 : cn_1 7 = .inl (cA 0, 10, .inl (F 33)) := (hFb_1 7 (by omega) (by omega) (by omega)).trans hc7
  have hx_1_8 : cn_1 6 = .inl (cA 5, 11, .inr (.inr (.inr (.inr (fun k => if k < 11 then some (adr (14 + 3 * k)) else none))))) := (hFb_1 6 (by omega) (by omega) (by omega)).trans hc6
  have hx_1_9 : cn_1 8 = .inr (2, [.ref (adr (8 + 1)), .ref (adr (8 + 2)), .int (bi cf)]) := (hFb_1 8 (by omega) (by omega) (by omega)).trans hBf.1
  have hx_1_10 : cn_1 (8 + 1) = .inl (cA 0, 10, .inl (F 2)) := (hFb_1 (8 + 1) (by omega) (by omega) (by omega)).trans hBf.2.1
  have hx_1_11 : cn_1 (8 + 2) = .inl (cA 0, 10, .inl (F 3)) := (hFb_1 (8 + 2) (by omega) (by omega) (by omega)).trans hBf.2.2
  have hfr_1 : FrS 14 mm cn cn_1 := FrS.b hFb_1
  have hrl_1 : ∀ r, r < mm → RelAt adr cn_1 F r := fun r9 hr9 => (hSR.2.2.2.2 r9 hr9).fr (hFb_1 _ (by omega) (by omega) (by omega))
  refine W.eq (g2 := F0 m 15 ls []) rfl ?_
  refine lv_iconst (v := 1) hx hb d_Sht_narrowWith_15 (by decide) ?_
  refine lv_istore_n (lv' := [(3, .int (1 : Int32)), (2, .ref (adr 14)), (0, .ref (adr 0)), (1, .int xm)]) hx hb d_Sht_narrowWith_16 rfl hl (by decide) rfl (fun ls hl => ?_)
  refine lv_iconst (v := 0) hx hb d_Sht_narrowWith_17 (by decide) ?_
  refine lv_istore (lv' := [(4, .int (0 : Int32)), (3, .int (1 : Int32)), (2, .ref (adr 14)), (0, .ref (adr 0)), (1, .int xm)]) hx hb d_Sht_narrowWith_18 hl (by decide) rfl (fun ls hl => ?_)
  have L_12 : ∀ (n : Nat) (ex : Nat) (x4 : Int32) (fx : Bool) (cn1 : Nat → va_E) (f1 : Nat → Int32) (g1 : Nat → Int32) (c1 : Bool) (H : Heap) (locs : List Loc) (ls : Array Slot), (en - ex) < n → (ex ≤ en) → (x4.toInt = (ex : Int)) → (FrS 14 mm cn cn1) → (∀ r, r < mm → RelAt adr cn1 F r) → (BP cA adr cn1 14 f1 g1 c1) → (fx = (entB F mk ex).2) → (Eqb nn (tI f1) (tI g1) (entB F mk ex).1.1 (entB F mk ex).1.2) → va_P D classes (wl N adr cn1) H → va_S (wA N adr) s.heap H locs → lv_has ls 5 [(0, .ref (adr 0)), (1, .int xm), (2, .ref (adr 14)), (3, .int (bi fx)), (4, .int x4)] → W p l e (rl 14) s m args below meth c H locs 0 0 Q (F0 m 20 ls []) := by
    intro n
    induction n with
    | zero => intro ex x4 fx cn1 f1 g1 c1 H locs ls hmu; exact absurd hmu (Nat.not_lt_zero _)
    | succ n ih_12 =>
      intro ex x4 fx cn1 f1 g1 c1 H locs ls hmu hex h4 hF1 hR1 hB1 hfx hEq hP hS hl
      have hK1 : ∀ k, k < 14 → cn1 k = cn k := fun k hk => hF1 k (by omega) (by omega) (by omega) (by omega)
      refine lv_iload hx hb d_Sht_narrowWith_20 (lv_at hl 4 rfl) ?_
      refine lv_aload_n hx hb d_Sht_narrowWith_22 rfl (lv_at hl 0 rfl) ?_
      refine w_gf hx hb hK i_Sht hown hP (hNm 0 (by omega)) ((hK1 0 (by omega)).trans hSR.1) rfl 8 (by decide) t_93 rfl rfl d_Sht_narrowWith_23 ?_
      refine b_icmp_ge (tgt := 80) hx hb d_Sht_narrowWith_26 (by decide) h4 hv8 (fun c_13 => ?_) (fun c_13 => ?_)
      · have hxe : ex = en := by omega
        subst hxe
        refine lv_iload_n hx hb d_Sht_narrowWith_80 rfl (lv_at hl 3 rfl) ?_
        refine b_bool_eq (tgt := 96) hx hb d_Sht_narrowWith_81 (by decide) (fun c_14 => ?_) (fun c_14 => ?_)
        · refine lv_iconst (v := 0) hx hb d_Sht_narrowWith_96 (by decide) ?_
          refine W.eq (g2 := F0 m 97 ls [.int (bi false)]) rfl ?_
          refine e_z hx hb hr hlk hQ hS d_Sht_narrowWith_97 ?_
          refine ⟨cn1, f1, g1, false, c1, rfl, hF1, hR1, hB1, fun h => absurd h (by decide), fun _ => ?_, hP⟩
          unfold nw; rw [if_neg (by rw [← hfx]; rw [c_14]; decide)]
        · have hft : (entB F mk ex).2 = true := by rw [← hfx]; exact c_14
          have hEr := entB_rg (mk := mk) hE ex (Nat.le_refl _)
          refine lv_aload_n hx hb d_Sht_narrowWith_84 rfl (lv_at hl 0 rfl) ?_
          refine lv_aload_n hx hb d_Sht_narrowWith_85 rfl (lv_at hl 2 rfl) ?_
          refine x_V (As := [.ref (adr 14)]) (rest := []) hx hb hml hown hK (k_Sht_settle l D cA adr N hi cn1 F I nn mm x dn (hSR.fr (by omega) hF1 hR1) hNm hW 14 f1 g1 c1 ⟨hB1.1, hB1.2.1, hB1.2.2⟩ (by omega) (fun j hj => by have a1 := hEr.2 hft j hj; have a2 := hEq j hj; omega) (fun j hj => by have a1 := hEr.1 j hj; have a2 := hEq j hj; omega)) t_186 t_1 t_183 t_185 ts_1 yk_Sht_settle ⟨Nat.le_of_ble_eq_true rfl, Nat.le_of_ble_eq_true rfl⟩ (w_rec hK hP (hNm 0 (by omega)) ((hK1 0 (by omega)).trans hSR.1) rfl) hP rfl hl.1 rfl (Nat.le_of_ble_eq_true rfl) d_Sht_narrowWith_86 ⟨Nat.le_of_ble_eq_true rfl, Nat.le_of_ble_eq_true rfl⟩ hS (fun q h => h) (fun r H locs hq _ hS => ?_)
          obtain ⟨cn_15, f_15, g_15, q_15, c_15, rfl, hFs_15, hRl_15, hB_15, hT_15, hF_15, hP⟩ := hq
          have hx_15_16 : cn_15 0 = .inr (1, [.ref (adr 8), .int (x 1), .ref (adr 1), .int (x 3), .ref (adr 2), .ref (adr 3), .ref (adr 4), .ref (adr 5), .int (x 8), .int (x 9), .ref (adr 11), .int (x 11), .ref (adr 6), .int (x 13), .int (x 14), .int (x 15), .int (bi dn), .ref (adr 7), .int (x 18)]) := (hFs_15 0 (by omega) (by omega) (by omega) (by omega)).trans ((hK1 0 (by omega)).trans hSR.1)
          have hx_15_17 : cn_15 1 = .inl (cA 3, 12, .inr (.inr (.inr (.inr (fun k => if k < mm then some (adr (56 + k)) else none))))) := (hFs_15 1 (by omega) (by omega) (by omega) (by omega)).trans ((hK1 1 (by omega)).trans hSR.2.1)
          have hx_15_18 : cn_15 3 = .inl (cA 0, 12, .inl (F 14)) := (hFs_15 3 (by omega) (by omega) (by omega) (by omega)).trans ((hK1 3 (by omega)).trans hc3)
          have hx_15_19 : cn_15 4 = .inl (cA 0, 12, .inl (F 15)) := (hFs_15 4 (by omega) (by omega) (by omega) (by omega)).trans ((hK1 4 (by omega)).trans hc4)
          have hx_15_20 : cn_15 5 = .inl (cA 0, 12, .inl (F 16)) := (hFs_15 5 (by omega) (by omega) (by omega) (by omega)).trans ((hK1 5 (by omega)).trans hc5)
          have hx_15_21 : cn_15 7 = .inl (cA 0, 10, .inl (F 33)) := (hFs_15 7 (by omega) (by omega) (by omega) (by omega)).trans ((hK1 7 (by omega)).trans hc7)
          have hx_15_22 : cn_15 6 = .inl (cA 5, 11, .inr (.inr (.inr (.inr (fun k => if k < 11 then some (adr (14 + 3 * k)) else none))))) := (hFs_15 6 (by omega) (by omega) (by omega) (by omega)).trans ((hK1 6 (by omega)).trans hc6)
          have hx_15_23 : cn_15 8 = .inr (2, [.ref (adr (8 + 1)), .ref (adr (8 + 2)), .int (bi cf)]) := (hFs_15 8 (by omega) (by omega) (by omega) (by omega)).trans ((hK1 8 (by omega)).trans hBf.1)
          have hx_15_24 : cn_15 (8 + 1) = .inl (cA 0, 10, .inl (F 2)) := (hFs_15 (8 + 1) (by omega) (by omega) (by omega) (by omega)).trans ((hK1 (8 + 1) (by omega)).trans hBf.2.1)
          have hx_15_25 : cn_15 (8 + 2) = .inl (cA 0, 10, .inl (F 3)) := (hFs_15 (8 + 2) (by omega) (by omega) (by omega) (by omega)).trans ((hK1 (8 + 2) (by omega)).trans hBf.2.2)
          have hfr_15 : FrS 14 mm cn cn_15 := hF1.tr hFs_15
          refine W.eq (g2 := F0 m 89 ls [.int (bi q_15)]) rfl ?_
          refine b_bool_eq (tgt := 96) hx hb d_Sht_narrowWith_89 (by decide) (fun c_26 => ?_) (fun c_26 => ?_)
          · refine lv_iconst (v := 0) hx hb d_Sht_narrowWith_96 (by decide) ?_
            refine W.eq (g2 := F0 m 97 ls [.int (bi false)]) rfl ?_
            refine e_z hx hb hr hlk hQ hS d_Sht_narrowWith_97 ?_
            refine ⟨cn_15, f_15, g_15, false, c_15, rfl, hfr_15, hRl_15, hB_15, fun h => ?_, fun h => ?_, hP⟩
            · cases h
            · unfold nw; rw [if_pos hft]; exact stl_F hEq (hF_15 c_26)
          · refine lv_iconst (v := 1) hx hb d_Sht_narrowWith_92 (by decide) ?_
            refine lv_goto (tgt := 97) hx hb d_Sht_narrowWith_93 (by decide) ?_
            refine W.eq (g2 := F0 m 97 ls [.int (bi true)]) rfl ?_
            refine e_z hx hb hr hlk hQ hS d_Sht_narrowWith_97 ?_
            refine ⟨cn_15, f_15, g_15, true, c_15, rfl, hfr_15, hRl_15, hB_15, fun h => ?_, fun h => ?_, hP⟩
            · obtain ⟨vl, vh, e1, g1⟩ := hT_15 c_26
              unfold nw; rw [if_pos hft]; exact stl_T hEq g1 e1
            · cases h
      · refine lv_iload_n hx hb d_Sht_narrowWith_29 rfl (lv_at hl 3 rfl) ?_
        refine lv_iload_n hx hb d_Sht_narrowWith_30 rfl (lv_at hl 1 rfl) ?_
        refine lv_iload hx hb d_Sht_narrowWith_31 (lv_at hl 4 rfl) ?_
        refine lv_ishr hx hb d_Sht_narrowWith_33 ?_
        refine lv_iconst (v := 1) hx hb d_Sht_narrowWith_34 (by decide) ?_
        refine x_bit hx hb d_Sht_narrowWith_35 hxm h4 (by omega) (by omega) ?_
        refine b_bool_eq (tgt := 67) hx hb d_Sht_narrowWith_36 (by decide) (fun c_27 => ?_) (fun c_27 => ?_)
        · refine lv_iconst (v := 1) hx hb d_Sht_narrowWith_67 (by decide) ?_
          refine lv_goto (tgt := 72) hx hb d_Sht_narrowWith_68 (by decide) ?_
          refine W.eq (g2 := F0 m 72 ls [.int (bi true), .int (bi fx)]) rfl ?_
          refine x_and hx hb d_Sht_narrowWith_72 ?_
          refine lv_istore_n (lv' := [(3, .int (bi (fx && true))), (0, .ref (adr 0)), (1, .int xm), (2, .ref (adr 14)), (4, .int x4)]) hx hb d_Sht_narrowWith_73 rfl hl (by decide) rfl (fun ls hl => ?_)
          refine x_iinc (k := 4) (lv' := fun v_ => [(4, .int v_), (3, .int (bi (fx && true))), (0, .ref (adr 0)), (1, .int xm), (2, .ref (adr 14))]) hx hb d_Sht_narrowWith_74 hl rfl h4 (by decide) (by omega) (by decide) (fun v_ => rfl) (fun z_28 tz_28 ls hl => ?_)
          refine lv_goto (tgt := 20) hx hb d_Sht_narrowWith_77 (by decide) ?_
          have hbt : mk.testBit ex = false := by have q := c_27; rw [hasN_nat] at q; exact q
          have ex1 := entB_neg (F := F) (mk := mk) (e := ex) (by rw [hbt]; decide)
          exact ih_12 (ex + 1) z_28 (fx && true) cn1 f1 g1 c1 _ _ _ (by omega) (by omega) (by omega) hF1 hR1 hB1 (by rw [Bool.and_true, ex1]; exact hfx) (by rw [ex1]; exact hEq) hP hS (lv_sub hl [2, 3, 4, 1, 0] rfl)
        · have hEe := hE.2.2 ex (by omega)
          refine lv_aload_n hx hb d_Sht_narrowWith_39 rfl (lv_at hl 2 rfl) ?_
          refine lv_aload_n hx hb d_Sht_narrowWith_40 rfl (lv_at hl 0 rfl) ?_
          refine w_gf hx hb hK i_Sht hown hP (hNm 0 (by omega)) ((hK1 0 (by omega)).trans hSR.1) rfl 5 (by decide) t_90 rfl rfl d_Sht_narrowWith_41 ?_
          refine lv_iload hx hb d_Sht_narrowWith_44 (lv_at hl 4 rfl) ?_
          refine w_ld hx hb hK hP (hNm 3 (by omega)) ((hK1 3 (by omega)).trans hc3) (ex) h4 (by omega) (show ex < 12 by omega) d_Sht_narrowWith_46 (fun z_29 ez_29 => ?_)
          subst ez_29
          have hc14 : (F 14 ex).toInt = ((F 14 ex).toInt.toNat : Int) := by omega
          refine lv_aload_n hx hb d_Sht_narrowWith_47 rfl (lv_at hl 0 rfl) ?_
          refine w_gf hx hb hK i_Sht hown hP (hNm 0 (by omega)) ((hK1 0 (by omega)).trans hSR.1) rfl 6 (by decide) t_91 rfl rfl d_Sht_narrowWith_48 ?_
          refine lv_iload hx hb d_Sht_narrowWith_51 (lv_at hl 4 rfl) ?_
          refine w_ld hx hb hK hP (hNm 4 (by omega)) ((hK1 4 (by omega)).trans hc4) (ex) h4 (by omega) (show ex < 12 by omega) d_Sht_narrowWith_53 (fun z_30 ez_30 => ?_)
          subst ez_30
          refine lv_aload_n hx hb d_Sht_narrowWith_54 rfl (lv_at hl 0 rfl) ?_
          refine w_gf hx hb hK i_Sht hown hP (hNm 0 (by omega)) ((hK1 0 (by omega)).trans hSR.1) rfl 7 (by decide) t_92 rfl rfl d_Sht_narrowWith_55 ?_
          refine lv_iload hx hb d_Sht_narrowWith_58 (lv_at hl 4 rfl) ?_
          refine w_ld hx hb hK hP (hNm 5 (by omega)) ((hK1 5 (by omega)).trans hc5) (ex) h4 (by omega) (show ex < 12 by omega) d_Sht_narrowWith_60 (fun z_31 ez_31 => ?_)
          subst ez_31
          refine x_V (As := [.int ((F 14) ex), .int ((F 15) ex), .int ((F 16) ex)]) (rest := [.int (bi fx)]) hx hb hml hown hK (k_Box_cut l D cA adr N hi cn1 14 f1 g1 c1 ⟨hB1.1, hB1.2.1, hB1.2.2⟩ ⟨hNm _ (by omega), hNm _ (by omega), hNm _ (by omega)⟩ (F 14 ex).toInt.toNat ((F 14) ex) ((F 15) ex) ((F 16) ex) hc14 (by omega)) t_176 t_2 t_173 t_174 t_175 yk_Box_cut ⟨Nat.le_of_ble_eq_true rfl, Nat.le_of_ble_eq_true rfl⟩ (w_rec hK hP (hNm 14 (by omega)) hB1.1 rfl) hP rfl hl.1 rfl (Nat.le_of_ble_eq_true rfl) d_Sht_narrowWith_61 ⟨Nat.le_of_ble_eq_true rfl, Nat.le_of_ble_eq_true rfl⟩ hS (fun q h => h) (fun r H locs hq _ hS => ?_)
          obtain ⟨cn_32, lo_32, hh_32, hlo_32, hhh_32, rfl, hFb_32, hB_32, hP⟩ := hq
          obtain ⟨ch_32, hch_32⟩ : ∃ q : Bool, q = (c1 || decide ((f1 (F 14 ex).toInt.toNat).toInt < ((F 15) ex).toInt ∨ ((F 16) ex).toInt < (g1 (F 14 ex).toInt.toNat).toInt)) := ⟨_, rfl⟩
          rw [← hch_32] at hB_32
          have hx_32_33 : cn_32 0 = .inr (1, [.ref (adr 8), .int (x 1), .ref (adr 1), .int (x 3), .ref (adr 2), .ref (adr 3), .ref (adr 4), .ref (adr 5), .int (x 8), .int (x 9), .ref (adr 11), .int (x 11), .ref (adr 6), .int (x 13), .int (x 14), .int (x 15), .int (bi dn), .ref (adr 7), .int (x 18)]) := (hFb_32 0 (by omega) (by omega) (by omega)).trans ((hK1 0 (by omega)).trans hSR.1)
          have hx_32_34 : cn_32 1 = .inl (cA 3, 12, .inr (.inr (.inr (.inr (fun k => if k < mm then some (adr (56 + k)) else none))))) := (hFb_32 1 (by omega) (by omega) (by omega)).trans ((hK1 1 (by omega)).trans hSR.2.1)
          have hx_32_35 : cn_32 3 = .inl (cA 0, 12, .inl (F 14)) := (hFb_32 3 (by omega) (by omega) (by omega)).trans ((hK1 3 (by omega)).trans hc3)
          have hx_32_36 : cn_32 4 = .inl (cA 0, 12, .inl (F 15)) := (hFb_32 4 (by omega) (by omega) (by omega)).trans ((hK1 4 (by omega)).trans hc4)
          have hx_32_37 : cn_32 5 = .inl (cA 0, 12, .inl (F 16)) := (hFb_32 5 (by omega) (by omega) (by omega)).trans ((hK1 5 (by omega)).trans hc5)
          have hx_32_38 : cn_32 7 = .inl (cA 0, 10, .inl (F 33)) := (hFb_32 7 (by omega) (by omega) (by omega)).trans ((hK1 7 (by omega)).trans hc7)
          have hx_32_39 : cn_32 6 = .inl (cA 5, 11, .inr (.inr (.inr (.inr (fun k => if k < 11 then some (adr (14 + 3 * k)) else none))))) := (hFb_32 6 (by omega) (by omega) (by omega)).trans ((hK1 6 (by omega)).trans hc6)
          have hx_32_40 : cn_32 8 = .inr (2, [.ref (adr (8 + 1)), .ref (adr (8 + 2)), .int (bi cf)]) := (hFb_32 8 (by omega) (by omega) (by omega)).trans ((hK1 8 (by omega)).trans hBf.1)
          have hx_32_41 : cn_32 (8 + 1) = .inl (cA 0, 10, .inl (F 2)) := (hFb_32 (8 + 1) (by omega) (by omega) (by omega)).trans ((hK1 (8 + 1) (by omega)).trans hBf.2.1)
          have hx_32_42 : cn_32 (8 + 2) = .inl (cA 0, 10, .inl (F 3)) := (hFb_32 (8 + 2) (by omega) (by omega) (by omega)).trans ((hK1 (8 + 2) (by omega)).trans hBf.2.2)
          have hfr_32 : FrS 14 mm cn cn_32 := hF1.tr (FrS.b hFb_32)
          have hrl_32 : ∀ r, r < mm → RelAt adr cn_32 F r := fun r9 hr9 => (hR1 r9 hr9).fr (hFb_32 _ (by omega) (by omega) (by omega))
          refine W.eq (g2 := F0 m 64 ls [.int (bi (decide (lo_32.toInt ≤ hh_32.toInt))), .int (bi fx)]) rfl ?_
          have hCb := tI_cut (n := nn) (f := f1) (g := g1) (k := (F 14 ex).toInt.toNat) hlo_32 hhh_32
          have hEq9 := cutB_b (k := (F 14 ex).toInt.toNat) (by omega) hEq hCb
          have ex1 := entB_pos (F := F) (mk := mk) (e := ex) (by have q := c_27; rw [hasN_nat] at q; exact q)
          have hk9 := hEq9 (F 14 ex).toInt.toNat (by omega); rw [tI_up, tI_up] at hk9
          refine b_bool_eq (tgt := 71) hx hb d_Sht_narrowWith_64 (by decide) (fun c_43 => ?_) (fun c_43 => ?_)
          · have hc_43 := of_decide_eq_false c_43
            refine lv_iconst (v := 0) hx hb d_Sht_narrowWith_71 (by decide) ?_
            refine W.eq (g2 := F0 m 72 ls [.int (bi false), .int (bi fx)]) rfl ?_
            refine x_and hx hb d_Sht_narrowWith_72 ?_
            refine lv_istore_n (lv' := [(3, .int (bi (fx && false))), (0, .ref (adr 0)), (1, .int xm), (2, .ref (adr 14)), (4, .int x4)]) hx hb d_Sht_narrowWith_73 rfl hl (by decide) rfl (fun ls hl => ?_)
            refine x_iinc (k := 4) (lv' := fun v_ => [(4, .int v_), (3, .int (bi (fx && false))), (0, .ref (adr 0)), (1, .int xm), (2, .ref (adr 14))]) hx hb d_Sht_narrowWith_74 hl rfl h4 (by decide) (by omega) (by decide) (fun v_ => rfl) (fun z_44 tz_44 ls hl => ?_)
            refine lv_goto (tgt := 20) hx hb d_Sht_narrowWith_77 (by decide) ?_
            have hbt : mk.testBit ex = true := by have q := c_27; rw [hasN_nat] at q; exact q
            exact ih_12 (ex + 1) z_44 (fx && false) cn_32 (upd f1 (F 14 ex).toInt.toNat lo_32) (upd g1 (F 14 ex).toInt.toNat hh_32) ch_32 _ _ _ (by omega) (by omega) (by omega) hfr_32 hrl_32 hB_32 (by rw [hfx, ex1, ← hk9.1, ← hk9.2]; show _ = (_ && _); rw [show decide (lo_32.toInt ≤ hh_32.toInt) = false from c_43]) (by rw [ex1]; exact hEq9) hP hS (lv_sub hl [2, 3, 4, 1, 0] rfl)
          · have hc_43 := of_decide_eq_true c_43
            refine lv_iconst (v := 1) hx hb d_Sht_narrowWith_67 (by decide) ?_
            refine lv_goto (tgt := 72) hx hb d_Sht_narrowWith_68 (by decide) ?_
            refine W.eq (g2 := F0 m 72 ls [.int (bi true), .int (bi fx)]) rfl ?_
            refine x_and hx hb d_Sht_narrowWith_72 ?_
            refine lv_istore_n (lv' := [(3, .int (bi (fx && true))), (0, .ref (adr 0)), (1, .int xm), (2, .ref (adr 14)), (4, .int x4)]) hx hb d_Sht_narrowWith_73 rfl hl (by decide) rfl (fun ls hl => ?_)
            refine x_iinc (k := 4) (lv' := fun v_ => [(4, .int v_), (3, .int (bi (fx && true))), (0, .ref (adr 0)), (1, .int xm), (2, .ref (adr 14))]) hx hb d_Sht_narrowWith_74 hl rfl h4 (by decide) (by omega) (by decide) (fun v_ => rfl) (fun z_45 tz_45 ls hl => ?_)
            refine lv_goto (tgt := 20) hx hb d_Sht_narrowWith_77 (by decide) ?_
            have hbt : mk.testBit ex = true := by have q := c_27; rw [hasN_nat] at q; exact q
            exact ih_12 (ex + 1) z_45 (fx && true) cn_32 (upd f1 (F 14 ex).toInt.toNat lo_32) (upd g1 (F 14 ex).toInt.toNat hh_32) ch_32 _ _ _ (by omega) (by omega) (by omega) hfr_32 hrl_32 hB_32 (by rw [hfx, ex1, ← hk9.1, ← hk9.2]; show _ = (_ && _); rw [show decide (lo_32.toInt ≤ hh_32.toInt) = true from c_43]) (by rw [ex1]; exact hEq9) hP hS (lv_sub hl [2, 3, 4, 1, 0] rfl)
  exact L_12 (_ + 1) 0 (0 : Int32) true cn_1 (va_cpy (F 2) f 0 0 10) (va_cpy (F 3) g 0 0 10) ch _ _ _ (Nat.lt_succ_self _) (by omega) kc_0 hfr_1 hrl_1 ⟨hB_1.1, hB_1.2.1, hB_1.2.2⟩ rfl (fun j hj => by unfold tI va_cpy; rw [if_pos (by omega), if_pos (by omega)]; simp [entB]) hP hS (lv_sub hl [3, 4, 2, 1, 0] rfl)
