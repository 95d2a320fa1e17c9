/-! the sheet -/
def SF (adr : Nat → Nat) (x : Nat → Int32) (dn : Bool) : List Value := [.ref (adr 8), .int (x 1), .ref (adr 1), .int (x 3), .ref (adr 2), .ref (adr 3), .ref (adr 4), .ref (adr 5), .int (x 8), .int (x 9), .ref (adr 11), .int (x 11), .ref (adr 6), .int (x 13), .int (x 14), .int (x 15), .int (bi dn), .ref (adr 7), .int (x 18)]
/-- what a narrowing of box b leaves alone -/
def FrS (b mm : Nat) (cn cn' : Nat → va_E) : Prop := ∀ k, k ≠ b → k ≠ b + 1 → k ≠ b + 2 → ¬ (56 ≤ k ∧ k < 56 + mm) → cn' k = cn k
theorem FrS.rf {b mm : Nat} {cn : Nat → va_E} : FrS b mm cn cn := fun _ _ _ _ _ => rfl
theorem FrS.tr {b mm : Nat} {cn cn' cn'' : Nat → va_E} (h : FrS b mm cn cn') (g : FrS b mm cn' cn'') : FrS b mm cn cn'' := fun k a1 a2 a3 a4 => (g k a1 a2 a3 a4).trans (h k a1 a2 a3 a4)
theorem FrS.tb {b mm r : Nat} {cn cn' : Nat → va_E} (hr : r < mm) (h : FrTB (56 + r) b cn cn') : FrS b mm cn cn' := fun k a1 a2 a3 a4 => h k (by omega) a1 a2 a3
theorem FrS.b {b mm : Nat} {cn cn' : Nat → va_E} (h : FrB b cn cn') : FrS b mm cn cn' := fun k a1 a2 a3 _ => h k a1 a2 a3
theorem RPs.fr {cA : Nat → ClassId} {adr : Nat → Nat} {cn cn' : Nat → va_E} {F : Nat → Nat → Int32} (h : RPs cA adr cn F) (e : ∀ k, 47 ≤ k → k < 56 → cn' k = cn k) : RPs cA adr cn' F := fun t ht => by
  obtain ⟨h1, h2, h3⟩ := h t ht
  exact ⟨(e _ (by omega) (by omega)).trans h1, (e _ (by omega) (by omega)).trans h2, (e _ (by omega) (by omega)).trans h3⟩
/-- the relations' part of the sheet -/
def SR (cA : Nat → ClassId) (adr : Nat → Nat) (cn : Nat → va_E) (F : Nat → Nat → Int32) (mm : Nat) (x : Nat → Int32) (dn : Bool) : Prop := cn 0 = .inr (1, SF adr x dn) ∧ cn 1 = .inl (cA 3, 12, .inr (.inr (.inr (.inr (fun k => if k < mm then some (adr (56 + k)) else none))))) ∧ (x 3).toInt = (mm : Int) ∧ RPs cA adr cn F ∧ ∀ r, r < mm → RelAt adr cn F r
theorem SR.fr {cA : Nat → ClassId} {adr : Nat → Nat} {cn cn' : Nat → va_E} {F : Nat → Nat → Int32} {mm b : Nat} {x : Nat → Int32} {dn : Bool} (h : SR cA adr cn F mm x dn) (hb : 8 ≤ b ∧ b + 2 < 47) (g : FrS b mm cn cn') (hr : ∀ r, r < mm → RelAt adr cn' F r) : SR cA adr cn' F mm x dn :=
  ⟨(g 0 (by omega) (by omega) (by omega) (by omega)).trans h.1, (g 1 (by omega) (by omega) (by omega) (by omega)).trans h.2.1, h.2.2.1, h.2.2.2.1.fr (fun k h1 h2 => g k (by omega) (by omega) (by omega) (by omega)), hr⟩
theorem d_Sht_settle_0 : decode b_Sht_settle 0 = .ok (.iconst 1, 1) := by decide +kernel
theorem d_Sht_settle_1 : decode b_Sht_settle 1 = .ok (.istore_n 2, 1) := by decide +kernel
theorem d_Sht_settle_2 : decode b_Sht_settle 2 = .ok (.aload_n 1, 1) := by decide +kernel
theorem d_Sht_settle_3 : decode b_Sht_settle 3 = .ok (.iconst 0, 1) := by decide +kernel
theorem d_Sht_settle_4 : decode b_Sht_settle 4 = .ok (.putfield 153, 3) := by decide +kernel
theorem d_Sht_settle_7 : decode b_Sht_settle 7 = .ok (.iconst 0, 1) := by decide +kernel
theorem d_Sht_settle_8 : decode b_Sht_settle 8 = .ok (.istore_n 3, 1) := by decide +kernel
theorem d_Sht_settle_9 : decode b_Sht_settle 9 = .ok (.iload_n 3, 1) := by decide +kernel
theorem d_Sht_settle_10 : decode b_Sht_settle 10 = .ok (.aload_n 0, 1) := by decide +kernel
theorem d_Sht_settle_11 : decode b_Sht_settle 11 = .ok (.getfield 127, 3) := by decide +kernel
theorem d_Sht_settle_14 : decode b_Sht_settle 14 = .ok (.if_icmp .ge 44, 3) := by decide +kernel
theorem d_Sht_settle_17 : decode b_Sht_settle 17 = .ok (.iload_n 2, 1) := by decide +kernel
theorem d_Sht_settle_18 : decode b_Sht_settle 18 = .ok (.ifCond .eq 40, 3) := by decide +kernel
theorem d_Sht_settle_21 : decode b_Sht_settle 21 = .ok (.aload_n 0, 1) := by decide +kernel
theorem d_Sht_settle_22 : decode b_Sht_settle 22 = .ok (.getfield 24, 3) := by decide +kernel
theorem d_Sht_settle_25 : decode b_Sht_settle 25 = .ok (.iload_n 3, 1) := by decide +kernel
theorem d_Sht_settle_26 : decode b_Sht_settle 26 = .ok (.aaload, 1) := by decide +kernel
theorem d_Sht_settle_27 : decode b_Sht_settle 27 = .ok (.getfield 134, 3) := by decide +kernel
theorem d_Sht_settle_30 : decode b_Sht_settle 30 = .ok (.ifCond .eq 16, 3) := by decide +kernel
theorem d_Sht_settle_33 : decode b_Sht_settle 33 = .ok (.aload_n 0, 1) := by decide +kernel
theorem d_Sht_settle_34 : decode b_Sht_settle 34 = .ok (.getfield 24, 3) := by decide +kernel
theorem d_Sht_settle_37 : decode b_Sht_settle 37 = .ok (.iload_n 3, 1) := by decide +kernel
theorem d_Sht_settle_38 : decode b_Sht_settle 38 = .ok (.aaload, 1) := by decide +kernel
theorem d_Sht_settle_39 : decode b_Sht_settle 39 = .ok (.aload_n 1, 1) := by decide +kernel
theorem d_Sht_settle_40 : decode b_Sht_settle 40 = .ok (.invokevirtual 156, 3) := by decide +kernel
theorem d_Sht_settle_43 : decode b_Sht_settle 43 = .ok (.ifCond .eq 7, 3) := by decide +kernel
theorem d_Sht_settle_46 : decode b_Sht_settle 46 = .ok (.iconst 1, 1) := by decide +kernel
theorem d_Sht_settle_47 : decode b_Sht_settle 47 = .ok (.goto 4, 3) := by decide +kernel
theorem d_Sht_settle_50 : decode b_Sht_settle 50 = .ok (.iconst 0, 1) := by decide +kernel
theorem d_Sht_settle_51 : decode b_Sht_settle 51 = .ok (.istore_n 2, 1) := by decide +kernel
theorem d_Sht_settle_52 : decode b_Sht_settle 52 = .ok (.iinc 3 1, 3) := by decide +kernel
theorem d_Sht_settle_55 : decode b_Sht_settle 55 = .ok (.goto (-46), 3) := by decide +kernel
theorem d_Sht_settle_58 : decode b_Sht_settle 58 = .ok (.iload_n 2, 1) := by decide +kernel
theorem d_Sht_settle_59 : decode b_Sht_settle 59 = .ok (.ifCond .eq 10, 3) := by decide +kernel
theorem d_Sht_settle_62 : decode b_Sht_settle 62 = .ok (.aload_n 1, 1) := by decide +kernel
theorem d_Sht_settle_63 : decode b_Sht_settle 63 = .ok (.getfield 153, 3) := by decide +kernel
theorem d_Sht_settle_66 : decode b_Sht_settle 66 = .ok (.ifCond .ne (-64), 3) := by decide +kernel
theorem d_Sht_settle_69 : decode b_Sht_settle 69 = .ok (.iload_n 2, 1) := by decide +kernel
theorem d_Sht_settle_70 : decode b_Sht_settle 70 = .ok (.ireturn, 1) := by decide +kernel
set_option maxHeartbeats 4000000 in
set_option maxRecDepth 20000 in
theorem k_Sht_settle (l : Launch) (D : va_G) (cA : Nat → ClassId) (adr : Nat → Nat) (N : List Nat) (hi : wI N adr) (cn : Nat → va_E) (F : Nat → Nat → Int32) (I : Nat → Int32) (nn mm : Nat) (x : Nat → Int32) (dn : Bool) (hSR : SR cA adr cn F mm x dn) (hNm : ∀ k, k < 56 + mm → k ∈ N) (hW : WR I F nn mm) (b : Nat) (f g : Nat → Int32) (ch : Bool) (hB : BP cA adr cn b f g ch) (hbd : 8 ≤ b ∧ b + 2 < 47) (hne : Ne nn (tI f) (tI g)) (hrg : ∀ k, k < nn → -100 ≤ tI f k ∧ tI g k ≤ 100) : Ct l y_Sht_settle b_Sht_settle 4 (some .boolean) 12 D cA [.ref (adr 0), .ref (adr b)] (fun H => va_P D classes (wl N adr cn) H) (fun r H => ∃ (cn2 : Nat → va_E) (f2 g2 : Nat → Int32) (q c2 : Bool), r = some (.int (bi q)) ∧ FrS b mm cn cn2 ∧ (∀ r, r < mm → RelAt adr cn2 F r) ∧ BP cA adr cn2 b f2 g2 c2 ∧ (q = true → ∃ vl vh, Eqb nn (tI f2) (tI g2) vl vh ∧ GF nn (FA F mm) (tI f) (tI g) vl vh) ∧ (q = false → No nn (FA F mm) (tI f) (tI g)) ∧ va_P D classes (wl N adr cn2) H) (wA N adr) := by
  refine Ct.mk (by decide) (Nat.le_of_ble_eq_true rfl) ?_
  intro p e s m args below meth c Q H locs ls hx hb hr hml hlk hown hin hK hQ hS hP hl
  have hl : lv_has ls 4 [(0, .ref (adr 0)), (1, .ref (adr b))] := hl
  have hown : s.vm.findClass "RangeSheet" = some m.cls := hown
  have hMb : BM N b := ⟨hNm _ (by omega), hNm _ (by omega), hNm _ (by omega)⟩
  have hm12 := hW.2.1
  refine lv_iconst (v := 1) hx hb d_Sht_settle_0 (by decide) ?_
  refine lv_istore_n (lv' := [(2, .int (1 : Int32)), (0, .ref (adr 0)), (1, .ref (adr b))]) hx hb d_Sht_settle_1 rfl hl (by decide) rfl (fun ls hl => ?_)
  have L_1 : ∀ (n : Nat) (fz : Bool) (cn1 : Nat → va_E) (f1 : Nat → Int32) (g1 : Nat → Int32) (c1 : Bool) (H : Heap) (locs : List Loc) (ls : Array Slot), (wd nn (tI f1) (tI g1)) < n → (fz = true) → (FrS b mm cn cn1) → (∀ r, r < mm → RelAt adr cn1 F r) → (BP cA adr cn1 b f1 g1 c1) → (SO nn (FA F mm) (tI f) (tI g) (tI f1) (tI g1) true) → va_P D classes (wl N adr cn1) H → va_S (wA N adr) s.heap H locs → lv_has ls 4 [(0, .ref (adr 0)), (1, .ref (adr b)), (2, .int (bi fz))] → W p l e (rl 12) s m args below meth c H locs 0 0 Q (F0 m 2 ls []) := by
    intro n
    induction n with
    | zero => intro fz cn1 f1 g1 c1 H locs ls hmu; exact absurd hmu (Nat.not_lt_zero _)
    | succ n ih_1 =>
      intro fz cn1 f1 g1 c1 H locs ls hmu hfz hF1 hR1 hB1 hSO hP hS hl
      have hS1 := hSR.fr hbd hF1 hR1; have hmu0 := hmu
      refine lv_aload_n hx hb d_Sht_settle_2 rfl (lv_at hl 1 rfl) ?_
      refine lv_iconst (v := 0) hx hb d_Sht_settle_3 (by decide) ?_
      refine W.eq (g2 := F0 m 4 ls (.int (bi false) :: [.ref (adr b)])) rfl ?_
      refine w_pfN hx hb hK i_Box t_Box t_Box_ok n_Box hown hi hP hS wA_mem hMb.1 hB1.1 rfl 2 (by decide) t_51 rfl rfl (bi_nar _) (bi_fit _) rfl d_Sht_settle_4 (fun H locs hP hS => ?_)
      obtain ⟨cn_2, ecn_2⟩ : ∃ q : Nat → va_E, q = va_up cn1 b (.inr (2, [.ref (adr (b + 1)), .ref (adr (b + 2)), .int (bi false)])) := ⟨_, rfl⟩
      have hP : va_P D classes (wl N adr cn_2) H := by rw [ecn_2]; exact hP
      have ho_2_3 : cn_2 0 = .inr (1, [.ref (adr 8), .int (x 1), .ref (adr 1), .int (x 3), .ref (adr 2), .ref (adr 3), .ref (adr 4), .ref (adr 5), .int (x 8), .int (x 9), .ref (adr 11), .int (x 11), .ref (adr 6), .int (x 13), .int (x 14), .int (x 15), .int (bi dn), .ref (adr 7), .int (x 18)]) := by rw [ecn_2, va_up_ne _ _ (by omega)]; exact hS1.1
      have ho_2_4 : cn_2 1 = .inl (cA 3, 12, .inr (.inr (.inr (.inr (fun k => if k < mm then some (adr (56 + k)) else none))))) := by rw [ecn_2, va_up_ne _ _ (by omega)]; exact hS1.2.1
      have ho_2_5 : cn_2 b = .inr (2, [.ref (adr (b + 1)), .ref (adr (b + 2)), .int (bi false)]) := by rw [ecn_2]; exact va_up_self _ _ _
      have ho_2_6 : cn_2 (b + 1) = .inl (cA 0, 10, .inl f1) := by rw [ecn_2, va_up_ne _ _ (by omega)]; exact hB1.2.1
      have ho_2_7 : cn_2 (b + 2) = .inl (cA 0, 10, .inl g1) := by rw [ecn_2, va_up_ne _ _ (by omega)]; exact hB1.2.2
      have hfr_8 : FrS b mm cn cn_2 := fun k a1 a2 a3 a4 => (congrFun ecn_2 k).trans ((va_up_ne _ _ a1).trans (hF1 k a1 a2 a3 a4))
      have hrl_8 : ∀ r, r < mm → RelAt adr cn_2 F r := fun r hr => (hR1 r hr).fr (by rw [ecn_2, va_up_ne _ _ (by omega)])
      have hrp_8 : RPs cA adr cn_2 F := RPs.fr hS1.2.2.2.1 (fun k h1 h2 => by rw [ecn_2, va_up_ne _ _ (by omega)])
      refine lv_iconst (v := 0) hx hb d_Sht_settle_7 (by decide) ?_
      refine lv_istore_n (lv' := [(3, .int (0 : Int32)), (0, .ref (adr 0)), (1, .ref (adr b)), (2, .int (bi fz))]) hx hb d_Sht_settle_8 rfl hl (by decide) rfl (fun ls hl => ?_)
      have L_9 : ∀ (n : Nat) (r : Nat) (x3 : Int32) (fn : Bool) (cn2 : Nat → va_E) (f2 : Nat → Int32) (g2 : Nat → Int32) (c2 : Bool) (H : Heap) (locs : List Loc) (ls : Array Slot), (mm - r) < n → (r ≤ mm) → (x3.toInt = (r : Int)) → (FrS b mm cn cn2) → (∀ r, r < mm → RelAt adr cn2 F r) → (BP cA adr cn2 b f2 g2 c2) → (fn = true → PN nn (FA F mm) (tI f1) (tI g1) (tI f2) (tI g2) false c2) → (fn = false → No nn (FA F mm) (tI f1) (tI g1)) → (fn = true → Eqb nn (tI f2) (tI g2) (tI f1) (tI g1) → ∀ i, i < r → ¬ (F 9 i).toInt = 0 → FxR F i (tI f1) (tI g1)) → va_P D classes (wl N adr cn2) H → va_S (wA N adr) s.heap H locs → lv_has ls 4 [(0, .ref (adr 0)), (1, .ref (adr b)), (2, .int (bi fn)), (3, .int x3)] → W p l e (rl 12) s m args below meth c H locs 0 0 Q (F0 m 9 ls []) := by
        intro n
        induction n with
        | zero => intro r x3 fn cn2 f2 g2 c2 H locs ls hmu; exact absurd hmu (Nat.not_lt_zero _)
        | succ n ih_9 =>
          intro r x3 fn cn2 f2 g2 c2 H locs ls hmu hr2 h3 hF2 hR2 hB2 hFT hFN hD hP hS hl
          have hS2 := hSR.fr hbd hF2 hR2
          refine lv_iload_n hx hb d_Sht_settle_9 rfl (lv_at hl 3 rfl) ?_
          refine lv_aload_n hx hb d_Sht_settle_10 rfl (lv_at hl 0 rfl) ?_
          refine w_gf hx hb hK i_Sht hown hP (hNm 0 (by omega)) hS2.1 rfl 3 (by decide) t_88 rfl rfl d_Sht_settle_11 ?_
          refine b_icmp_ge (tgt := 58) hx hb d_Sht_settle_14 (by decide) h3 hSR.2.2.1 (fun c_10 => ?_) (fun c_10 => ?_)
          · have hre : r = mm := by omega
            refine lv_iload_n hx hb d_Sht_settle_58 rfl (lv_at hl 2 rfl) ?_
            refine b_bool_eq (tgt := 69) hx hb d_Sht_settle_59 (by decide) (fun c_11 => ?_) (fun c_11 => ?_)
            · refine lv_iload_n hx hb d_Sht_settle_69 rfl (lv_at hl 2 rfl) ?_
              refine e_z hx hb hr hlk hQ hS d_Sht_settle_70 ?_
              exact ⟨cn2, f2, g2, fn, c2, rfl, hF2, hR2, hB2, fun h => absurd h (by rw [c_11]; decide), fun _ => hSO.no (hFN c_11), hP⟩
            · refine lv_aload_n hx hb d_Sht_settle_62 rfl (lv_at hl 1 rfl) ?_
              refine w_gfN hx hb hK i_Box hown hP hMb.1 hB2.1 rfl 2 (by decide) t_51 rfl rfl d_Sht_settle_63 ?_
              refine b_bool_ne (tgt := 2) hx hb d_Sht_settle_66 (by decide) (fun c_12 => ?_) (fun c_12 => ?_)
              · have hfn := c_11; have hcc := c_12
                have hSO9 : SO nn (FA F mm) (tI f) (tI g) (tI f2) (tI g2) true := by have hs := hSO.step (hFT hfn) (fun e i hi2 hg => hD hfn e i (by omega) hg); rw [hcc] at hs; exact hs
                exact ih_1 fn cn2 f2 g2 c2 _ _ _ (wd_dec hmu0 (hFT hfn) hcc) hfn hF2 hR2 hB2 hSO9 hP hS (lv_sub hl [0, 1, 2] rfl)
              · refine lv_iload_n hx hb d_Sht_settle_69 rfl (lv_at hl 2 rfl) ?_
                refine e_z hx hb hr hlk hQ hS d_Sht_settle_70 ?_
                have hfn := c_11; have hcc := c_12
                exact ⟨cn2, f2, g2, fn, c2, rfl, hF2, hR2, hB2, fun _ => by have hs := hSO.step (hFT hfn) (fun e i hi2 hg => hD hfn e i (by omega) hg); rw [hcc] at hs; exact hs.fin, fun h => absurd h (by rw [hfn]; decide), hP⟩
          · refine lv_iload_n hx hb d_Sht_settle_17 rfl (lv_at hl 2 rfl) ?_
            refine b_bool_eq (tgt := 58) hx hb d_Sht_settle_18 (by decide) (fun c_13 => ?_) (fun c_13 => ?_)
            · refine lv_iload_n hx hb d_Sht_settle_58 rfl (lv_at hl 2 rfl) ?_
              refine b_bool_eq (tgt := 69) hx hb d_Sht_settle_59 (by decide) (fun c_14 => ?_) (fun c_14 => ?_)
              · refine lv_iload_n hx hb d_Sht_settle_69 rfl (lv_at hl 2 rfl) ?_
                refine e_z hx hb hr hlk hQ hS d_Sht_settle_70 ?_
                exact ⟨cn2, f2, g2, fn, c2, rfl, hF2, hR2, hB2, fun h => absurd h (by rw [c_14]; decide), fun _ => hSO.no (hFN c_14), hP⟩
              · rw [c_13] at c_14; cases c_14
            · have hfn := c_13; have hPN := hFT hfn
              have hrg1 : ∀ k, k < nn → -100 ≤ tI f2 k ∧ tI g2 k ≤ 100 := fun k hk => by have a1 := hPN.1 k hk; have a2 := hrg k hk; have a3 := hSO.1 k hk; omega
              refine lv_aload_n hx hb d_Sht_settle_21 rfl (lv_at hl 0 rfl) ?_
              refine w_gf hx hb hK i_Sht hown hP (hNm 0 (by omega)) hS2.1 rfl 2 (by decide) t_87 rfl rfl d_Sht_settle_22 ?_
              refine lv_iload_n hx hb d_Sht_settle_25 rfl (lv_at hl 3 rfl) ?_
              refine w_ald hx hb hK hP (hNm 1 (by omega)) hS2.2.1 rfl (r) h3 (by omega) (show r < 12 by omega) (if_pos (by omega)) d_Sht_settle_26 ?_
              refine x_good (r := r) (F := F) hx hb hK hown hP (hNm _ (by omega)) (hR2 r (by omega)) (hW.2.2.2.2.2 r (by omega)).1 d_Sht_settle_27 ?_
              refine b_bool_eq (tgt := 46) hx hb d_Sht_settle_30 (by decide) (fun c_15 => ?_) (fun c_15 => ?_)
              · refine lv_iconst (v := 1) hx hb d_Sht_settle_46 (by decide) ?_
                refine lv_goto (tgt := 51) hx hb d_Sht_settle_47 (by decide) ?_
                refine lv_istore_n (lv' := [(2, .int (1 : Int32)), (0, .ref (adr 0)), (1, .ref (adr b)), (3, .int x3)]) hx hb d_Sht_settle_51 rfl hl (by decide) rfl (fun ls hl => ?_)
                refine x_iinc (k := 3) (lv' := fun v_ => [(3, .int v_), (2, .int (1 : Int32)), (0, .ref (adr 0)), (1, .ref (adr b))]) hx hb d_Sht_settle_52 hl rfl h3 (by decide) (by omega) (by decide) (fun v_ => rfl) (fun z_16 tz_16 ls hl => ?_)
                refine lv_goto (tgt := 9) hx hb d_Sht_settle_55 (by decide) ?_
                exact ih_9 (r + 1) z_16 true cn2 f2 g2 c2 _ _ _ (by omega) (by omega) (by omega) hF2 hR2 hB2 (fun _ => hFT hfn) (fun h => absurd h (by decide)) (fun _ e i hi hg => by rcases (by omega : i < r ∨ i = r) with z | z; exact hD hfn e i z hg; (rw [z] at hg; exact absurd (of_decide_eq_false c_15) (fun h => h hg))) hP hS (lv_sub hl [2, 3, 1, 0] rfl)
              · refine lv_aload_n hx hb d_Sht_settle_33 rfl (lv_at hl 0 rfl) ?_
                refine w_gf hx hb hK i_Sht hown hP (hNm 0 (by omega)) hS2.1 rfl 2 (by decide) t_87 rfl rfl d_Sht_settle_34 ?_
                refine lv_iload_n hx hb d_Sht_settle_37 rfl (lv_at hl 3 rfl) ?_
                refine w_ald hx hb hK hP (hNm 1 (by omega)) hS2.2.1 rfl (r) h3 (by omega) (show r < 12 by omega) (if_pos (by omega)) d_Sht_settle_38 ?_
                refine lv_aload_n hx hb d_Sht_settle_39 rfl (lv_at hl 1 rfl) ?_
                refine x_narrow (r := r) (F := F) (nn := nn) hx hb hml hown hK hl.1 hi hP hS (hNm _ (by omega)) (fun t ht => ⟨hNm _ (by omega), hNm _ (by omega), hNm _ (by omega)⟩) (hR2 r (by omega)) hS2.2.2.2.1 (hW.2.2.2.2.2 r (by omega)) hW.2.2.2.2.1 ⟨hB2.1, hB2.2.1, hB2.2.2⟩ hMb hbd.2 hW.1 hPN.2.1 hrg1 ⟨Nat.le_of_ble_eq_true rfl, Nat.le_of_ble_eq_true rfl⟩ ⟨Nat.le_of_ble_eq_true rfl, Nat.le_of_ble_eq_true rfl⟩ (Nat.le_of_ble_eq_true rfl) d_Sht_settle_40 (fun H locs cn_17 f_17 g_17 q_17 c_17 hF_17 hRl_17 hB_17 hN_17 hP hS => ?_)
                have hx_17_18 : cn_17 0 = .inr (1, [.ref (adr 8), .int (x 1), .ref (adr 1), .int (x 3), .ref (adr 2), .ref (adr 3), .ref (adr 4), .ref (adr 5), .int (x 8), .int (x 9), .ref (adr 11), .int (x 11), .ref (adr 6), .int (x 13), .int (x 14), .int (x 15), .int (bi dn), .ref (adr 7), .int (x 18)]) := (hF_17 0 (by omega) (by omega) (by omega) (by omega)).trans hS2.1
                have hx_17_19 : cn_17 1 = .inl (cA 3, 12, .inr (.inr (.inr (.inr (fun k => if k < mm then some (adr (56 + k)) else none))))) := (hF_17 1 (by omega) (by omega) (by omega) (by omega)).trans hS2.2.1
                have hrl_17 : ∀ r, r < mm → RelAt adr cn_17 F r := fun r9 hr => by by_cases e : r9 = r; (rw [e]; exact hRl_17); exact (hR2 r9 hr).fr (hF_17 _ (by omega) (by omega) (by omega) (by omega))
                have hrp_17 : RPs cA adr cn_17 F := RPs.fr hS2.2.2.2.1 (fun k h1 h2 => hF_17 k (by omega) (by omega) (by omega) (by omega))
                have hfr_17 : FrS b mm cn cn_17 := hF2.tr (FrS.tb (by omega) hF_17)
                have hPP := hPN.nok hN_17 (fun bl bh hf => hf r (by omega) (of_decide_eq_true c_15))
                refine b_bool_eq (tgt := 50) hx hb d_Sht_settle_43 (by decide) (fun c_20 => ?_) (fun c_20 => ?_)
                · refine lv_iconst (v := 0) hx hb d_Sht_settle_50 (by decide) ?_
                  refine lv_istore_n (lv' := [(2, .int (0 : Int32)), (0, .ref (adr 0)), (1, .ref (adr b)), (3, .int x3)]) hx hb d_Sht_settle_51 rfl hl (by decide) rfl (fun ls hl => ?_)
                  refine x_iinc (k := 3) (lv' := fun v_ => [(3, .int v_), (2, .int (0 : Int32)), (0, .ref (adr 0)), (1, .ref (adr b))]) hx hb d_Sht_settle_52 hl rfl h3 (by decide) (by omega) (by decide) (fun v_ => rfl) (fun z_21 tz_21 ls hl => ?_)
                  refine lv_goto (tgt := 9) hx hb d_Sht_settle_55 (by decide) ?_
                  exact ih_9 (r + 1) z_21 false cn_17 f_17 g_17 c_17 _ _ _ (by omega) (by omega) (by omega) hfr_17 hrl_17 ⟨hB_17.1, hB_17.2.1, hB_17.2.2⟩ (fun h => absurd h (by decide)) (fun _ => hPP.2 c_20) (fun h => absurd h (by decide)) hP hS (lv_sub hl [2, 3, 1, 0] rfl)
                · refine lv_iconst (v := 1) hx hb d_Sht_settle_46 (by decide) ?_
                  refine lv_goto (tgt := 51) hx hb d_Sht_settle_47 (by decide) ?_
                  refine lv_istore_n (lv' := [(2, .int (1 : Int32)), (0, .ref (adr 0)), (1, .ref (adr b)), (3, .int x3)]) hx hb d_Sht_settle_51 rfl hl (by decide) rfl (fun ls hl => ?_)
                  refine x_iinc (k := 3) (lv' := fun v_ => [(3, .int v_), (2, .int (1 : Int32)), (0, .ref (adr 0)), (1, .ref (adr b))]) hx hb d_Sht_settle_52 hl rfl h3 (by decide) (by omega) (by decide) (fun v_ => rfl) (fun z_22 tz_22 ls hl => ?_)
                  refine lv_goto (tgt := 9) hx hb d_Sht_settle_55 (by decide) ?_
                  have hD9 : Eqb nn (tI f_17) (tI g_17) (tI f1) (tI g1) → ∀ i, i < r + 1 → ¬ (F 9 i).toInt = 0 → FxR F i (tI f1) (tI g1) := by
                    intro e i hi hg
                    have hs9 := (hN_17.1 c_20).1.1
                    have e1 : Eqb nn (tI f2) (tI g2) (tI f1) (tI g1) := fun j hj => by have b1 := e j hj; have b2 := hs9 j hj; have b3 := hPN.1 j hj; omega
                    rcases (by omega : i < r ∨ i = r) with z | z
                    · exact hD hfn e1 i z hg
                    · rw [z]; exact FxR.congr (hW.2.2.2.2.2 r (by omega)) hW.1 ((hN_17.1 c_20).2 (fun j hj => by have b1 := e j hj; have b2 := e1 j hj; omega)) e1
                  exact ih_9 (r + 1) z_22 true cn_17 f_17 g_17 c_17 _ _ _ (by omega) (by omega) (by omega) hfr_17 hrl_17 ⟨hB_17.1, hB_17.2.1, hB_17.2.2⟩ (fun _ => hPP.1 c_20) (fun h => absurd h (by decide)) (fun _ => hD9) hP hS (lv_sub hl [2, 3, 1, 0] rfl)
      exact L_9 (_ + 1) 0 (0 : Int32) fz cn_2 f1 g1 false _ _ _ (Nat.lt_succ_self _) (by omega) kc_0 hfr_8 hrl_8 ⟨ho_2_5, ho_2_6, ho_2_7⟩ (fun _ => PN.rf hSO.2.1) (fun h => by rw [hfz] at h; cases h) (fun _ _ i hi => absurd hi (by omega)) hP hS (lv_sub hl [1, 2, 3, 0] rfl)
  exact L_1 (_ + 1) true cn f g ch _ _ _ (Nat.lt_succ_self _) rfl FrS.rf hSR.2.2.2.2 hB ⟨Sb.rf, hne, fun _ _ a _ _ => a, fun h => absurd h (by decide)⟩ hP hS (lv_sub hl [1, 2, 0] rfl)
