/-- the plain test -/
def Dif (F : Nat → Nat → Int32) (a : Nat) : Prop := ∀ i j, i < j → j < 10 → a.testBit i = true → a.testBit j = true → ¬ (F 33 j).toInt = (F 33 i).toInt
def SatR (sd : Int) (F : Nat → Nat → Int32) (r : Nat) : Prop :=
  if (F 5 r).toInt = 7 then (F 6 r).toInt.toNat < 2 ^ sd.toNat ∧ Dif F (F 6 r).toInt.toNat
  else ((F 6 r).toInt < sd ∧ (F 7 r).toInt < sd ∧ ((F 5 r).toInt ≠ 5 → (F 5 r).toInt ≠ 8 → (F 8 r).toInt < sd)) ∧
    (if (F 5 r).toInt = 8 then rsA F (F 8 r).toInt.toNat (F 33 (F 6 r).toInt.toNat).toInt (F 33 (F 7 r).toInt.toNat).toInt
     else if (F 5 r).toInt = 5 then (F 33 (F 6 r).toInt.toNat).toInt + (F 8 r).toInt ≤ (F 33 (F 7 r).toInt.toNat).toInt
     else R3 (F 5 r).toInt.toNat (F 33 (F 6 r).toInt.toNat).toInt (F 33 (F 7 r).toInt.toNat).toInt (F 33 (F 8 r).toInt.toNat).toInt)
theorem R3_third {k : Nat} {x y z : Int} (hk : k < 7) (h6 : k ≠ 6) (h5 : k ≠ 5) (hz : -100 ≤ z ∧ z ≤ 100) : R3 k x y z ↔ thirdI k x y = z := by
  rcases (by omega : k = 0 ∨ k = 1 ∨ k = 2 ∨ k = 3 ∨ k = 4) with q | q | q | q | q
  · subst q; simp [R3, thirdI]
  · subst q; simp [R3, thirdI]
  · subst q
    simp only [R3, thirdI]
    by_cases hy : y = 0
    · simp [hy]; omega
    · simp [hy]
  · subst q; simp [R3, thirdI]
  · subst q; simp [R3, thirdI]
theorem d_Mod_isDifferent_0 : decode b_Mod_isDifferent 0 = .ok (.iconst 0, 1) := by decide +kernel
theorem d_Mod_isDifferent_1 : decode b_Mod_isDifferent 1 = .ok (.istore_n 2, 1) := by decide +kernel
theorem d_Mod_isDifferent_2 : decode b_Mod_isDifferent 2 = .ok (.iload_n 2, 1) := by decide +kernel
theorem d_Mod_isDifferent_3 : decode b_Mod_isDifferent 3 = .ok (.bipush 10, 2) := by decide +kernel
theorem d_Mod_isDifferent_5 : decode b_Mod_isDifferent 5 = .ok (.if_icmp .ge 55, 3) := by decide +kernel
theorem d_Mod_isDifferent_8 : decode b_Mod_isDifferent 8 = .ok (.iconst 0, 1) := by decide +kernel
theorem d_Mod_isDifferent_9 : decode b_Mod_isDifferent 9 = .ok (.istore_n 3, 1) := by decide +kernel
theorem d_Mod_isDifferent_10 : decode b_Mod_isDifferent 10 = .ok (.iload_n 3, 1) := by decide +kernel
theorem d_Mod_isDifferent_11 : decode b_Mod_isDifferent 11 = .ok (.iload_n 2, 1) := by decide +kernel
theorem d_Mod_isDifferent_12 : decode b_Mod_isDifferent 12 = .ok (.if_icmp .ge 42, 3) := by decide +kernel
theorem d_Mod_isDifferent_15 : decode b_Mod_isDifferent 15 = .ok (.iload_n 1, 1) := by decide +kernel
theorem d_Mod_isDifferent_16 : decode b_Mod_isDifferent 16 = .ok (.iload_n 2, 1) := by decide +kernel
theorem d_Mod_isDifferent_17 : decode b_Mod_isDifferent 17 = .ok (.invokestatic 113, 3) := by decide +kernel
theorem d_Mod_isDifferent_20 : decode b_Mod_isDifferent 20 = .ok (.ifCond .eq 28, 3) := by decide +kernel
theorem d_Mod_isDifferent_23 : decode b_Mod_isDifferent 23 = .ok (.iload_n 1, 1) := by decide +kernel
theorem d_Mod_isDifferent_24 : decode b_Mod_isDifferent 24 = .ok (.iload_n 3, 1) := by decide +kernel
theorem d_Mod_isDifferent_25 : decode b_Mod_isDifferent 25 = .ok (.invokestatic 113, 3) := by decide +kernel
theorem d_Mod_isDifferent_28 : decode b_Mod_isDifferent 28 = .ok (.ifCond .eq 20, 3) := by decide +kernel
theorem d_Mod_isDifferent_31 : decode b_Mod_isDifferent 31 = .ok (.aload_n 0, 1) := by decide +kernel
theorem d_Mod_isDifferent_32 : decode b_Mod_isDifferent 32 = .ok (.getfield 65, 3) := by decide +kernel
theorem d_Mod_isDifferent_35 : decode b_Mod_isDifferent 35 = .ok (.iload_n 2, 1) := by decide +kernel
theorem d_Mod_isDifferent_36 : decode b_Mod_isDifferent 36 = .ok (.iaload, 1) := by decide +kernel
theorem d_Mod_isDifferent_37 : decode b_Mod_isDifferent 37 = .ok (.aload_n 0, 1) := by decide +kernel
theorem d_Mod_isDifferent_38 : decode b_Mod_isDifferent 38 = .ok (.getfield 65, 3) := by decide +kernel
theorem d_Mod_isDifferent_41 : decode b_Mod_isDifferent 41 = .ok (.iload_n 3, 1) := by decide +kernel
theorem d_Mod_isDifferent_42 : decode b_Mod_isDifferent 42 = .ok (.iaload, 1) := by decide +kernel
theorem d_Mod_isDifferent_43 : decode b_Mod_isDifferent 43 = .ok (.if_icmp .ne 5, 3) := by decide +kernel
theorem d_Mod_isDifferent_46 : decode b_Mod_isDifferent 46 = .ok (.iconst 0, 1) := by decide +kernel
theorem d_Mod_isDifferent_47 : decode b_Mod_isDifferent 47 = .ok (.ireturn, 1) := by decide +kernel
theorem d_Mod_isDifferent_48 : decode b_Mod_isDifferent 48 = .ok (.iinc 3 1, 3) := by decide +kernel
theorem d_Mod_isDifferent_51 : decode b_Mod_isDifferent 51 = .ok (.goto (-41), 3) := by decide +kernel
theorem d_Mod_isDifferent_54 : decode b_Mod_isDifferent 54 = .ok (.iinc 2 1, 3) := by decide +kernel
theorem d_Mod_isDifferent_57 : decode b_Mod_isDifferent 57 = .ok (.goto (-55), 3) := by decide +kernel
theorem d_Mod_isDifferent_60 : decode b_Mod_isDifferent 60 = .ok (.iconst 1, 1) := by decide +kernel
theorem d_Mod_isDifferent_61 : decode b_Mod_isDifferent 61 = .ok (.ireturn, 1) := by decide +kernel
set_option maxHeartbeats 4000000 in
set_option maxRecDepth 20000 in
theorem k_Mod_isDifferent (l : Launch) (D : va_G) (cA : Nat → ClassId) (adr : Nat → Nat) (hi : wI mN adr) (I : Nat → Int32) (F : Nat → Nat → Int32) (mk : Nat) (xm : Int32) (hxm : xm.toInt = (mk : Int)) : Ct l y_Mod_isDifferent b_Mod_isDifferent 4 (some .boolean) 2 D cA [.ref (adr 0), .int xm] (fun H => MP D cA adr I F H) (fun r H => ∃ q : Bool, r = some (.int (bi q)) ∧ (q = true ↔ Dif F mk) ∧ MP D cA adr I F H) (wA mN adr) := by
  refine Ct.mk (by decide) (Nat.le_of_ble_eq_true rfl) ?_
  intro p e s m args below meth c Q H locs ls hx hb hr hml hlk hown hin hK hQ hS hP hl
  have hl : lv_has ls 4 [(0, .ref (adr 0)), (1, .int xm)] := hl
  have hown : s.vm.findClass "RangeSheetModel" = some m.cls := hown
  refine lv_iconst (v := 0) hx hb d_Mod_isDifferent_0 (by decide) ?_
  refine lv_istore_n (lv' := [(2, .int (0 : Int32)), (0, .ref (adr 0)), (1, .int xm)]) hx hb d_Mod_isDifferent_1 rfl hl (by decide) rfl (fun ls hl => ?_)
  have L_1 : ∀ (n : Nat) (kx : Nat) (x2 : Int32) (H : Heap) (locs : List Loc) (ls : Array Slot), (10 - kx) < n → (kx ≤ 10) → (x2.toInt = (kx : Int)) → (∀ i j, i < j → j < kx → mk.testBit i = true → mk.testBit j = true → ¬ (F 33 j).toInt = (F 33 i).toInt) → MP D cA adr I F H → va_S (wA mN adr) s.heap H locs → lv_has ls 4 [(0, .ref (adr 0)), (1, .int xm), (2, .int x2)] → W p l e (rl 2) s m args below meth c H locs 0 0 Q (F0 m 2 ls []) := by
    intro n
    induction n with
    | zero => intro kx x2 H locs ls hmu; exact absurd hmu (Nat.not_lt_zero _)
    | succ n ih_1 =>
      intro kx x2 H locs ls hmu hkx h2 hd1 hP hS hl
      refine lv_iload_n hx hb d_Mod_isDifferent_2 rfl (lv_at hl 2 rfl) ?_
      refine lv_bipush (v := 10) hx hb d_Mod_isDifferent_3 (by decide) ?_
      refine b_icmp_ge (tgt := 60) hx hb d_Mod_isDifferent_5 (by decide) h2 kc_10 (fun c_2 => ?_) (fun c_2 => ?_)
      · refine lv_iconst (v := 1) hx hb d_Mod_isDifferent_60 (by decide) ?_
        refine W.eq (g2 := F0 m 61 ls [.int (bi true)]) rfl ?_
        refine e_z hx hb hr hlk hQ hS d_Mod_isDifferent_61 ?_
        refine ⟨true, rfl, ?_, hP⟩
        exact ⟨fun _ i j hij hj a b => hd1 i j hij (by omega) a b, fun _ => rfl⟩
      · refine lv_iconst (v := 0) hx hb d_Mod_isDifferent_8 (by decide) ?_
        refine lv_istore_n (lv' := [(3, .int (0 : Int32)), (0, .ref (adr 0)), (1, .int xm), (2, .int x2)]) hx hb d_Mod_isDifferent_9 rfl hl (by decide) rfl (fun ls hl => ?_)
        have L_3 : ∀ (n : Nat) (jx : Nat) (x3 : Int32) (H : Heap) (locs : List Loc) (ls : Array Slot), (kx - jx) < n → (jx ≤ kx) → (x3.toInt = (jx : Int)) → (∀ i, i < jx → mk.testBit i = true → mk.testBit kx = true → ¬ (F 33 kx).toInt = (F 33 i).toInt) → MP D cA adr I F H → va_S (wA mN adr) s.heap H locs → lv_has ls 4 [(0, .ref (adr 0)), (1, .int xm), (2, .int x2), (3, .int x3)] → W p l e (rl 2) s m args below meth c H locs 0 0 Q (F0 m 10 ls []) := by
          intro n
          induction n with
          | zero => intro jx x3 H locs ls hmu; exact absurd hmu (Nat.not_lt_zero _)
          | succ n ih_3 =>
            intro jx x3 H locs ls hmu hjx h3 hd2 hP hS hl
            refine lv_iload_n hx hb d_Mod_isDifferent_10 rfl (lv_at hl 3 rfl) ?_
            refine lv_iload_n hx hb d_Mod_isDifferent_11 rfl (lv_at hl 2 rfl) ?_
            refine b_icmp_ge (tgt := 54) hx hb d_Mod_isDifferent_12 (by decide) h3 h2 (fun c_4 => ?_) (fun c_4 => ?_)
            · refine x_iinc (k := 2) (lv' := fun v_ => [(2, .int v_), (0, .ref (adr 0)), (1, .int xm), (3, .int x3)]) hx hb d_Mod_isDifferent_54 hl rfl h2 (by decide) (by omega) (by decide) (fun v_ => rfl) (fun z_5 tz_5 ls hl => ?_)
              refine lv_goto (tgt := 2) hx hb d_Mod_isDifferent_57 (by decide) ?_
              exact ih_1 (kx + 1) z_5 _ _ _ (by omega) (by omega) (by omega) (fun i j hij hj a b => by rcases (by omega : j < kx ∨ j = kx) with z | z; exact hd1 i j hij z a b; (subst z; exact hd2 i (by omega) a b)) hP hS (lv_sub hl [1, 2, 0] rfl)
            · refine lv_iload_n hx hb d_Mod_isDifferent_15 rfl (lv_at hl 1 rfl) ?_
              refine lv_iload_n hx hb d_Mod_isDifferent_16 rfl (lv_at hl 2 rfl) ?_
              refine r_Mod_has hx hb hml hown hK hl.1 hS ⟨Nat.le_of_ble_eq_true rfl, Nat.le_of_ble_eq_true rfl⟩ ⟨Nat.le_of_ble_eq_true rfl, Nat.le_of_ble_eq_true rfl⟩ hxm h2 (by omega) (by omega) d_Mod_isDifferent_17 (Nat.le_of_ble_eq_true rfl) (fun locs hS => ?_)
              refine b_bool_eq (tgt := 48) hx hb d_Mod_isDifferent_20 (by decide) (fun c_6 => ?_) (fun c_6 => ?_)
              · refine x_iinc (k := 3) (lv' := fun v_ => [(3, .int v_), (0, .ref (adr 0)), (1, .int xm), (2, .int x2)]) hx hb d_Mod_isDifferent_48 hl rfl h3 (by decide) (by omega) (by decide) (fun v_ => rfl) (fun z_7 tz_7 ls hl => ?_)
                refine lv_goto (tgt := 10) hx hb d_Mod_isDifferent_51 (by decide) ?_
                exact ih_3 (jx + 1) z_7 _ _ _ (by omega) (by omega) (by omega) (fun i hi a b => by rcases (by omega : i < jx ∨ i = jx) with z | z; exact hd2 i z a b; (subst z; have q := c_6; rw [hasN_nat] at q; rw [q] at b; cases b)) hP hS (lv_sub hl [1, 2, 3, 0] rfl)
              · refine lv_iload_n hx hb d_Mod_isDifferent_23 rfl (lv_at hl 1 rfl) ?_
                refine lv_iload_n hx hb d_Mod_isDifferent_24 rfl (lv_at hl 3 rfl) ?_
                refine r_Mod_has hx hb hml hown hK hl.1 hS ⟨Nat.le_of_ble_eq_true rfl, Nat.le_of_ble_eq_true rfl⟩ ⟨Nat.le_of_ble_eq_true rfl, Nat.le_of_ble_eq_true rfl⟩ hxm h3 (by omega) (by omega) d_Mod_isDifferent_25 (Nat.le_of_ble_eq_true rfl) (fun locs hS => ?_)
                refine b_bool_eq (tgt := 48) hx hb d_Mod_isDifferent_28 (by decide) (fun c_8 => ?_) (fun c_8 => ?_)
                · refine x_iinc (k := 3) (lv' := fun v_ => [(3, .int v_), (0, .ref (adr 0)), (1, .int xm), (2, .int x2)]) hx hb d_Mod_isDifferent_48 hl rfl h3 (by decide) (by omega) (by decide) (fun v_ => rfl) (fun z_9 tz_9 ls hl => ?_)
                  refine lv_goto (tgt := 10) hx hb d_Mod_isDifferent_51 (by decide) ?_
                  exact ih_3 (jx + 1) z_9 _ _ _ (by omega) (by omega) (by omega) (fun i hi a b => by rcases (by omega : i < jx ∨ i = jx) with z | z; exact hd2 i z a b; (subst z; have q := c_8; rw [hasN_nat] at q; rw [q] at a; cases a)) hP hS (lv_sub hl [1, 2, 3, 0] rfl)
                · refine lv_aload_n hx hb d_Mod_isDifferent_31 rfl (lv_at hl 0 rfl) ?_
                  refine m_gr hx hb hK hown hP 33 (by decide) t_770 d_Mod_isDifferent_32 ?_
                  refine lv_iload_n hx hb d_Mod_isDifferent_35 rfl (lv_at hl 2 rfl) ?_
                  refine m_ld hx hb hK hP 33 (by decide) (kx) h2 (by omega) (show kx < 10 by omega) d_Mod_isDifferent_36 (fun z_10 ez_10 => ?_)
                  subst ez_10
                  refine lv_aload_n hx hb d_Mod_isDifferent_37 rfl (lv_at hl 0 rfl) ?_
                  refine m_gr hx hb hK hown hP 33 (by decide) t_770 d_Mod_isDifferent_38 ?_
                  refine lv_iload_n hx hb d_Mod_isDifferent_41 rfl (lv_at hl 3 rfl) ?_
                  refine m_ld hx hb hK hP 33 (by decide) (jx) h3 (by omega) (show jx < 10 by omega) d_Mod_isDifferent_42 (fun z_11 ez_11 => ?_)
                  subst ez_11
                  refine b_icmp_ne (tgt := 48) hx hb d_Mod_isDifferent_43 (by decide) rfl rfl (fun c_12 => ?_) (fun c_12 => ?_)
                  · refine x_iinc (k := 3) (lv' := fun v_ => [(3, .int v_), (0, .ref (adr 0)), (1, .int xm), (2, .int x2)]) hx hb d_Mod_isDifferent_48 hl rfl h3 (by decide) (by omega) (by decide) (fun v_ => rfl) (fun z_13 tz_13 ls hl => ?_)
                    refine lv_goto (tgt := 10) hx hb d_Mod_isDifferent_51 (by decide) ?_
                    exact ih_3 (jx + 1) z_13 _ _ _ (by omega) (by omega) (by omega) (fun i hi a b => by rcases (by omega : i < jx ∨ i = jx) with z | z; exact hd2 i z a b; (subst z; exact c_12)) hP hS (lv_sub hl [1, 2, 3, 0] rfl)
                  · refine lv_iconst (v := 0) hx hb d_Mod_isDifferent_46 (by decide) ?_
                    refine W.eq (g2 := F0 m 47 ls [.int (bi false)]) rfl ?_
                    refine e_z hx hb hr hlk hQ hS d_Mod_isDifferent_47 ?_
                    refine ⟨false, rfl, ?_, hP⟩
                    exact ⟨fun h => absurd h (by decide), fun h => absurd c_12 (h jx kx (by omega) (by omega) (by have q := c_8; rw [hasN_nat] at q; exact q) (by have q := c_6; rw [hasN_nat] at q; exact q))⟩
        exact L_3 (_ + 1) 0 (0 : Int32) _ _ _ (Nat.lt_succ_self _) (by omega) kc_0 (fun i hi => absurd hi (by omega)) hP hS (lv_sub hl [1, 2, 3, 0] rfl)
  exact L_1 (_ + 1) 0 (0 : Int32) _ _ _ (Nat.lt_succ_self _) (by omega) kc_0 (fun i j _ hj => absurd hj (by omega)) hP hS (lv_sub hl [1, 2, 0] rfl)
theorem ir_step {F : Nat → Nat → Int32} {t k : Nat} {x y : Int} {q b : Bool} (h : q = true ↔ rsF F t k x y) (hb : b = true ↔ (q = true ∨ ((F 11 (10 * t + k)).toInt = x ∧ (F 12 (10 * t + k)).toInt = y))) : b = true ↔ rsF F t (k + 1) x y := by
  rw [hb, h]
  constructor
  · rintro (⟨j, hj, e⟩ | ⟨e1, e2⟩)
    · exact ⟨j, by omega, e⟩
    · exact ⟨k, by omega, e1.symm, e2.symm⟩
  · rintro ⟨j, hj, e1, e2⟩
    rcases (by omega : j < k ∨ j = k) with z | z
    · exact Or.inl ⟨j, z, e1, e2⟩
    · subst z; exact Or.inr ⟨e1.symm, e2.symm⟩
theorem d_Mod_isRow_0 : decode b_Mod_isRow 0 = .ok (.iconst 0, 1) := by decide +kernel
theorem d_Mod_isRow_1 : decode b_Mod_isRow 1 = .ok (.istore 4, 2) := by decide +kernel
theorem d_Mod_isRow_3 : decode b_Mod_isRow 3 = .ok (.bipush 10, 2) := by decide +kernel
theorem d_Mod_isRow_5 : decode b_Mod_isRow 5 = .ok (.iload_n 1, 1) := by decide +kernel
theorem d_Mod_isRow_6 : decode b_Mod_isRow 6 = .ok (.imul, 1) := by decide +kernel
theorem d_Mod_isRow_7 : decode b_Mod_isRow 7 = .ok (.istore 5, 2) := by decide +kernel
theorem d_Mod_isRow_9 : decode b_Mod_isRow 9 = .ok (.iload 5, 2) := by decide +kernel
theorem d_Mod_isRow_11 : decode b_Mod_isRow 11 = .ok (.bipush 10, 2) := by decide +kernel
theorem d_Mod_isRow_13 : decode b_Mod_isRow 13 = .ok (.iload_n 1, 1) := by decide +kernel
theorem d_Mod_isRow_14 : decode b_Mod_isRow 14 = .ok (.imul, 1) := by decide +kernel
theorem d_Mod_isRow_15 : decode b_Mod_isRow 15 = .ok (.aload_n 0, 1) := by decide +kernel
theorem d_Mod_isRow_16 : decode b_Mod_isRow 16 = .ok (.getfield 32, 3) := by decide +kernel
theorem d_Mod_isRow_19 : decode b_Mod_isRow 19 = .ok (.iload_n 1, 1) := by decide +kernel
theorem d_Mod_isRow_20 : decode b_Mod_isRow 20 = .ok (.iaload, 1) := by decide +kernel
theorem d_Mod_isRow_21 : decode b_Mod_isRow 21 = .ok (.iadd, 1) := by decide +kernel
theorem d_Mod_isRow_22 : decode b_Mod_isRow 22 = .ok (.if_icmp .ge 43, 3) := by decide +kernel
theorem d_Mod_isRow_25 : decode b_Mod_isRow 25 = .ok (.iload 4, 2) := by decide +kernel
theorem d_Mod_isRow_27 : decode b_Mod_isRow 27 = .ok (.ifCond .ne 25, 3) := by decide +kernel
theorem d_Mod_isRow_30 : decode b_Mod_isRow 30 = .ok (.aload_n 0, 1) := by decide +kernel
theorem d_Mod_isRow_31 : decode b_Mod_isRow 31 = .ok (.getfield 35, 3) := by decide +kernel
theorem d_Mod_isRow_34 : decode b_Mod_isRow 34 = .ok (.iload 5, 2) := by decide +kernel
theorem d_Mod_isRow_36 : decode b_Mod_isRow 36 = .ok (.iaload, 1) := by decide +kernel
theorem d_Mod_isRow_37 : decode b_Mod_isRow 37 = .ok (.iload_n 2, 1) := by decide +kernel
theorem d_Mod_isRow_38 : decode b_Mod_isRow 38 = .ok (.if_icmp .ne 18, 3) := by decide +kernel
theorem d_Mod_isRow_41 : decode b_Mod_isRow 41 = .ok (.aload_n 0, 1) := by decide +kernel
theorem d_Mod_isRow_42 : decode b_Mod_isRow 42 = .ok (.getfield 38, 3) := by decide +kernel
theorem d_Mod_isRow_45 : decode b_Mod_isRow 45 = .ok (.iload 5, 2) := by decide +kernel
theorem d_Mod_isRow_47 : decode b_Mod_isRow 47 = .ok (.iaload, 1) := by decide +kernel
theorem d_Mod_isRow_48 : decode b_Mod_isRow 48 = .ok (.iload_n 3, 1) := by decide +kernel
theorem d_Mod_isRow_49 : decode b_Mod_isRow 49 = .ok (.if_icmp .ne 7, 3) := by decide +kernel
theorem d_Mod_isRow_52 : decode b_Mod_isRow 52 = .ok (.iconst 1, 1) := by decide +kernel
theorem d_Mod_isRow_53 : decode b_Mod_isRow 53 = .ok (.goto 4, 3) := by decide +kernel
theorem d_Mod_isRow_56 : decode b_Mod_isRow 56 = .ok (.iconst 0, 1) := by decide +kernel
theorem d_Mod_isRow_57 : decode b_Mod_isRow 57 = .ok (.istore 4, 2) := by decide +kernel
theorem d_Mod_isRow_59 : decode b_Mod_isRow 59 = .ok (.iinc 5 1, 3) := by decide +kernel
theorem d_Mod_isRow_62 : decode b_Mod_isRow 62 = .ok (.goto (-53), 3) := by decide +kernel
theorem d_Mod_isRow_65 : decode b_Mod_isRow 65 = .ok (.iload 4, 2) := by decide +kernel
theorem d_Mod_isRow_67 : decode b_Mod_isRow 67 = .ok (.ireturn, 1) := by decide +kernel
set_option maxHeartbeats 4000000 in
set_option maxRecDepth 20000 in
theorem k_Mod_isRow (l : Launch) (D : va_G) (cA : Nat → ClassId) (adr : Nat → Nat) (hi : wI mN adr) (I : Nat → Int32) (F : Nat → Nat → Int32) (tt cnt : Nat) (xt xa xb : Int32) (hxt : xt.toInt = (tt : Int)) (htt : tt < 3) (hcnt : (F 10 tt).toInt = (cnt : Int)) (hc10 : cnt ≤ 10) : Ct l y_Mod_isRow b_Mod_isRow 6 (some .boolean) 2 D cA [.ref (adr 0), .int xt, .int xa, .int xb] (fun H => MP D cA adr I F H) (fun r H => ∃ q : Bool, r = some (.int (bi q)) ∧ (q = true ↔ rsA F tt xa.toInt xb.toInt) ∧ MP D cA adr I F H) (wA mN adr) := by
  refine Ct.mk (by decide) (Nat.le_of_ble_eq_true rfl) ?_
  intro p e s m args below meth c Q H locs ls hx hb hr hml hlk hown hin hK hQ hS hP hl
  have hl : lv_has ls 6 [(0, .ref (adr 0)), (1, .int xt), (2, .int xa), (3, .int xb)] := hl
  have hown : s.vm.findClass "RangeSheetModel" = some m.cls := hown
  refine lv_iconst (v := 0) hx hb d_Mod_isRow_0 (by decide) ?_
  refine lv_istore (lv' := [(4, .int (0 : Int32)), (0, .ref (adr 0)), (1, .int xt), (2, .int xa), (3, .int xb)]) hx hb d_Mod_isRow_1 hl (by decide) rfl (fun ls hl => ?_)
  refine lv_bipush (v := 10) hx hb d_Mod_isRow_3 (by decide) ?_
  refine lv_iload_n hx hb d_Mod_isRow_5 rfl (lv_at hl 2 rfl) ?_
  refine x_mul hx hb d_Mod_isRow_6 kc_10 hxt (by omega) (fun z_1 tz_1 => ?_)
  refine lv_istore (lv' := [(5, .int z_1), (4, .int (0 : Int32)), (0, .ref (adr 0)), (1, .int xt), (2, .int xa), (3, .int xb)]) hx hb d_Mod_isRow_7 hl (by decide) rfl (fun ls hl => ?_)
  have L_2 : ∀ (n : Nat) (kx : Nat) (fx : Bool) (x5 : Int32) (H : Heap) (locs : List Loc) (ls : Array Slot), (cnt - kx) < n → (kx ≤ cnt) → (x5.toInt = ((10 * tt + kx : Nat) : Int)) → ((fx = true ↔ rsF F tt kx xa.toInt xb.toInt)) → MP D cA adr I F H → va_S (wA mN adr) s.heap H locs → lv_has ls 6 [(0, .ref (adr 0)), (1, .int xt), (2, .int xa), (3, .int xb), (4, .int (bi fx)), (5, .int x5)] → W p l e (rl 2) s m args below meth c H locs 0 0 Q (F0 m 9 ls []) := by
    intro n
    induction n with
    | zero => intro kx fx x5 H locs ls hmu; exact absurd hmu (Nat.not_lt_zero _)
    | succ n ih_2 =>
      intro kx fx x5 H locs ls hmu hkx h5 hq1 hP hS hl
      refine lv_iload hx hb d_Mod_isRow_9 (lv_at hl 5 rfl) ?_
      refine lv_bipush (v := 10) hx hb d_Mod_isRow_11 (by decide) ?_
      refine lv_iload_n hx hb d_Mod_isRow_13 rfl (lv_at hl 1 rfl) ?_
      refine x_mul hx hb d_Mod_isRow_14 kc_10 hxt (by omega) (fun z_3 tz_3 => ?_)
      refine lv_aload_n hx hb d_Mod_isRow_15 rfl (lv_at hl 0 rfl) ?_
      refine m_gr hx hb hK hown hP 10 (by decide) t_747 d_Mod_isRow_16 ?_
      refine lv_iload_n hx hb d_Mod_isRow_19 rfl (lv_at hl 1 rfl) ?_
      refine m_ld hx hb hK hP 10 (by decide) (tt) hxt (by omega) (show tt < 3 by omega) d_Mod_isRow_20 (fun z_4 ez_4 => ?_)
      subst ez_4
      refine x_add hx hb d_Mod_isRow_21 tz_3 hcnt (by omega) (fun z_5 tz_5 => ?_)
      refine b_icmp_ge (tgt := 65) hx hb d_Mod_isRow_22 (by decide) h5 tz_5 (fun c_6 => ?_) (fun c_6 => ?_)
      · refine lv_iload hx hb d_Mod_isRow_65 (lv_at hl 4 rfl) ?_
        refine e_z hx hb hr hlk hQ hS d_Mod_isRow_67 ?_
        refine ⟨fx, rfl, ?_, hP⟩
        have hke : kx = cnt := by omega
        unfold rsA; rw [hcnt, Int.toNat_natCast, ← hke]; exact hq1
      · refine lv_iload hx hb d_Mod_isRow_25 (lv_at hl 4 rfl) ?_
        have K_207 : ∀ (b_207_0 : Bool), (b_207_0 = true ↔ (fx = true ∨ ((F 11 (10 * tt + kx)).toInt = xa.toInt ∧ (F 12 (10 * tt + kx)).toInt = xb.toInt))) → W p l e (rl 2) s m args below meth c H locs 0 0 Q (F0 m 57 ls [.int (bi b_207_0)]) := by
          intro b_207_0 hb_207_0
          refine lv_istore (lv' := [(4, .int (bi b_207_0)), (0, .ref (adr 0)), (1, .int xt), (2, .int xa), (3, .int xb), (5, .int x5)]) hx hb d_Mod_isRow_57 hl (by decide) rfl (fun ls hl => ?_)
          refine x_iinc (k := 5) (lv' := fun v_ => [(5, .int v_), (4, .int (bi b_207_0)), (0, .ref (adr 0)), (1, .int xt), (2, .int xa), (3, .int xb)]) hx hb d_Mod_isRow_59 hl rfl h5 (by decide) (by omega) (by decide) (fun v_ => rfl) (fun z_208 tz_208 ls hl => ?_)
          refine lv_goto (tgt := 9) hx hb d_Mod_isRow_62 (by decide) ?_
          exact ih_2 (kx + 1) b_207_0 z_208 _ _ _ (by omega) (by omega) (by omega) (ir_step hq1 hb_207_0) hP hS (lv_sub hl [2, 3, 4, 5, 1, 0] rfl)
        refine b_bool_ne (tgt := 52) hx hb d_Mod_isRow_27 (by decide) (fun c_209 => ?_) (fun c_209 => ?_)
        · refine lv_iconst (v := 1) hx hb d_Mod_isRow_52 (by decide) ?_
          refine lv_goto (tgt := 57) hx hb d_Mod_isRow_53 (by decide) ?_
          exact K_207 true ⟨fun _ => by first | omega | (simp [c_209]; done) | (simp [c_209]; omega) | (simp only [decide_eq_true_eq, decide_eq_false_iff_not]; omega), fun _ => rfl⟩
        · refine lv_aload_n hx hb d_Mod_isRow_30 rfl (lv_at hl 0 rfl) ?_
          refine m_gr hx hb hK hown hP 11 (by decide) t_748 d_Mod_isRow_31 ?_
          refine lv_iload hx hb d_Mod_isRow_34 (lv_at hl 5 rfl) ?_
          refine m_ld hx hb hK hP 11 (by decide) ((10 * tt + kx)) h5 (by omega) (show (10 * tt + kx) < 30 by omega) d_Mod_isRow_36 (fun z_210 ez_210 => ?_)
          subst ez_210
          refine lv_iload_n hx hb d_Mod_isRow_37 rfl (lv_at hl 2 rfl) ?_
          refine b_icmp_ne (tgt := 56) hx hb d_Mod_isRow_38 (by decide) rfl rfl (fun c_211 => ?_) (fun c_211 => ?_)
          · refine lv_iconst (v := 0) hx hb d_Mod_isRow_56 (by decide) ?_
            exact K_207 false ⟨fun h => absurd h (by decide), fun h => absurd h (by first | omega | (simp [c_209, c_211]; done) | (simp [c_209, c_211]; omega) | (simp only [decide_eq_true_eq, decide_eq_false_iff_not]; omega))⟩
          · refine lv_aload_n hx hb d_Mod_isRow_41 rfl (lv_at hl 0 rfl) ?_
            refine m_gr hx hb hK hown hP 12 (by decide) t_749 d_Mod_isRow_42 ?_
            refine lv_iload hx hb d_Mod_isRow_45 (lv_at hl 5 rfl) ?_
            refine m_ld hx hb hK hP 12 (by decide) ((10 * tt + kx)) h5 (by omega) (show (10 * tt + kx) < 30 by omega) d_Mod_isRow_47 (fun z_212 ez_212 => ?_)
            subst ez_212
            refine lv_iload_n hx hb d_Mod_isRow_48 rfl (lv_at hl 3 rfl) ?_
            refine b_icmp_ne (tgt := 56) hx hb d_Mod_isRow_49 (by decide) rfl rfl (fun c_213 => ?_) (fun c_213 => ?_)
            · refine lv_iconst (v := 0) hx hb d_Mod_isRow_56 (by decide) ?_
              exact K_207 false ⟨fun h => absurd h (by decide), fun h => absurd h (by first | omega | (simp [c_209, c_211, c_213]; done) | (simp [c_209, c_211, c_213]; omega) | (simp only [decide_eq_true_eq, decide_eq_false_iff_not]; omega))⟩
            · refine lv_iconst (v := 1) hx hb d_Mod_isRow_52 (by decide) ?_
              refine lv_goto (tgt := 57) hx hb d_Mod_isRow_53 (by decide) ?_
              exact K_207 true ⟨fun _ => by first | omega | (simp [c_209, c_211, c_213]; done) | (simp [c_209, c_211, c_213]; omega) | (simp only [decide_eq_true_eq, decide_eq_false_iff_not]; omega), fun _ => rfl⟩
  exact L_2 (_ + 1) 0 false z_1 _ _ _ (Nat.lt_succ_self _) (by omega) (by have := tz_1; omega) ⟨fun h => absurd h (by decide), fun h => by obtain ⟨k, hk, _⟩ := h; omega⟩ hP hS (lv_sub hl [2, 3, 4, 5, 1, 0] rfl)
theorem d_Mod_satisfied_0 : decode b_Mod_satisfied 0 = .ok (.aload_n 0, 1) := by decide +kernel
theorem d_Mod_satisfied_1 : decode b_Mod_satisfied 1 = .ok (.iconst 0, 1) := by decide +kernel
theorem d_Mod_satisfied_2 : decode b_Mod_satisfied 2 = .ok (.putfield 74, 3) := by decide +kernel
theorem d_Mod_satisfied_5 : decode b_Mod_satisfied 5 = .ok (.iload_n 1, 1) := by decide +kernel
theorem d_Mod_satisfied_6 : decode b_Mod_satisfied 6 = .ok (.iconst 0, 1) := by decide +kernel
theorem d_Mod_satisfied_7 : decode b_Mod_satisfied 7 = .ok (.aload_n 0, 1) := by decide +kernel
theorem d_Mod_satisfied_8 : decode b_Mod_satisfied 8 = .ok (.getfield 104, 3) := by decide +kernel
theorem d_Mod_satisfied_11 : decode b_Mod_satisfied 11 = .ok (.iconst 1, 1) := by decide +kernel
theorem d_Mod_satisfied_12 : decode b_Mod_satisfied 12 = .ok (.isub, 1) := by decide +kernel
theorem d_Mod_satisfied_13 : decode b_Mod_satisfied 13 = .ok (.invokestatic 89, 3) := by decide +kernel
theorem d_Mod_satisfied_16 : decode b_Mod_satisfied 16 = .ok (.ifCond .ne 5, 3) := by decide +kernel
theorem d_Mod_satisfied_19 : decode b_Mod_satisfied 19 = .ok (.iconst 0, 1) := by decide +kernel
theorem d_Mod_satisfied_20 : decode b_Mod_satisfied 20 = .ok (.ireturn, 1) := by decide +kernel
theorem d_Mod_satisfied_21 : decode b_Mod_satisfied 21 = .ok (.aload_n 0, 1) := by decide +kernel
theorem d_Mod_satisfied_22 : decode b_Mod_satisfied 22 = .ok (.getfield 16, 3) := by decide +kernel
theorem d_Mod_satisfied_25 : decode b_Mod_satisfied 25 = .ok (.iload_n 1, 1) := by decide +kernel
theorem d_Mod_satisfied_26 : decode b_Mod_satisfied 26 = .ok (.iaload, 1) := by decide +kernel
theorem d_Mod_satisfied_27 : decode b_Mod_satisfied 27 = .ok (.bipush 7, 2) := by decide +kernel
theorem d_Mod_satisfied_29 : decode b_Mod_satisfied 29 = .ok (.if_icmp .ne 37, 3) := by decide +kernel
theorem d_Mod_satisfied_32 : decode b_Mod_satisfied 32 = .ok (.aload_n 0, 1) := by decide +kernel
theorem d_Mod_satisfied_33 : decode b_Mod_satisfied 33 = .ok (.getfield 19, 3) := by decide +kernel
theorem d_Mod_satisfied_36 : decode b_Mod_satisfied 36 = .ok (.iload_n 1, 1) := by decide +kernel
theorem d_Mod_satisfied_37 : decode b_Mod_satisfied 37 = .ok (.iaload, 1) := by decide +kernel
theorem d_Mod_satisfied_38 : decode b_Mod_satisfied 38 = .ok (.iconst 1, 1) := by decide +kernel
theorem d_Mod_satisfied_39 : decode b_Mod_satisfied 39 = .ok (.aload_n 0, 1) := by decide +kernel
theorem d_Mod_satisfied_40 : decode b_Mod_satisfied 40 = .ok (.getfield 214, 3) := by decide +kernel
theorem d_Mod_satisfied_43 : decode b_Mod_satisfied 43 = .ok (.ishl, 1) := by decide +kernel
theorem d_Mod_satisfied_44 : decode b_Mod_satisfied 44 = .ok (.if_icmp .ge 20, 3) := by decide +kernel
theorem d_Mod_satisfied_47 : decode b_Mod_satisfied 47 = .ok (.aload_n 0, 1) := by decide +kernel
theorem d_Mod_satisfied_48 : decode b_Mod_satisfied 48 = .ok (.aload_n 0, 1) := by decide +kernel
theorem d_Mod_satisfied_49 : decode b_Mod_satisfied 49 = .ok (.getfield 19, 3) := by decide +kernel
theorem d_Mod_satisfied_52 : decode b_Mod_satisfied 52 = .ok (.iload_n 1, 1) := by decide +kernel
theorem d_Mod_satisfied_53 : decode b_Mod_satisfied 53 = .ok (.iaload, 1) := by decide +kernel
theorem d_Mod_satisfied_54 : decode b_Mod_satisfied 54 = .ok (.invokevirtual 237, 3) := by decide +kernel
theorem d_Mod_satisfied_57 : decode b_Mod_satisfied 57 = .ok (.ifCond .eq 7, 3) := by decide +kernel
theorem d_Mod_satisfied_60 : decode b_Mod_satisfied 60 = .ok (.iconst 1, 1) := by decide +kernel
theorem d_Mod_satisfied_61 : decode b_Mod_satisfied 61 = .ok (.goto 4, 3) := by decide +kernel
theorem d_Mod_satisfied_64 : decode b_Mod_satisfied 64 = .ok (.iconst 0, 1) := by decide +kernel
theorem d_Mod_satisfied_65 : decode b_Mod_satisfied 65 = .ok (.ireturn, 1) := by decide +kernel
theorem d_Mod_satisfied_66 : decode b_Mod_satisfied 66 = .ok (.aload_n 0, 1) := by decide +kernel
theorem d_Mod_satisfied_67 : decode b_Mod_satisfied 67 = .ok (.getfield 16, 3) := by decide +kernel
theorem d_Mod_satisfied_70 : decode b_Mod_satisfied 70 = .ok (.iload_n 1, 1) := by decide +kernel
theorem d_Mod_satisfied_71 : decode b_Mod_satisfied 71 = .ok (.iaload, 1) := by decide +kernel
theorem d_Mod_satisfied_72 : decode b_Mod_satisfied 72 = .ok (.iconst 5, 1) := by decide +kernel
theorem d_Mod_satisfied_73 : decode b_Mod_satisfied 73 = .ok (.if_icmp .eq 18, 3) := by decide +kernel
theorem d_Mod_satisfied_76 : decode b_Mod_satisfied 76 = .ok (.aload_n 0, 1) := by decide +kernel
theorem d_Mod_satisfied_77 : decode b_Mod_satisfied 77 = .ok (.getfield 16, 3) := by decide +kernel
theorem d_Mod_satisfied_80 : decode b_Mod_satisfied 80 = .ok (.iload_n 1, 1) := by decide +kernel
theorem d_Mod_satisfied_81 : decode b_Mod_satisfied 81 = .ok (.iaload, 1) := by decide +kernel
theorem d_Mod_satisfied_82 : decode b_Mod_satisfied 82 = .ok (.bipush 7, 2) := by decide +kernel
theorem d_Mod_satisfied_84 : decode b_Mod_satisfied 84 = .ok (.if_icmp .ge 7, 3) := by decide +kernel
theorem d_Mod_satisfied_87 : decode b_Mod_satisfied 87 = .ok (.iconst 1, 1) := by decide +kernel
theorem d_Mod_satisfied_88 : decode b_Mod_satisfied 88 = .ok (.goto 4, 3) := by decide +kernel
theorem d_Mod_satisfied_91 : decode b_Mod_satisfied 91 = .ok (.iconst 0, 1) := by decide +kernel
theorem d_Mod_satisfied_92 : decode b_Mod_satisfied 92 = .ok (.istore_n 2, 1) := by decide +kernel
theorem d_Mod_satisfied_93 : decode b_Mod_satisfied 93 = .ok (.aload_n 0, 1) := by decide +kernel
theorem d_Mod_satisfied_94 : decode b_Mod_satisfied 94 = .ok (.getfield 19, 3) := by decide +kernel
theorem d_Mod_satisfied_97 : decode b_Mod_satisfied 97 = .ok (.iload_n 1, 1) := by decide +kernel
theorem d_Mod_satisfied_98 : decode b_Mod_satisfied 98 = .ok (.iaload, 1) := by decide +kernel
theorem d_Mod_satisfied_99 : decode b_Mod_satisfied 99 = .ok (.aload_n 0, 1) := by decide +kernel
theorem d_Mod_satisfied_100 : decode b_Mod_satisfied 100 = .ok (.getfield 214, 3) := by decide +kernel
theorem d_Mod_satisfied_103 : decode b_Mod_satisfied 103 = .ok (.if_icmp .ge 33, 3) := by decide +kernel
theorem d_Mod_satisfied_106 : decode b_Mod_satisfied 106 = .ok (.aload_n 0, 1) := by decide +kernel
theorem d_Mod_satisfied_107 : decode b_Mod_satisfied 107 = .ok (.getfield 22, 3) := by decide +kernel
theorem d_Mod_satisfied_110 : decode b_Mod_satisfied 110 = .ok (.iload_n 1, 1) := by decide +kernel
theorem d_Mod_satisfied_111 : decode b_Mod_satisfied 111 = .ok (.iaload, 1) := by decide +kernel
theorem d_Mod_satisfied_112 : decode b_Mod_satisfied 112 = .ok (.aload_n 0, 1) := by decide +kernel
theorem d_Mod_satisfied_113 : decode b_Mod_satisfied 113 = .ok (.getfield 214, 3) := by decide +kernel
theorem d_Mod_satisfied_116 : decode b_Mod_satisfied 116 = .ok (.if_icmp .ge 20, 3) := by decide +kernel
theorem d_Mod_satisfied_119 : decode b_Mod_satisfied 119 = .ok (.iload_n 2, 1) := by decide +kernel
theorem d_Mod_satisfied_120 : decode b_Mod_satisfied 120 = .ok (.ifCond .eq 18, 3) := by decide +kernel
theorem d_Mod_satisfied_123 : decode b_Mod_satisfied 123 = .ok (.aload_n 0, 1) := by decide +kernel
theorem d_Mod_satisfied_124 : decode b_Mod_satisfied 124 = .ok (.getfield 25, 3) := by decide +kernel
theorem d_Mod_satisfied_127 : decode b_Mod_satisfied 127 = .ok (.iload_n 1, 1) := by decide +kernel
theorem d_Mod_satisfied_128 : decode b_Mod_satisfied 128 = .ok (.iaload, 1) := by decide +kernel
theorem d_Mod_satisfied_129 : decode b_Mod_satisfied 129 = .ok (.aload_n 0, 1) := by decide +kernel
theorem d_Mod_satisfied_130 : decode b_Mod_satisfied 130 = .ok (.getfield 214, 3) := by decide +kernel
theorem d_Mod_satisfied_133 : decode b_Mod_satisfied 133 = .ok (.if_icmp .lt 5, 3) := by decide +kernel
theorem d_Mod_satisfied_136 : decode b_Mod_satisfied 136 = .ok (.iconst 0, 1) := by decide +kernel
theorem d_Mod_satisfied_137 : decode b_Mod_satisfied 137 = .ok (.ireturn, 1) := by decide +kernel
theorem d_Mod_satisfied_138 : decode b_Mod_satisfied 138 = .ok (.aload_n 0, 1) := by decide +kernel
theorem d_Mod_satisfied_139 : decode b_Mod_satisfied 139 = .ok (.getfield 65, 3) := by decide +kernel
theorem d_Mod_satisfied_142 : decode b_Mod_satisfied 142 = .ok (.aload_n 0, 1) := by decide +kernel
theorem d_Mod_satisfied_143 : decode b_Mod_satisfied 143 = .ok (.getfield 19, 3) := by decide +kernel
theorem d_Mod_satisfied_146 : decode b_Mod_satisfied 146 = .ok (.iload_n 1, 1) := by decide +kernel
theorem d_Mod_satisfied_147 : decode b_Mod_satisfied 147 = .ok (.iaload, 1) := by decide +kernel
theorem d_Mod_satisfied_148 : decode b_Mod_satisfied 148 = .ok (.iaload, 1) := by decide +kernel
theorem d_Mod_satisfied_149 : decode b_Mod_satisfied 149 = .ok (.istore_n 3, 1) := by decide +kernel
theorem d_Mod_satisfied_150 : decode b_Mod_satisfied 150 = .ok (.aload_n 0, 1) := by decide +kernel
theorem d_Mod_satisfied_151 : decode b_Mod_satisfied 151 = .ok (.getfield 65, 3) := by decide +kernel
theorem d_Mod_satisfied_154 : decode b_Mod_satisfied 154 = .ok (.aload_n 0, 1) := by decide +kernel
theorem d_Mod_satisfied_155 : decode b_Mod_satisfied 155 = .ok (.getfield 22, 3) := by decide +kernel
theorem d_Mod_satisfied_158 : decode b_Mod_satisfied 158 = .ok (.iload_n 1, 1) := by decide +kernel
theorem d_Mod_satisfied_159 : decode b_Mod_satisfied 159 = .ok (.iaload, 1) := by decide +kernel
theorem d_Mod_satisfied_160 : decode b_Mod_satisfied 160 = .ok (.iaload, 1) := by decide +kernel
theorem d_Mod_satisfied_161 : decode b_Mod_satisfied 161 = .ok (.istore 4, 2) := by decide +kernel
theorem d_Mod_satisfied_163 : decode b_Mod_satisfied 163 = .ok (.aload_n 0, 1) := by decide +kernel
theorem d_Mod_satisfied_164 : decode b_Mod_satisfied 164 = .ok (.getfield 16, 3) := by decide +kernel
theorem d_Mod_satisfied_167 : decode b_Mod_satisfied 167 = .ok (.iload_n 1, 1) := by decide +kernel
theorem d_Mod_satisfied_168 : decode b_Mod_satisfied 168 = .ok (.iaload, 1) := by decide +kernel
theorem d_Mod_satisfied_169 : decode b_Mod_satisfied 169 = .ok (.bipush 7, 2) := by decide +kernel
theorem d_Mod_satisfied_171 : decode b_Mod_satisfied 171 = .ok (.if_icmp .le 17, 3) := by decide +kernel
theorem d_Mod_satisfied_174 : decode b_Mod_satisfied 174 = .ok (.aload_n 0, 1) := by decide +kernel
theorem d_Mod_satisfied_175 : decode b_Mod_satisfied 175 = .ok (.aload_n 0, 1) := by decide +kernel
theorem d_Mod_satisfied_176 : decode b_Mod_satisfied 176 = .ok (.getfield 25, 3) := by decide +kernel
theorem d_Mod_satisfied_179 : decode b_Mod_satisfied 179 = .ok (.iload_n 1, 1) := by decide +kernel
theorem d_Mod_satisfied_180 : decode b_Mod_satisfied 180 = .ok (.iaload, 1) := by decide +kernel
theorem d_Mod_satisfied_181 : decode b_Mod_satisfied 181 = .ok (.iload_n 3, 1) := by decide +kernel
theorem d_Mod_satisfied_182 : decode b_Mod_satisfied 182 = .ok (.iload 4, 2) := by decide +kernel
theorem d_Mod_satisfied_184 : decode b_Mod_satisfied 184 = .ok (.invokevirtual 240, 3) := by decide +kernel
theorem d_Mod_satisfied_187 : decode b_Mod_satisfied 187 = .ok (.ireturn, 1) := by decide +kernel
theorem d_Mod_satisfied_188 : decode b_Mod_satisfied 188 = .ok (.aload_n 0, 1) := by decide +kernel
theorem d_Mod_satisfied_189 : decode b_Mod_satisfied 189 = .ok (.getfield 16, 3) := by decide +kernel
theorem d_Mod_satisfied_192 : decode b_Mod_satisfied 192 = .ok (.iload_n 1, 1) := by decide +kernel
theorem d_Mod_satisfied_193 : decode b_Mod_satisfied 193 = .ok (.iaload, 1) := by decide +kernel
theorem d_Mod_satisfied_194 : decode b_Mod_satisfied 194 = .ok (.iconst 5, 1) := by decide +kernel
theorem d_Mod_satisfied_195 : decode b_Mod_satisfied 195 = .ok (.if_icmp .ne 22, 3) := by decide +kernel
theorem d_Mod_satisfied_198 : decode b_Mod_satisfied 198 = .ok (.iload_n 3, 1) := by decide +kernel
theorem d_Mod_satisfied_199 : decode b_Mod_satisfied 199 = .ok (.aload_n 0, 1) := by decide +kernel
theorem d_Mod_satisfied_200 : decode b_Mod_satisfied 200 = .ok (.getfield 25, 3) := by decide +kernel
theorem d_Mod_satisfied_203 : decode b_Mod_satisfied 203 = .ok (.iload_n 1, 1) := by decide +kernel
theorem d_Mod_satisfied_204 : decode b_Mod_satisfied 204 = .ok (.iaload, 1) := by decide +kernel
theorem d_Mod_satisfied_205 : decode b_Mod_satisfied 205 = .ok (.iadd, 1) := by decide +kernel
theorem d_Mod_satisfied_206 : decode b_Mod_satisfied 206 = .ok (.iload 4, 2) := by decide +kernel
theorem d_Mod_satisfied_208 : decode b_Mod_satisfied 208 = .ok (.if_icmp .gt 7, 3) := by decide +kernel
theorem d_Mod_satisfied_211 : decode b_Mod_satisfied 211 = .ok (.iconst 1, 1) := by decide +kernel
theorem d_Mod_satisfied_212 : decode b_Mod_satisfied 212 = .ok (.goto 4, 3) := by decide +kernel
theorem d_Mod_satisfied_215 : decode b_Mod_satisfied 215 = .ok (.iconst 0, 1) := by decide +kernel
theorem d_Mod_satisfied_216 : decode b_Mod_satisfied 216 = .ok (.ireturn, 1) := by decide +kernel
theorem d_Mod_satisfied_217 : decode b_Mod_satisfied 217 = .ok (.aload_n 0, 1) := by decide +kernel
theorem d_Mod_satisfied_218 : decode b_Mod_satisfied 218 = .ok (.getfield 65, 3) := by decide +kernel
theorem d_Mod_satisfied_221 : decode b_Mod_satisfied 221 = .ok (.aload_n 0, 1) := by decide +kernel
theorem d_Mod_satisfied_222 : decode b_Mod_satisfied 222 = .ok (.getfield 25, 3) := by decide +kernel
theorem d_Mod_satisfied_225 : decode b_Mod_satisfied 225 = .ok (.iload_n 1, 1) := by decide +kernel
theorem d_Mod_satisfied_226 : decode b_Mod_satisfied 226 = .ok (.iaload, 1) := by decide +kernel
theorem d_Mod_satisfied_227 : decode b_Mod_satisfied 227 = .ok (.iaload, 1) := by decide +kernel
theorem d_Mod_satisfied_228 : decode b_Mod_satisfied 228 = .ok (.istore 5, 2) := by decide +kernel
theorem d_Mod_satisfied_230 : decode b_Mod_satisfied 230 = .ok (.aload_n 0, 1) := by decide +kernel
theorem d_Mod_satisfied_231 : decode b_Mod_satisfied 231 = .ok (.getfield 16, 3) := by decide +kernel
theorem d_Mod_satisfied_234 : decode b_Mod_satisfied 234 = .ok (.iload_n 1, 1) := by decide +kernel
theorem d_Mod_satisfied_235 : decode b_Mod_satisfied 235 = .ok (.iaload, 1) := by decide +kernel
theorem d_Mod_satisfied_236 : decode b_Mod_satisfied 236 = .ok (.bipush 6, 2) := by decide +kernel
theorem d_Mod_satisfied_238 : decode b_Mod_satisfied 238 = .ok (.if_icmp .ne 23, 3) := by decide +kernel
theorem d_Mod_satisfied_241 : decode b_Mod_satisfied 241 = .ok (.iload_n 3, 1) := by decide +kernel
theorem d_Mod_satisfied_242 : decode b_Mod_satisfied 242 = .ok (.iconst 1, 1) := by decide +kernel
theorem d_Mod_satisfied_243 : decode b_Mod_satisfied 243 = .ok (.if_icmp .lt 10, 3) := by decide +kernel
theorem d_Mod_satisfied_246 : decode b_Mod_satisfied 246 = .ok (.iload 4, 2) := by decide +kernel
theorem d_Mod_satisfied_248 : decode b_Mod_satisfied 248 = .ok (.iload 5, 2) := by decide +kernel
theorem d_Mod_satisfied_250 : decode b_Mod_satisfied 250 = .ok (.if_icmp .gt 7, 3) := by decide +kernel
theorem d_Mod_satisfied_253 : decode b_Mod_satisfied 253 = .ok (.iconst 1, 1) := by decide +kernel
theorem d_Mod_satisfied_254 : decode b_Mod_satisfied 254 = .ok (.goto 29, 3) := by decide +kernel
theorem d_Mod_satisfied_257 : decode b_Mod_satisfied 257 = .ok (.iconst 0, 1) := by decide +kernel
theorem d_Mod_satisfied_258 : decode b_Mod_satisfied 258 = .ok (.goto 25, 3) := by decide +kernel
theorem d_Mod_satisfied_261 : decode b_Mod_satisfied 261 = .ok (.aload_n 0, 1) := by decide +kernel
theorem d_Mod_satisfied_262 : decode b_Mod_satisfied 262 = .ok (.getfield 16, 3) := by decide +kernel
theorem d_Mod_satisfied_265 : decode b_Mod_satisfied 265 = .ok (.iload_n 1, 1) := by decide +kernel
theorem d_Mod_satisfied_266 : decode b_Mod_satisfied 266 = .ok (.iaload, 1) := by decide +kernel
theorem d_Mod_satisfied_267 : decode b_Mod_satisfied 267 = .ok (.iload_n 3, 1) := by decide +kernel
theorem d_Mod_satisfied_268 : decode b_Mod_satisfied 268 = .ok (.iload 4, 2) := by decide +kernel
theorem d_Mod_satisfied_270 : decode b_Mod_satisfied 270 = .ok (.invokestatic 152, 3) := by decide +kernel
theorem d_Mod_satisfied_273 : decode b_Mod_satisfied 273 = .ok (.iload 5, 2) := by decide +kernel
theorem d_Mod_satisfied_275 : decode b_Mod_satisfied 275 = .ok (.if_icmp .ne 7, 3) := by decide +kernel
theorem d_Mod_satisfied_278 : decode b_Mod_satisfied 278 = .ok (.iconst 1, 1) := by decide +kernel
theorem d_Mod_satisfied_279 : decode b_Mod_satisfied 279 = .ok (.goto 4, 3) := by decide +kernel
theorem d_Mod_satisfied_282 : decode b_Mod_satisfied 282 = .ok (.iconst 0, 1) := by decide +kernel
theorem d_Mod_satisfied_283 : decode b_Mod_satisfied 283 = .ok (.ireturn, 1) := by decide +kernel
set_option maxHeartbeats 4000000 in
set_option maxRecDepth 20000 in
theorem k_Mod_satisfied (l : Launch) (D : va_G) (cA : Nat → ClassId) (adr : Nat → Nat) (hi : wI mN adr) (I : Nat → Int32) (F : Nat → Nat → Int32) (nn mm en mk : Nat) (ch : Bool) (hch : I 20 = bi ch) (hWF : WF I F nn mm en mk) (xk : Int32) : Ct l y_Mod_satisfied b_Mod_satisfied 6 (some .boolean) 6 D cA [.ref (adr 0), .int xk] (fun H => MP D cA adr I F H) (fun r H => ∃ q : Bool, r = some (.int (bi q)) ∧ (q = true ↔ (0 ≤ xk.toInt ∧ xk.toInt < mm ∧ SatR (I 32).toInt F xk.toInt.toNat)) ∧ MQ2 D cA adr 0 I F H) (wA mN adr) := by
  refine Ct.mk (by decide) (Nat.le_of_ble_eq_true rfl) ?_
  intro p e s m args below meth c Q H locs ls hx hb hr hml hlk hown hin hK hQ hS hP hl
  have hl : lv_has ls 6 [(0, .ref (adr 0)), (1, .int xk)] := hl
  have hown : s.vm.findClass "RangeSheetModel" = some m.cls := hown
  obtain ⟨hW, hE, hen, ⟨hmk, hmke⟩, htd, hsp, hsd, hset, hgd⟩ := hWF
  have hn1 : (I 1).toInt = (nn : Int) := hW.2.2.1
  have hm1 : (I 4).toInt = (mm : Int) := hW.2.2.2.1
  have hn10 := hW.1
  have hm12 := hW.2.1
  have hen12 := hE.1
  have hsd9 : (I 32).toInt = ((I 32).toInt.toNat : Int) := by omega
  have hp2 := p2_le (show (I 32).toInt.toNat ≤ 10 by omega)
  refine lv_aload_n hx hb d_Mod_satisfied_0 rfl (lv_at hl 0 rfl) ?_
  refine lv_iconst (v := 0) hx hb d_Mod_satisfied_1 (by decide) ?_
  refine m_pi hx hb hK hown hi hP hS wA_mem 0 (by decide) t_737 rfl rfl d_Mod_satisfied_2 (fun H locs hP hS => ?_)
  refine lv_iload_n hx hb d_Mod_satisfied_5 rfl (lv_at hl 1 rfl) ?_
  refine lv_iconst (v := 0) hx hb d_Mod_satisfied_6 (by decide) ?_
  refine lv_aload_n hx hb d_Mod_satisfied_7 rfl (lv_at hl 0 rfl) ?_
  refine m_gi (v := (I 4)) hx hb hK hown hP 4 (by decide) t_741 rfl d_Mod_satisfied_8 ?_
  refine lv_iconst (v := 1) hx hb d_Mod_satisfied_11 (by decide) ?_
  refine x_sub hx hb d_Mod_satisfied_12 hm1 kc_1 (by omega) (fun z_1 tz_1 => ?_)
  refine r_Mod_within hx hb hml hown hK hl.1 hS ⟨Nat.le_of_ble_eq_true rfl, Nat.le_of_ble_eq_true rfl⟩ ⟨Nat.le_of_ble_eq_true rfl, Nat.le_of_ble_eq_true rfl⟩ rfl kc_0 tz_1  d_Mod_satisfied_13 (Nat.le_of_ble_eq_true rfl) (fun locs hS => ?_)
  refine b_bool_ne (tgt := 21) hx hb d_Mod_satisfied_16 (by decide) (fun c_2 => ?_) (fun c_2 => ?_)
  · have hc_2 := of_decide_eq_true c_2
    have hxk : xk.toInt = (xk.toInt.toNat : Int) := by omega
    obtain ⟨hV0, hV7, hV1, hV5, hV8, hV3⟩ := hW.2.2.2.2.2 xk.toInt.toNat (by omega)
    refine lv_aload_n hx hb d_Mod_satisfied_21 rfl (lv_at hl 0 rfl) ?_
    refine m_gr hx hb hK hown hP 5 (by decide) t_742 d_Mod_satisfied_22 ?_
    refine lv_iload_n hx hb d_Mod_satisfied_25 rfl (lv_at hl 1 rfl) ?_
    refine m_ld hx hb hK hP 5 (by decide) (xk.toInt.toNat) hxk (by omega) (show xk.toInt.toNat < 12 by omega) d_Mod_satisfied_26 (fun z_3 ez_3 => ?_)
    subst ez_3
    refine lv_bipush (v := 7) hx hb d_Mod_satisfied_27 (by decide) ?_
    refine b_icmp_ne (tgt := 66) hx hb d_Mod_satisfied_29 (by decide) rfl kc_7 (fun c_4 => ?_) (fun c_4 => ?_)
    · have hV1 := hV1 c_4
      refine lv_aload_n hx hb d_Mod_satisfied_66 rfl (lv_at hl 0 rfl) ?_
      refine m_gr hx hb hK hown hP 5 (by decide) t_742 d_Mod_satisfied_67 ?_
      refine lv_iload_n hx hb d_Mod_satisfied_70 rfl (lv_at hl 1 rfl) ?_
      refine m_ld hx hb hK hP 5 (by decide) (xk.toInt.toNat) hxk (by omega) (show xk.toInt.toNat < 12 by omega) d_Mod_satisfied_71 (fun z_5 ez_5 => ?_)
      subst ez_5
      refine lv_iconst (v := 5) hx hb d_Mod_satisfied_72 (by decide) ?_
      refine b_icmp_eq (tgt := 91) hx hb d_Mod_satisfied_73 (by decide) rfl kc_5 (fun c_6 => ?_) (fun c_6 => ?_)
      · refine lv_iconst (v := 0) hx hb d_Mod_satisfied_91 (by decide) ?_
        refine lv_istore_n (lv' := [(2, .int (0 : Int32)), (0, .ref (adr 0)), (1, .int xk)]) hx hb d_Mod_satisfied_92 rfl hl (by decide) rfl (fun ls hl => ?_)
        refine lv_aload_n hx hb d_Mod_satisfied_93 rfl (lv_at hl 1 rfl) ?_
        refine m_gr hx hb hK hown hP 6 (by decide) t_743 d_Mod_satisfied_94 ?_
        refine lv_iload_n hx hb d_Mod_satisfied_97 rfl (lv_at hl 2 rfl) ?_
        refine m_ld hx hb hK hP 6 (by decide) (xk.toInt.toNat) hxk (by omega) (show xk.toInt.toNat < 12 by omega) d_Mod_satisfied_98 (fun z_7 ez_7 => ?_)
        subst ez_7
        refine lv_aload_n hx hb d_Mod_satisfied_99 rfl (lv_at hl 1 rfl) ?_
        refine m_gi (v := (I 32)) hx hb hK hown hP 32 (by decide) t_769 rfl d_Mod_satisfied_100 ?_
        refine b_icmp_ge (tgt := 136) hx hb d_Mod_satisfied_103 (by decide) rfl hsd9 (fun c_8 => ?_) (fun c_8 => ?_)
        · refine lv_iconst (v := 0) hx hb d_Mod_satisfied_136 (by decide) ?_
          refine W.eq (g2 := F0 m 137 ls [.int (bi false)]) rfl ?_
          refine e_z hx hb hr hlk hQ hS d_Mod_satisfied_137 ?_
          refine ⟨false, rfl, ?_, (va_up I 0 (0 : Int32)), F, ch, rfl, hch, ⟨⟨rfl, rfl, rfl, rfl, rfl, rfl, rfl⟩, fun _ _ _ _ _ _ _ _ => rfl, fun _ _ => ⟨rfl, rfl⟩⟩, hP⟩
          rw [show (0 ≤ xk.toInt ∧ xk.toInt < mm ∧ SatR (I 32).toInt F xk.toInt.toNat) ↔ SatR (I 32).toInt F xk.toInt.toNat from ⟨fun h => h.2.2, fun h => ⟨by omega, by omega, h⟩⟩]
          unfold SatR
          rw [if_neg (by omega)]
          refine ⟨fun h => absurd h (by decide), fun h => ?_⟩
          obtain ⟨⟨h1, h2, h3⟩, _⟩ := h; omega
        · refine lv_aload_n hx hb d_Mod_satisfied_106 rfl (lv_at hl 1 rfl) ?_
          refine m_gr hx hb hK hown hP 7 (by decide) t_744 d_Mod_satisfied_107 ?_
          refine lv_iload_n hx hb d_Mod_satisfied_110 rfl (lv_at hl 2 rfl) ?_
          refine m_ld hx hb hK hP 7 (by decide) (xk.toInt.toNat) hxk (by omega) (show xk.toInt.toNat < 12 by omega) d_Mod_satisfied_111 (fun z_9 ez_9 => ?_)
          subst ez_9
          refine lv_aload_n hx hb d_Mod_satisfied_112 rfl (lv_at hl 1 rfl) ?_
          refine m_gi (v := (I 32)) hx hb hK hown hP 32 (by decide) t_769 rfl d_Mod_satisfied_113 ?_
          refine b_icmp_ge (tgt := 136) hx hb d_Mod_satisfied_116 (by decide) rfl hsd9 (fun c_10 => ?_) (fun c_10 => ?_)
          · refine lv_iconst (v := 0) hx hb d_Mod_satisfied_136 (by decide) ?_
            refine W.eq (g2 := F0 m 137 ls [.int (bi false)]) rfl ?_
            refine e_z hx hb hr hlk hQ hS d_Mod_satisfied_137 ?_
            refine ⟨false, rfl, ?_, (va_up I 0 (0 : Int32)), F, ch, rfl, hch, ⟨⟨rfl, rfl, rfl, rfl, rfl, rfl, rfl⟩, fun _ _ _ _ _ _ _ _ => rfl, fun _ _ => ⟨rfl, rfl⟩⟩, hP⟩
            rw [show (0 ≤ xk.toInt ∧ xk.toInt < mm ∧ SatR (I 32).toInt F xk.toInt.toNat) ↔ SatR (I 32).toInt F xk.toInt.toNat from ⟨fun h => h.2.2, fun h => ⟨by omega, by omega, h⟩⟩]
            unfold SatR
            rw [if_neg (by omega)]
            refine ⟨fun h => absurd h (by decide), fun h => ?_⟩
            obtain ⟨⟨h1, h2, h3⟩, _⟩ := h; omega
          · refine lv_iload_n hx hb d_Mod_satisfied_119 rfl (lv_at hl 0 rfl) ?_
            refine b_if_eq (tgt := 138) hx hb d_Mod_satisfied_120 (by decide) kc_0 (fun c_11 => ?_) (fun c_11 => ?_)
            · refine lv_aload_n hx hb d_Mod_satisfied_138 rfl (lv_at hl 1 rfl) ?_
              refine m_gr hx hb hK hown hP 33 (by decide) t_770 d_Mod_satisfied_139 ?_
              refine lv_aload_n hx hb d_Mod_satisfied_142 rfl (lv_at hl 1 rfl) ?_
              refine m_gr hx hb hK hown hP 6 (by decide) t_743 d_Mod_satisfied_143 ?_
              refine lv_iload_n hx hb d_Mod_satisfied_146 rfl (lv_at hl 2 rfl) ?_
              refine m_ld hx hb hK hP 6 (by decide) (xk.toInt.toNat) hxk (by omega) (show xk.toInt.toNat < 12 by omega) d_Mod_satisfied_147 (fun z_12 ez_12 => ?_)
              subst ez_12
              have hix_13 : (F 6 xk.toInt.toNat).toInt = ((F 6 xk.toInt.toNat).toInt.toNat : Int) := by omega
              refine m_ld hx hb hK hP 33 (by decide) ((F 6 xk.toInt.toNat).toInt.toNat) hix_13 (by omega) (show (F 6 xk.toInt.toNat).toInt.toNat < 10 by omega) d_Mod_satisfied_148 (fun z_14 ez_14 => ?_)
              subst ez_14
              have hst_15 := hset (F 6 xk.toInt.toNat).toInt.toNat (by omega)
              refine lv_istore_n (lv' := [(3, .int (F 33 (F 6 xk.toInt.toNat).toInt.toNat)), (2, .int (0 : Int32)), (0, .ref (adr 0)), (1, .int xk)]) hx hb d_Mod_satisfied_149 rfl hl (by decide) rfl (fun ls hl => ?_)
              refine lv_aload_n hx hb d_Mod_satisfied_150 rfl (lv_at hl 2 rfl) ?_
              refine m_gr hx hb hK hown hP 33 (by decide) t_770 d_Mod_satisfied_151 ?_
              refine lv_aload_n hx hb d_Mod_satisfied_154 rfl (lv_at hl 2 rfl) ?_
              refine m_gr hx hb hK hown hP 7 (by decide) t_744 d_Mod_satisfied_155 ?_
              refine lv_iload_n hx hb d_Mod_satisfied_158 rfl (lv_at hl 3 rfl) ?_
              refine m_ld hx hb hK hP 7 (by decide) (xk.toInt.toNat) hxk (by omega) (show xk.toInt.toNat < 12 by omega) d_Mod_satisfied_159 (fun z_16 ez_16 => ?_)
              subst ez_16
              have hix_17 : (F 7 xk.toInt.toNat).toInt = ((F 7 xk.toInt.toNat).toInt.toNat : Int) := by omega
              refine m_ld hx hb hK hP 33 (by decide) ((F 7 xk.toInt.toNat).toInt.toNat) hix_17 (by omega) (show (F 7 xk.toInt.toNat).toInt.toNat < 10 by omega) d_Mod_satisfied_160 (fun z_18 ez_18 => ?_)
              subst ez_18
              have hst_19 := hset (F 7 xk.toInt.toNat).toInt.toNat (by omega)
              refine lv_istore (lv' := [(4, .int (F 33 (F 7 xk.toInt.toNat).toInt.toNat)), (3, .int (F 33 (F 6 xk.toInt.toNat).toInt.toNat)), (2, .int (0 : Int32)), (0, .ref (adr 0)), (1, .int xk)]) hx hb d_Mod_satisfied_161 hl (by decide) rfl (fun ls hl => ?_)
              refine lv_aload_n hx hb d_Mod_satisfied_163 rfl (lv_at hl 3 rfl) ?_
              refine m_gr hx hb hK hown hP 5 (by decide) t_742 d_Mod_satisfied_164 ?_
              refine lv_iload_n hx hb d_Mod_satisfied_167 rfl (lv_at hl 4 rfl) ?_
              refine m_ld hx hb hK hP 5 (by decide) (xk.toInt.toNat) hxk (by omega) (show xk.toInt.toNat < 12 by omega) d_Mod_satisfied_168 (fun z_20 ez_20 => ?_)
              subst ez_20
              refine lv_bipush (v := 7) hx hb d_Mod_satisfied_169 (by decide) ?_
              refine b_icmp_le (tgt := 188) hx hb d_Mod_satisfied_171 (by decide) rfl kc_7 (fun c_21 => ?_) (fun c_21 => ?_)
              · refine lv_aload_n hx hb d_Mod_satisfied_188 rfl (lv_at hl 3 rfl) ?_
                refine m_gr hx hb hK hown hP 5 (by decide) t_742 d_Mod_satisfied_189 ?_
                refine lv_iload_n hx hb d_Mod_satisfied_192 rfl (lv_at hl 4 rfl) ?_
                refine m_ld hx hb hK hP 5 (by decide) (xk.toInt.toNat) hxk (by omega) (show xk.toInt.toNat < 12 by omega) d_Mod_satisfied_193 (fun z_22 ez_22 => ?_)
                subst ez_22
                refine lv_iconst (v := 5) hx hb d_Mod_satisfied_194 (by decide) ?_
                refine b_icmp_ne (tgt := 217) hx hb d_Mod_satisfied_195 (by decide) rfl kc_5 (fun c_23 => ?_) (fun c_23 => ?_)
                · have hV3 := hV3 (by omega) (by omega) (by omega)
                  refine lv_aload_n hx hb d_Mod_satisfied_217 rfl (lv_at hl 3 rfl) ?_
                  refine m_gr hx hb hK hown hP 33 (by decide) t_770 d_Mod_satisfied_218 ?_
                  refine lv_aload_n hx hb d_Mod_satisfied_221 rfl (lv_at hl 3 rfl) ?_
                  refine m_gr hx hb hK hown hP 8 (by decide) t_745 d_Mod_satisfied_222 ?_
                  refine lv_iload_n hx hb d_Mod_satisfied_225 rfl (lv_at hl 4 rfl) ?_
                  refine m_ld hx hb hK hP 8 (by decide) (xk.toInt.toNat) hxk (by omega) (show xk.toInt.toNat < 12 by omega) d_Mod_satisfied_226 (fun z_24 ez_24 => ?_)
                  subst ez_24
                  have hix_25 : (F 8 xk.toInt.toNat).toInt = ((F 8 xk.toInt.toNat).toInt.toNat : Int) := by omega
                  refine m_ld hx hb hK hP 33 (by decide) ((F 8 xk.toInt.toNat).toInt.toNat) hix_25 (by omega) (show (F 8 xk.toInt.toNat).toInt.toNat < 10 by omega) d_Mod_satisfied_227 (fun z_26 ez_26 => ?_)
                  subst ez_26
                  have hst_27 := hset (F 8 xk.toInt.toNat).toInt.toNat (by omega)
                  refine lv_istore (lv' := [(5, .int (F 33 (F 8 xk.toInt.toNat).toInt.toNat)), (4, .int (F 33 (F 7 xk.toInt.toNat).toInt.toNat)), (3, .int (F 33 (F 6 xk.toInt.toNat).toInt.toNat)), (2, .int (0 : Int32)), (0, .ref (adr 0)), (1, .int xk)]) hx hb d_Mod_satisfied_228 hl (by decide) rfl (fun ls hl => ?_)
                  refine lv_aload_n hx hb d_Mod_satisfied_230 rfl (lv_at hl 4 rfl) ?_
                  refine m_gr hx hb hK hown hP 5 (by decide) t_742 d_Mod_satisfied_231 ?_
                  refine lv_iload_n hx hb d_Mod_satisfied_234 rfl (lv_at hl 5 rfl) ?_
                  refine m_ld hx hb hK hP 5 (by decide) (xk.toInt.toNat) hxk (by omega) (show xk.toInt.toNat < 12 by omega) d_Mod_satisfied_235 (fun z_28 ez_28 => ?_)
                  subst ez_28
                  refine lv_bipush (v := 6) hx hb d_Mod_satisfied_236 (by decide) ?_
                  refine b_icmp_ne (tgt := 261) hx hb d_Mod_satisfied_238 (by decide) rfl kc_6 (fun c_29 => ?_) (fun c_29 => ?_)
                  · refine lv_aload_n hx hb d_Mod_satisfied_261 rfl (lv_at hl 4 rfl) ?_
                    refine m_gr hx hb hK hown hP 5 (by decide) t_742 d_Mod_satisfied_262 ?_
                    refine lv_iload_n hx hb d_Mod_satisfied_265 rfl (lv_at hl 5 rfl) ?_
                    refine m_ld hx hb hK hP 5 (by decide) (xk.toInt.toNat) hxk (by omega) (show xk.toInt.toNat < 12 by omega) d_Mod_satisfied_266 (fun z_30 ez_30 => ?_)
                    subst ez_30
                    refine lv_iload_n hx hb d_Mod_satisfied_267 rfl (lv_at hl 2 rfl) ?_
                    refine lv_iload hx hb d_Mod_satisfied_268 (lv_at hl 1 rfl) ?_
                    refine r_Mod_thirdOf hx hb hml hown hK hl.1 hS ⟨Nat.le_of_ble_eq_true rfl, Nat.le_of_ble_eq_true rfl⟩ ⟨Nat.le_of_ble_eq_true rfl, Nat.le_of_ble_eq_true rfl⟩ rfl rfl rfl (by omega) (by omega) d_Mod_satisfied_270 (Nat.le_of_ble_eq_true rfl) (fun z_31 locs tz_31 hS => ?_)
                    refine lv_iload hx hb d_Mod_satisfied_273 (lv_at hl 0 rfl) ?_
                    refine b_icmp_ne (tgt := 282) hx hb d_Mod_satisfied_275 (by decide) tz_31 rfl (fun c_32 => ?_) (fun c_32 => ?_)
                    · refine lv_iconst (v := 0) hx hb d_Mod_satisfied_282 (by decide) ?_
                      refine W.eq (g2 := F0 m 283 ls [.int (bi false)]) rfl ?_
                      refine e_z hx hb hr hlk hQ hS d_Mod_satisfied_283 ?_
                      refine ⟨false, rfl, ?_, (va_up I 0 (0 : Int32)), F, ch, rfl, hch, ⟨⟨rfl, rfl, rfl, rfl, rfl, rfl, rfl⟩, fun _ _ _ _ _ _ _ _ => rfl, fun _ _ => ⟨rfl, rfl⟩⟩, hP⟩
                      rw [show (0 ≤ xk.toInt ∧ xk.toInt < mm ∧ SatR (I 32).toInt F xk.toInt.toNat) ↔ SatR (I 32).toInt F xk.toInt.toNat from ⟨fun h => h.2.2, fun h => ⟨by omega, by omega, h⟩⟩]
                      unfold SatR
                      rw [if_neg (by omega)]
                      rw [and_iff_right (show (F 6 xk.toInt.toNat).toInt < (I 32).toInt ∧ (F 7 xk.toInt.toNat).toInt < (I 32).toInt ∧ ((F 5 xk.toInt.toNat).toInt ≠ 5 → (F 5 xk.toInt.toNat).toInt ≠ 8 → (F 8 xk.toInt.toNat).toInt < (I 32).toInt) from ⟨by omega, by omega, fun _ _ => by omega⟩)]
                      rw [if_neg (by omega)]
                      rw [if_neg (by omega)]
                      have hz8 := hset (F 8 xk.toInt.toNat).toInt.toNat (by omega)
                      rw [R3_third (by omega) (by omega) (by omega) hz8, show (((F 5 xk.toInt.toNat).toInt.toNat : Nat) : Int) = (F 5 xk.toInt.toNat).toInt by omega]
                      exact ⟨fun h => absurd h (by decide), fun h => absurd h c_32⟩
                    · refine lv_iconst (v := 1) hx hb d_Mod_satisfied_278 (by decide) ?_
                      refine lv_goto (tgt := 283) hx hb d_Mod_satisfied_279 (by decide) ?_
                      refine W.eq (g2 := F0 m 283 ls [.int (bi true)]) rfl ?_
                      refine e_z hx hb hr hlk hQ hS d_Mod_satisfied_283 ?_
                      refine ⟨true, rfl, ?_, (va_up I 0 (0 : Int32)), F, ch, rfl, hch, ⟨⟨rfl, rfl, rfl, rfl, rfl, rfl, rfl⟩, fun _ _ _ _ _ _ _ _ => rfl, fun _ _ => ⟨rfl, rfl⟩⟩, hP⟩
                      rw [show (0 ≤ xk.toInt ∧ xk.toInt < mm ∧ SatR (I 32).toInt F xk.toInt.toNat) ↔ SatR (I 32).toInt F xk.toInt.toNat from ⟨fun h => h.2.2, fun h => ⟨by omega, by omega, h⟩⟩]
                      unfold SatR
                      rw [if_neg (by omega)]
                      rw [and_iff_right (show (F 6 xk.toInt.toNat).toInt < (I 32).toInt ∧ (F 7 xk.toInt.toNat).toInt < (I 32).toInt ∧ ((F 5 xk.toInt.toNat).toInt ≠ 5 → (F 5 xk.toInt.toNat).toInt ≠ 8 → (F 8 xk.toInt.toNat).toInt < (I 32).toInt) from ⟨by omega, by omega, fun _ _ => by omega⟩)]
                      rw [if_neg (by omega)]
                      rw [if_neg (by omega)]
                      have hz8 := hset (F 8 xk.toInt.toNat).toInt.toNat (by omega)
                      rw [R3_third (by omega) (by omega) (by omega) hz8, show (((F 5 xk.toInt.toNat).toInt.toNat : Nat) : Int) = (F 5 xk.toInt.toNat).toInt by omega]
                      exact ⟨fun _ => c_32, fun _ => rfl⟩
                  · refine lv_iload_n hx hb d_Mod_satisfied_241 rfl (lv_at hl 2 rfl) ?_
                    refine lv_iconst (v := 1) hx hb d_Mod_satisfied_242 (by decide) ?_
                    refine b_icmp_lt (tgt := 253) hx hb d_Mod_satisfied_243 (by decide) rfl kc_1 (fun c_33 => ?_) (fun c_33 => ?_)
                    · refine lv_iconst (v := 1) hx hb d_Mod_satisfied_253 (by decide) ?_
                      refine lv_goto (tgt := 283) hx hb d_Mod_satisfied_254 (by decide) ?_
                      refine W.eq (g2 := F0 m 283 ls [.int (bi true)]) rfl ?_
                      refine e_z hx hb hr hlk hQ hS d_Mod_satisfied_283 ?_
                      refine ⟨true, rfl, ?_, (va_up I 0 (0 : Int32)), F, ch, rfl, hch, ⟨⟨rfl, rfl, rfl, rfl, rfl, rfl, rfl⟩, fun _ _ _ _ _ _ _ _ => rfl, fun _ _ => ⟨rfl, rfl⟩⟩, hP⟩
                      rw [show (0 ≤ xk.toInt ∧ xk.toInt < mm ∧ SatR (I 32).toInt F xk.toInt.toNat) ↔ SatR (I 32).toInt F xk.toInt.toNat from ⟨fun h => h.2.2, fun h => ⟨by omega, by omega, h⟩⟩]
                      unfold SatR
                      rw [if_neg (by omega)]
                      rw [and_iff_right (show (F 6 xk.toInt.toNat).toInt < (I 32).toInt ∧ (F 7 xk.toInt.toNat).toInt < (I 32).toInt ∧ ((F 5 xk.toInt.toNat).toInt ≠ 5 → (F 5 xk.toInt.toNat).toInt ≠ 8 → (F 8 xk.toInt.toNat).toInt < (I 32).toInt) from ⟨by omega, by omega, fun _ _ => by omega⟩)]
                      rw [if_neg (by omega)]
                      rw [if_neg (by omega)]
                      have hz8 := hset (F 8 xk.toInt.toNat).toInt.toNat (by omega)
                      rw [show (F 5 xk.toInt.toNat).toInt.toNat = 6 by omega]
                      show _ ↔ (_ < 1 ∨ _ ≤ _)
                      exact ⟨fun _ => by omega, fun _ => rfl⟩
                    · refine lv_iload hx hb d_Mod_satisfied_246 (lv_at hl 1 rfl) ?_
                      refine lv_iload hx hb d_Mod_satisfied_248 (lv_at hl 0 rfl) ?_
                      refine b_icmp_gt (tgt := 257) hx hb d_Mod_satisfied_250 (by decide) rfl rfl (fun c_34 => ?_) (fun c_34 => ?_)
                      · refine lv_iconst (v := 0) hx hb d_Mod_satisfied_257 (by decide) ?_
                        refine lv_goto (tgt := 283) hx hb d_Mod_satisfied_258 (by decide) ?_
                        refine W.eq (g2 := F0 m 283 ls [.int (bi false)]) rfl ?_
                        refine e_z hx hb hr hlk hQ hS d_Mod_satisfied_283 ?_
                        refine ⟨false, rfl, ?_, (va_up I 0 (0 : Int32)), F, ch, rfl, hch, ⟨⟨rfl, rfl, rfl, rfl, rfl, rfl, rfl⟩, fun _ _ _ _ _ _ _ _ => rfl, fun _ _ => ⟨rfl, rfl⟩⟩, hP⟩
                        rw [show (0 ≤ xk.toInt ∧ xk.toInt < mm ∧ SatR (I 32).toInt F xk.toInt.toNat) ↔ SatR (I 32).toInt F xk.toInt.toNat from ⟨fun h => h.2.2, fun h => ⟨by omega, by omega, h⟩⟩]
                        unfold SatR
                        rw [if_neg (by omega)]
                        rw [and_iff_right (show (F 6 xk.toInt.toNat).toInt < (I 32).toInt ∧ (F 7 xk.toInt.toNat).toInt < (I 32).toInt ∧ ((F 5 xk.toInt.toNat).toInt ≠ 5 → (F 5 xk.toInt.toNat).toInt ≠ 8 → (F 8 xk.toInt.toNat).toInt < (I 32).toInt) from ⟨by omega, by omega, fun _ _ => by omega⟩)]
                        rw [if_neg (by omega)]
                        rw [if_neg (by omega)]
                        have hz8 := hset (F 8 xk.toInt.toNat).toInt.toNat (by omega)
                        rw [show (F 5 xk.toInt.toNat).toInt.toNat = 6 by omega]
                        show _ ↔ (_ < 1 ∨ _ ≤ _)
                        exact ⟨fun h => absurd h (by decide), fun h => by omega⟩
                      · refine lv_iconst (v := 1) hx hb d_Mod_satisfied_253 (by decide) ?_
                        refine lv_goto (tgt := 283) hx hb d_Mod_satisfied_254 (by decide) ?_
                        refine W.eq (g2 := F0 m 283 ls [.int (bi true)]) rfl ?_
                        refine e_z hx hb hr hlk hQ hS d_Mod_satisfied_283 ?_
                        refine ⟨true, rfl, ?_, (va_up I 0 (0 : Int32)), F, ch, rfl, hch, ⟨⟨rfl, rfl, rfl, rfl, rfl, rfl, rfl⟩, fun _ _ _ _ _ _ _ _ => rfl, fun _ _ => ⟨rfl, rfl⟩⟩, hP⟩
                        rw [show (0 ≤ xk.toInt ∧ xk.toInt < mm ∧ SatR (I 32).toInt F xk.toInt.toNat) ↔ SatR (I 32).toInt F xk.toInt.toNat from ⟨fun h => h.2.2, fun h => ⟨by omega, by omega, h⟩⟩]
                        unfold SatR
                        rw [if_neg (by omega)]
                        rw [and_iff_right (show (F 6 xk.toInt.toNat).toInt < (I 32).toInt ∧ (F 7 xk.toInt.toNat).toInt < (I 32).toInt ∧ ((F 5 xk.toInt.toNat).toInt ≠ 5 → (F 5 xk.toInt.toNat).toInt ≠ 8 → (F 8 xk.toInt.toNat).toInt < (I 32).toInt) from ⟨by omega, by omega, fun _ _ => by omega⟩)]
                        rw [if_neg (by omega)]
                        rw [if_neg (by omega)]
                        have hz8 := hset (F 8 xk.toInt.toNat).toInt.toNat (by omega)
                        rw [show (F 5 xk.toInt.toNat).toInt.toNat = 6 by omega]
                        show _ ↔ (_ < 1 ∨ _ ≤ _)
                        exact ⟨fun _ => by omega, fun _ => rfl⟩
                · have hV5 := hV5 (by omega)
                  refine lv_iload_n hx hb d_Mod_satisfied_198 rfl (lv_at hl 1 rfl) ?_
                  refine lv_aload_n hx hb d_Mod_satisfied_199 rfl (lv_at hl 3 rfl) ?_
                  refine m_gr hx hb hK hown hP 8 (by decide) t_745 d_Mod_satisfied_200 ?_
                  refine lv_iload_n hx hb d_Mod_satisfied_203 rfl (lv_at hl 4 rfl) ?_
                  refine m_ld hx hb hK hP 8 (by decide) (xk.toInt.toNat) hxk (by omega) (show xk.toInt.toNat < 12 by omega) d_Mod_satisfied_204 (fun z_35 ez_35 => ?_)
                  subst ez_35
                  refine x_add hx hb d_Mod_satisfied_205 rfl rfl (by omega) (fun z_36 tz_36 => ?_)
                  refine lv_iload hx hb d_Mod_satisfied_206 (lv_at hl 0 rfl) ?_
                  refine b_icmp_gt (tgt := 215) hx hb d_Mod_satisfied_208 (by decide) tz_36 rfl (fun c_37 => ?_) (fun c_37 => ?_)
                  · refine lv_iconst (v := 0) hx hb d_Mod_satisfied_215 (by decide) ?_
                    refine W.eq (g2 := F0 m 216 ls [.int (bi false)]) rfl ?_
                    refine e_z hx hb hr hlk hQ hS d_Mod_satisfied_216 ?_
                    refine ⟨false, rfl, ?_, (va_up I 0 (0 : Int32)), F, ch, rfl, hch, ⟨⟨rfl, rfl, rfl, rfl, rfl, rfl, rfl⟩, fun _ _ _ _ _ _ _ _ => rfl, fun _ _ => ⟨rfl, rfl⟩⟩, hP⟩
                    rw [show (0 ≤ xk.toInt ∧ xk.toInt < mm ∧ SatR (I 32).toInt F xk.toInt.toNat) ↔ SatR (I 32).toInt F xk.toInt.toNat from ⟨fun h => h.2.2, fun h => ⟨by omega, by omega, h⟩⟩]
                    unfold SatR
                    rw [if_neg (by omega)]
                    rw [and_iff_right (show (F 6 xk.toInt.toNat).toInt < (I 32).toInt ∧ (F 7 xk.toInt.toNat).toInt < (I 32).toInt ∧ ((F 5 xk.toInt.toNat).toInt ≠ 5 → (F 5 xk.toInt.toNat).toInt ≠ 8 → (F 8 xk.toInt.toNat).toInt < (I 32).toInt) from ⟨by omega, by omega, fun _ _ => by omega⟩)]
                    rw [if_neg (by omega)]
                    rw [if_pos (by omega)]
                    exact ⟨fun h => absurd h (by decide), fun h => by omega⟩
                  · refine lv_iconst (v := 1) hx hb d_Mod_satisfied_211 (by decide) ?_
                    refine lv_goto (tgt := 216) hx hb d_Mod_satisfied_212 (by decide) ?_
                    refine W.eq (g2 := F0 m 216 ls [.int (bi true)]) rfl ?_
                    refine e_z hx hb hr hlk hQ hS d_Mod_satisfied_216 ?_
                    refine ⟨true, rfl, ?_, (va_up I 0 (0 : Int32)), F, ch, rfl, hch, ⟨⟨rfl, rfl, rfl, rfl, rfl, rfl, rfl⟩, fun _ _ _ _ _ _ _ _ => rfl, fun _ _ => ⟨rfl, rfl⟩⟩, hP⟩
                    rw [show (0 ≤ xk.toInt ∧ xk.toInt < mm ∧ SatR (I 32).toInt F xk.toInt.toNat) ↔ SatR (I 32).toInt F xk.toInt.toNat from ⟨fun h => h.2.2, fun h => ⟨by omega, by omega, h⟩⟩]
                    unfold SatR
                    rw [if_neg (by omega)]
                    rw [and_iff_right (show (F 6 xk.toInt.toNat).toInt < (I 32).toInt ∧ (F 7 xk.toInt.toNat).toInt < (I 32).toInt ∧ ((F 5 xk.toInt.toNat).toInt ≠ 5 → (F 5 xk.toInt.toNat).toInt ≠ 8 → (F 8 xk.toInt.toNat).toInt < (I 32).toInt) from ⟨by omega, by omega, fun _ _ => by omega⟩)]
                    rw [if_neg (by omega)]
                    rw [if_pos (by omega)]
                    exact ⟨fun _ => by omega, fun _ => rfl⟩
              · have hV8 := hV8 (by omega)
                have hrws := hW.2.2.2.2.1 (F 8 xk.toInt.toNat).toInt.toNat (by omega)
                have hcnt : (F 10 (F 8 xk.toInt.toNat).toInt.toNat).toInt = ((F 10 (F 8 xk.toInt.toNat).toInt.toNat).toInt.toNat : Int) := by have := hrws.1; omega
                refine lv_aload_n hx hb d_Mod_satisfied_174 rfl (lv_at hl 3 rfl) ?_
                refine lv_aload_n hx hb d_Mod_satisfied_175 rfl (lv_at hl 3 rfl) ?_
                refine m_gr hx hb hK hown hP 8 (by decide) t_745 d_Mod_satisfied_176 ?_
                refine lv_iload_n hx hb d_Mod_satisfied_179 rfl (lv_at hl 4 rfl) ?_
                refine m_ld hx hb hK hP 8 (by decide) (xk.toInt.toNat) hxk (by omega) (show xk.toInt.toNat < 12 by omega) d_Mod_satisfied_180 (fun z_38 ez_38 => ?_)
                subst ez_38
                have hix_39 : (F 8 xk.toInt.toNat).toInt = ((F 8 xk.toInt.toNat).toInt.toNat : Int) := by omega
                refine lv_iload_n hx hb d_Mod_satisfied_181 rfl (lv_at hl 1 rfl) ?_
                refine lv_iload hx hb d_Mod_satisfied_182 (lv_at hl 0 rfl) ?_
                refine x_V (As := [.int (F 8 (xk.toInt.toNat)), .int (F 33 (F 6 xk.toInt.toNat).toInt.toNat), .int (F 33 (F 7 xk.toInt.toNat).toInt.toNat)]) (rest := []) hx hb hml hown hK (k_Mod_isRow l D cA adr hi (va_up I 0 (0 : Int32)) F (F 8 xk.toInt.toNat).toInt.toNat (F 10 (F 8 xk.toInt.toNat).toInt.toNat).toInt.toNat (F 8 (xk.toInt.toNat)) (F 33 (F 6 xk.toInt.toNat).toInt.toNat) (F 33 (F 7 xk.toInt.toNat).toInt.toNat) (by omega) (by omega) hcnt (by omega)) t_1053 t_4 t_1050 t_1052 ts_41 yk_Mod_isRow ⟨Nat.le_of_ble_eq_true rfl, Nat.le_of_ble_eq_true rfl⟩ (m_rec hK hP) hP rfl hl.1 rfl (Nat.le_of_ble_eq_true rfl) d_Mod_satisfied_184 ⟨Nat.le_of_ble_eq_true rfl, Nat.le_of_ble_eq_true rfl⟩ hS (fun q h => h) (fun r H locs hq _ hS => ?_)
                obtain ⟨q_40, rfl, hq_40, hP⟩ := hq
                refine W.eq (g2 := F0 m 187 ls [.int (bi q_40)]) rfl ?_
                refine e_z hx hb hr hlk hQ hS d_Mod_satisfied_187 ?_
                refine ⟨q_40, rfl, ?_, (va_up I 0 (0 : Int32)), F, ch, rfl, hch, ⟨⟨rfl, rfl, rfl, rfl, rfl, rfl, rfl⟩, fun _ _ _ _ _ _ _ _ => rfl, fun _ _ => ⟨rfl, rfl⟩⟩, hP⟩
                rw [show (0 ≤ xk.toInt ∧ xk.toInt < mm ∧ SatR (I 32).toInt F xk.toInt.toNat) ↔ SatR (I 32).toInt F xk.toInt.toNat from ⟨fun h => h.2.2, fun h => ⟨by omega, by omega, h⟩⟩]
                unfold SatR
                rw [if_neg (by omega)]
                rw [and_iff_right (show (F 6 xk.toInt.toNat).toInt < (I 32).toInt ∧ (F 7 xk.toInt.toNat).toInt < (I 32).toInt ∧ ((F 5 xk.toInt.toNat).toInt ≠ 5 → (F 5 xk.toInt.toNat).toInt ≠ 8 → (F 8 xk.toInt.toNat).toInt < (I 32).toInt) from ⟨by omega, by omega, fun _ _ => by omega⟩)]
                rw [if_pos (by omega)]; exact hq_40
            · exact absurd rfl c_11
      · refine lv_aload_n hx hb d_Mod_satisfied_76 rfl (lv_at hl 0 rfl) ?_
        refine m_gr hx hb hK hown hP 5 (by decide) t_742 d_Mod_satisfied_77 ?_
        refine lv_iload_n hx hb d_Mod_satisfied_80 rfl (lv_at hl 1 rfl) ?_
        refine m_ld hx hb hK hP 5 (by decide) (xk.toInt.toNat) hxk (by omega) (show xk.toInt.toNat < 12 by omega) d_Mod_satisfied_81 (fun z_41 ez_41 => ?_)
        subst ez_41
        refine lv_bipush (v := 7) hx hb d_Mod_satisfied_82 (by decide) ?_
        refine b_icmp_ge (tgt := 91) hx hb d_Mod_satisfied_84 (by decide) rfl kc_7 (fun c_42 => ?_) (fun c_42 => ?_)
        · refine lv_iconst (v := 0) hx hb d_Mod_satisfied_91 (by decide) ?_
          refine lv_istore_n (lv' := [(2, .int (0 : Int32)), (0, .ref (adr 0)), (1, .int xk)]) hx hb d_Mod_satisfied_92 rfl hl (by decide) rfl (fun ls hl => ?_)
          refine lv_aload_n hx hb d_Mod_satisfied_93 rfl (lv_at hl 1 rfl) ?_
          refine m_gr hx hb hK hown hP 6 (by decide) t_743 d_Mod_satisfied_94 ?_
          refine lv_iload_n hx hb d_Mod_satisfied_97 rfl (lv_at hl 2 rfl) ?_
          refine m_ld hx hb hK hP 6 (by decide) (xk.toInt.toNat) hxk (by omega) (show xk.toInt.toNat < 12 by omega) d_Mod_satisfied_98 (fun z_43 ez_43 => ?_)
          subst ez_43
          refine lv_aload_n hx hb d_Mod_satisfied_99 rfl (lv_at hl 1 rfl) ?_
          refine m_gi (v := (I 32)) hx hb hK hown hP 32 (by decide) t_769 rfl d_Mod_satisfied_100 ?_
          refine b_icmp_ge (tgt := 136) hx hb d_Mod_satisfied_103 (by decide) rfl hsd9 (fun c_44 => ?_) (fun c_44 => ?_)
          · refine lv_iconst (v := 0) hx hb d_Mod_satisfied_136 (by decide) ?_
            refine W.eq (g2 := F0 m 137 ls [.int (bi false)]) rfl ?_
            refine e_z hx hb hr hlk hQ hS d_Mod_satisfied_137 ?_
            refine ⟨false, rfl, ?_, (va_up I 0 (0 : Int32)), F, ch, rfl, hch, ⟨⟨rfl, rfl, rfl, rfl, rfl, rfl, rfl⟩, fun _ _ _ _ _ _ _ _ => rfl, fun _ _ => ⟨rfl, rfl⟩⟩, hP⟩
            rw [show (0 ≤ xk.toInt ∧ xk.toInt < mm ∧ SatR (I 32).toInt F xk.toInt.toNat) ↔ SatR (I 32).toInt F xk.toInt.toNat from ⟨fun h => h.2.2, fun h => ⟨by omega, by omega, h⟩⟩]
            unfold SatR
            rw [if_neg (by omega)]
            refine ⟨fun h => absurd h (by decide), fun h => ?_⟩
            obtain ⟨⟨h1, h2, h3⟩, _⟩ := h; omega
          · refine lv_aload_n hx hb d_Mod_satisfied_106 rfl (lv_at hl 1 rfl) ?_
            refine m_gr hx hb hK hown hP 7 (by decide) t_744 d_Mod_satisfied_107 ?_
            refine lv_iload_n hx hb d_Mod_satisfied_110 rfl (lv_at hl 2 rfl) ?_
            refine m_ld hx hb hK hP 7 (by decide) (xk.toInt.toNat) hxk (by omega) (show xk.toInt.toNat < 12 by omega) d_Mod_satisfied_111 (fun z_45 ez_45 => ?_)
            subst ez_45
            refine lv_aload_n hx hb d_Mod_satisfied_112 rfl (lv_at hl 1 rfl) ?_
            refine m_gi (v := (I 32)) hx hb hK hown hP 32 (by decide) t_769 rfl d_Mod_satisfied_113 ?_
            refine b_icmp_ge (tgt := 136) hx hb d_Mod_satisfied_116 (by decide) rfl hsd9 (fun c_46 => ?_) (fun c_46 => ?_)
            · refine lv_iconst (v := 0) hx hb d_Mod_satisfied_136 (by decide) ?_
              refine W.eq (g2 := F0 m 137 ls [.int (bi false)]) rfl ?_
              refine e_z hx hb hr hlk hQ hS d_Mod_satisfied_137 ?_
              refine ⟨false, rfl, ?_, (va_up I 0 (0 : Int32)), F, ch, rfl, hch, ⟨⟨rfl, rfl, rfl, rfl, rfl, rfl, rfl⟩, fun _ _ _ _ _ _ _ _ => rfl, fun _ _ => ⟨rfl, rfl⟩⟩, hP⟩
              rw [show (0 ≤ xk.toInt ∧ xk.toInt < mm ∧ SatR (I 32).toInt F xk.toInt.toNat) ↔ SatR (I 32).toInt F xk.toInt.toNat from ⟨fun h => h.2.2, fun h => ⟨by omega, by omega, h⟩⟩]
              unfold SatR
              rw [if_neg (by omega)]
              refine ⟨fun h => absurd h (by decide), fun h => ?_⟩
              obtain ⟨⟨h1, h2, h3⟩, _⟩ := h; omega
            · refine lv_iload_n hx hb d_Mod_satisfied_119 rfl (lv_at hl 0 rfl) ?_
              refine b_if_eq (tgt := 138) hx hb d_Mod_satisfied_120 (by decide) kc_0 (fun c_47 => ?_) (fun c_47 => ?_)
              · refine lv_aload_n hx hb d_Mod_satisfied_138 rfl (lv_at hl 1 rfl) ?_
                refine m_gr hx hb hK hown hP 33 (by decide) t_770 d_Mod_satisfied_139 ?_
                refine lv_aload_n hx hb d_Mod_satisfied_142 rfl (lv_at hl 1 rfl) ?_
                refine m_gr hx hb hK hown hP 6 (by decide) t_743 d_Mod_satisfied_143 ?_
                refine lv_iload_n hx hb d_Mod_satisfied_146 rfl (lv_at hl 2 rfl) ?_
                refine m_ld hx hb hK hP 6 (by decide) (xk.toInt.toNat) hxk (by omega) (show xk.toInt.toNat < 12 by omega) d_Mod_satisfied_147 (fun z_48 ez_48 => ?_)
                subst ez_48
                have hix_49 : (F 6 xk.toInt.toNat).toInt = ((F 6 xk.toInt.toNat).toInt.toNat : Int) := by omega
                refine m_ld hx hb hK hP 33 (by decide) ((F 6 xk.toInt.toNat).toInt.toNat) hix_49 (by omega) (show (F 6 xk.toInt.toNat).toInt.toNat < 10 by omega) d_Mod_satisfied_148 (fun z_50 ez_50 => ?_)
                subst ez_50
                have hst_51 := hset (F 6 xk.toInt.toNat).toInt.toNat (by omega)
                refine lv_istore_n (lv' := [(3, .int (F 33 (F 6 xk.toInt.toNat).toInt.toNat)), (2, .int (0 : Int32)), (0, .ref (adr 0)), (1, .int xk)]) hx hb d_Mod_satisfied_149 rfl hl (by decide) rfl (fun ls hl => ?_)
                refine lv_aload_n hx hb d_Mod_satisfied_150 rfl (lv_at hl 2 rfl) ?_
                refine m_gr hx hb hK hown hP 33 (by decide) t_770 d_Mod_satisfied_151 ?_
                refine lv_aload_n hx hb d_Mod_satisfied_154 rfl (lv_at hl 2 rfl) ?_
                refine m_gr hx hb hK hown hP 7 (by decide) t_744 d_Mod_satisfied_155 ?_
                refine lv_iload_n hx hb d_Mod_satisfied_158 rfl (lv_at hl 3 rfl) ?_
                refine m_ld hx hb hK hP 7 (by decide) (xk.toInt.toNat) hxk (by omega) (show xk.toInt.toNat < 12 by omega) d_Mod_satisfied_159 (fun z_52 ez_52 => ?_)
                subst ez_52
                have hix_53 : (F 7 xk.toInt.toNat).toInt = ((F 7 xk.toInt.toNat).toInt.toNat : Int) := by omega
                refine m_ld hx hb hK hP 33 (by decide) ((F 7 xk.toInt.toNat).toInt.toNat) hix_53 (by omega) (show (F 7 xk.toInt.toNat).toInt.toNat < 10 by omega) d_Mod_satisfied_160 (fun z_54 ez_54 => ?_)
                subst ez_54
                have hst_55 := hset (F 7 xk.toInt.toNat).toInt.toNat (by omega)
                refine lv_istore (lv' := [(4, .int (F 33 (F 7 xk.toInt.toNat).toInt.toNat)), (3, .int (F 33 (F 6 xk.toInt.toNat).toInt.toNat)), (2, .int (0 : Int32)), (0, .ref (adr 0)), (1, .int xk)]) hx hb d_Mod_satisfied_161 hl (by decide) rfl (fun ls hl => ?_)
                refine lv_aload_n hx hb d_Mod_satisfied_163 rfl (lv_at hl 3 rfl) ?_
                refine m_gr hx hb hK hown hP 5 (by decide) t_742 d_Mod_satisfied_164 ?_
                refine lv_iload_n hx hb d_Mod_satisfied_167 rfl (lv_at hl 4 rfl) ?_
                refine m_ld hx hb hK hP 5 (by decide) (xk.toInt.toNat) hxk (by omega) (show xk.toInt.toNat < 12 by omega) d_Mod_satisfied_168 (fun z_56 ez_56 => ?_)
                subst ez_56
                refine lv_bipush (v := 7) hx hb d_Mod_satisfied_169 (by decide) ?_
                refine b_icmp_le (tgt := 188) hx hb d_Mod_satisfied_171 (by decide) rfl kc_7 (fun c_57 => ?_) (fun c_57 => ?_)
                · refine lv_aload_n hx hb d_Mod_satisfied_188 rfl (lv_at hl 3 rfl) ?_
                  refine m_gr hx hb hK hown hP 5 (by decide) t_742 d_Mod_satisfied_189 ?_
                  refine lv_iload_n hx hb d_Mod_satisfied_192 rfl (lv_at hl 4 rfl) ?_
                  refine m_ld hx hb hK hP 5 (by decide) (xk.toInt.toNat) hxk (by omega) (show xk.toInt.toNat < 12 by omega) d_Mod_satisfied_193 (fun z_58 ez_58 => ?_)
                  subst ez_58
                  refine lv_iconst (v := 5) hx hb d_Mod_satisfied_194 (by decide) ?_
                  refine b_icmp_ne (tgt := 217) hx hb d_Mod_satisfied_195 (by decide) rfl kc_5 (fun c_59 => ?_) (fun c_59 => ?_)
                  · have hV3 := hV3 (by omega) (by omega) (by omega)
                    refine lv_aload_n hx hb d_Mod_satisfied_217 rfl (lv_at hl 3 rfl) ?_
                    refine m_gr hx hb hK hown hP 33 (by decide) t_770 d_Mod_satisfied_218 ?_
                    refine lv_aload_n hx hb d_Mod_satisfied_221 rfl (lv_at hl 3 rfl) ?_
                    refine m_gr hx hb hK hown hP 8 (by decide) t_745 d_Mod_satisfied_222 ?_
                    refine lv_iload_n hx hb d_Mod_satisfied_225 rfl (lv_at hl 4 rfl) ?_
                    refine m_ld hx hb hK hP 8 (by decide) (xk.toInt.toNat) hxk (by omega) (show xk.toInt.toNat < 12 by omega) d_Mod_satisfied_226 (fun z_60 ez_60 => ?_)
                    subst ez_60
                    have hix_61 : (F 8 xk.toInt.toNat).toInt = ((F 8 xk.toInt.toNat).toInt.toNat : Int) := by omega
                    refine m_ld hx hb hK hP 33 (by decide) ((F 8 xk.toInt.toNat).toInt.toNat) hix_61 (by omega) (show (F 8 xk.toInt.toNat).toInt.toNat < 10 by omega) d_Mod_satisfied_227 (fun z_62 ez_62 => ?_)
                    subst ez_62
                    have hst_63 := hset (F 8 xk.toInt.toNat).toInt.toNat (by omega)
                    refine lv_istore (lv' := [(5, .int (F 33 (F 8 xk.toInt.toNat).toInt.toNat)), (4, .int (F 33 (F 7 xk.toInt.toNat).toInt.toNat)), (3, .int (F 33 (F 6 xk.toInt.toNat).toInt.toNat)), (2, .int (0 : Int32)), (0, .ref (adr 0)), (1, .int xk)]) hx hb d_Mod_satisfied_228 hl (by decide) rfl (fun ls hl => ?_)
                    refine lv_aload_n hx hb d_Mod_satisfied_230 rfl (lv_at hl 4 rfl) ?_
                    refine m_gr hx hb hK hown hP 5 (by decide) t_742 d_Mod_satisfied_231 ?_
                    refine lv_iload_n hx hb d_Mod_satisfied_234 rfl (lv_at hl 5 rfl) ?_
                    refine m_ld hx hb hK hP 5 (by decide) (xk.toInt.toNat) hxk (by omega) (show xk.toInt.toNat < 12 by omega) d_Mod_satisfied_235 (fun z_64 ez_64 => ?_)
                    subst ez_64
                    refine lv_bipush (v := 6) hx hb d_Mod_satisfied_236 (by decide) ?_
                    refine b_icmp_ne (tgt := 261) hx hb d_Mod_satisfied_238 (by decide) rfl kc_6 (fun c_65 => ?_) (fun c_65 => ?_)
                    · refine lv_aload_n hx hb d_Mod_satisfied_261 rfl (lv_at hl 4 rfl) ?_
                      refine m_gr hx hb hK hown hP 5 (by decide) t_742 d_Mod_satisfied_262 ?_
                      refine lv_iload_n hx hb d_Mod_satisfied_265 rfl (lv_at hl 5 rfl) ?_
                      refine m_ld hx hb hK hP 5 (by decide) (xk.toInt.toNat) hxk (by omega) (show xk.toInt.toNat < 12 by omega) d_Mod_satisfied_266 (fun z_66 ez_66 => ?_)
                      subst ez_66
                      refine lv_iload_n hx hb d_Mod_satisfied_267 rfl (lv_at hl 2 rfl) ?_
                      refine lv_iload hx hb d_Mod_satisfied_268 (lv_at hl 1 rfl) ?_
                      refine r_Mod_thirdOf hx hb hml hown hK hl.1 hS ⟨Nat.le_of_ble_eq_true rfl, Nat.le_of_ble_eq_true rfl⟩ ⟨Nat.le_of_ble_eq_true rfl, Nat.le_of_ble_eq_true rfl⟩ rfl rfl rfl (by omega) (by omega) d_Mod_satisfied_270 (Nat.le_of_ble_eq_true rfl) (fun z_67 locs tz_67 hS => ?_)
                      refine lv_iload hx hb d_Mod_satisfied_273 (lv_at hl 0 rfl) ?_
                      refine b_icmp_ne (tgt := 282) hx hb d_Mod_satisfied_275 (by decide) tz_67 rfl (fun c_68 => ?_) (fun c_68 => ?_)
                      · refine lv_iconst (v := 0) hx hb d_Mod_satisfied_282 (by decide) ?_
                        refine W.eq (g2 := F0 m 283 ls [.int (bi false)]) rfl ?_
                        refine e_z hx hb hr hlk hQ hS d_Mod_satisfied_283 ?_
                        refine ⟨false, rfl, ?_, (va_up I 0 (0 : Int32)), F, ch, rfl, hch, ⟨⟨rfl, rfl, rfl, rfl, rfl, rfl, rfl⟩, fun _ _ _ _ _ _ _ _ => rfl, fun _ _ => ⟨rfl, rfl⟩⟩, hP⟩
                        rw [show (0 ≤ xk.toInt ∧ xk.toInt < mm ∧ SatR (I 32).toInt F xk.toInt.toNat) ↔ SatR (I 32).toInt F xk.toInt.toNat from ⟨fun h => h.2.2, fun h => ⟨by omega, by omega, h⟩⟩]
                        unfold SatR
                        rw [if_neg (by omega)]
                        rw [and_iff_right (show (F 6 xk.toInt.toNat).toInt < (I 32).toInt ∧ (F 7 xk.toInt.toNat).toInt < (I 32).toInt ∧ ((F 5 xk.toInt.toNat).toInt ≠ 5 → (F 5 xk.toInt.toNat).toInt ≠ 8 → (F 8 xk.toInt.toNat).toInt < (I 32).toInt) from ⟨by omega, by omega, fun _ _ => by omega⟩)]
                        rw [if_neg (by omega)]
                        rw [if_neg (by omega)]
                        have hz8 := hset (F 8 xk.toInt.toNat).toInt.toNat (by omega)
                        rw [R3_third (by omega) (by omega) (by omega) hz8, show (((F 5 xk.toInt.toNat).toInt.toNat : Nat) : Int) = (F 5 xk.toInt.toNat).toInt by omega]
                        exact ⟨fun h => absurd h (by decide), fun h => absurd h c_68⟩
                      · refine lv_iconst (v := 1) hx hb d_Mod_satisfied_278 (by decide) ?_
                        refine lv_goto (tgt := 283) hx hb d_Mod_satisfied_279 (by decide) ?_
                        refine W.eq (g2 := F0 m 283 ls [.int (bi true)]) rfl ?_
                        refine e_z hx hb hr hlk hQ hS d_Mod_satisfied_283 ?_
                        refine ⟨true, rfl, ?_, (va_up I 0 (0 : Int32)), F, ch, rfl, hch, ⟨⟨rfl, rfl, rfl, rfl, rfl, rfl, rfl⟩, fun _ _ _ _ _ _ _ _ => rfl, fun _ _ => ⟨rfl, rfl⟩⟩, hP⟩
                        rw [show (0 ≤ xk.toInt ∧ xk.toInt < mm ∧ SatR (I 32).toInt F xk.toInt.toNat) ↔ SatR (I 32).toInt F xk.toInt.toNat from ⟨fun h => h.2.2, fun h => ⟨by omega, by omega, h⟩⟩]
                        unfold SatR
                        rw [if_neg (by omega)]
                        rw [and_iff_right (show (F 6 xk.toInt.toNat).toInt < (I 32).toInt ∧ (F 7 xk.toInt.toNat).toInt < (I 32).toInt ∧ ((F 5 xk.toInt.toNat).toInt ≠ 5 → (F 5 xk.toInt.toNat).toInt ≠ 8 → (F 8 xk.toInt.toNat).toInt < (I 32).toInt) from ⟨by omega, by omega, fun _ _ => by omega⟩)]
                        rw [if_neg (by omega)]
                        rw [if_neg (by omega)]
                        have hz8 := hset (F 8 xk.toInt.toNat).toInt.toNat (by omega)
                        rw [R3_third (by omega) (by omega) (by omega) hz8, show (((F 5 xk.toInt.toNat).toInt.toNat : Nat) : Int) = (F 5 xk.toInt.toNat).toInt by omega]
                        exact ⟨fun _ => c_68, fun _ => rfl⟩
                    · refine lv_iload_n hx hb d_Mod_satisfied_241 rfl (lv_at hl 2 rfl) ?_
                      refine lv_iconst (v := 1) hx hb d_Mod_satisfied_242 (by decide) ?_
                      refine b_icmp_lt (tgt := 253) hx hb d_Mod_satisfied_243 (by decide) rfl kc_1 (fun c_69 => ?_) (fun c_69 => ?_)
                      · refine lv_iconst (v := 1) hx hb d_Mod_satisfied_253 (by decide) ?_
                        refine lv_goto (tgt := 283) hx hb d_Mod_satisfied_254 (by decide) ?_
                        refine W.eq (g2 := F0 m 283 ls [.int (bi true)]) rfl ?_
                        refine e_z hx hb hr hlk hQ hS d_Mod_satisfied_283 ?_
                        refine ⟨true, rfl, ?_, (va_up I 0 (0 : Int32)), F, ch, rfl, hch, ⟨⟨rfl, rfl, rfl, rfl, rfl, rfl, rfl⟩, fun _ _ _ _ _ _ _ _ => rfl, fun _ _ => ⟨rfl, rfl⟩⟩, hP⟩
                        rw [show (0 ≤ xk.toInt ∧ xk.toInt < mm ∧ SatR (I 32).toInt F xk.toInt.toNat) ↔ SatR (I 32).toInt F xk.toInt.toNat from ⟨fun h => h.2.2, fun h => ⟨by omega, by omega, h⟩⟩]
                        unfold SatR
                        rw [if_neg (by omega)]
                        rw [and_iff_right (show (F 6 xk.toInt.toNat).toInt < (I 32).toInt ∧ (F 7 xk.toInt.toNat).toInt < (I 32).toInt ∧ ((F 5 xk.toInt.toNat).toInt ≠ 5 → (F 5 xk.toInt.toNat).toInt ≠ 8 → (F 8 xk.toInt.toNat).toInt < (I 32).toInt) from ⟨by omega, by omega, fun _ _ => by omega⟩)]
                        rw [if_neg (by omega)]
                        rw [if_neg (by omega)]
                        have hz8 := hset (F 8 xk.toInt.toNat).toInt.toNat (by omega)
                        rw [show (F 5 xk.toInt.toNat).toInt.toNat = 6 by omega]
                        show _ ↔ (_ < 1 ∨ _ ≤ _)
                        exact ⟨fun _ => by omega, fun _ => rfl⟩
                      · refine lv_iload hx hb d_Mod_satisfied_246 (lv_at hl 1 rfl) ?_
                        refine lv_iload hx hb d_Mod_satisfied_248 (lv_at hl 0 rfl) ?_
                        refine b_icmp_gt (tgt := 257) hx hb d_Mod_satisfied_250 (by decide) rfl rfl (fun c_70 => ?_) (fun c_70 => ?_)
                        · refine lv_iconst (v := 0) hx hb d_Mod_satisfied_257 (by decide) ?_
                          refine lv_goto (tgt := 283) hx hb d_Mod_satisfied_258 (by decide) ?_
                          refine W.eq (g2 := F0 m 283 ls [.int (bi false)]) rfl ?_
                          refine e_z hx hb hr hlk hQ hS d_Mod_satisfied_283 ?_
                          refine ⟨false, rfl, ?_, (va_up I 0 (0 : Int32)), F, ch, rfl, hch, ⟨⟨rfl, rfl, rfl, rfl, rfl, rfl, rfl⟩, fun _ _ _ _ _ _ _ _ => rfl, fun _ _ => ⟨rfl, rfl⟩⟩, hP⟩
                          rw [show (0 ≤ xk.toInt ∧ xk.toInt < mm ∧ SatR (I 32).toInt F xk.toInt.toNat) ↔ SatR (I 32).toInt F xk.toInt.toNat from ⟨fun h => h.2.2, fun h => ⟨by omega, by omega, h⟩⟩]
                          unfold SatR
                          rw [if_neg (by omega)]
                          rw [and_iff_right (show (F 6 xk.toInt.toNat).toInt < (I 32).toInt ∧ (F 7 xk.toInt.toNat).toInt < (I 32).toInt ∧ ((F 5 xk.toInt.toNat).toInt ≠ 5 → (F 5 xk.toInt.toNat).toInt ≠ 8 → (F 8 xk.toInt.toNat).toInt < (I 32).toInt) from ⟨by omega, by omega, fun _ _ => by omega⟩)]
                          rw [if_neg (by omega)]
                          rw [if_neg (by omega)]
                          have hz8 := hset (F 8 xk.toInt.toNat).toInt.toNat (by omega)
                          rw [show (F 5 xk.toInt.toNat).toInt.toNat = 6 by omega]
                          show _ ↔ (_ < 1 ∨ _ ≤ _)
                          exact ⟨fun h => absurd h (by decide), fun h => by omega⟩
                        · refine lv_iconst (v := 1) hx hb d_Mod_satisfied_253 (by decide) ?_
                          refine lv_goto (tgt := 283) hx hb d_Mod_satisfied_254 (by decide) ?_
                          refine W.eq (g2 := F0 m 283 ls [.int (bi true)]) rfl ?_
                          refine e_z hx hb hr hlk hQ hS d_Mod_satisfied_283 ?_
                          refine ⟨true, rfl, ?_, (va_up I 0 (0 : Int32)), F, ch, rfl, hch, ⟨⟨rfl, rfl, rfl, rfl, rfl, rfl, rfl⟩, fun _ _ _ _ _ _ _ _ => rfl, fun _ _ => ⟨rfl, rfl⟩⟩, hP⟩
                          rw [show (0 ≤ xk.toInt ∧ xk.toInt < mm ∧ SatR (I 32).toInt F xk.toInt.toNat) ↔ SatR (I 32).toInt F xk.toInt.toNat from ⟨fun h => h.2.2, fun h => ⟨by omega, by omega, h⟩⟩]
                          unfold SatR
                          rw [if_neg (by omega)]
                          rw [and_iff_right (show (F 6 xk.toInt.toNat).toInt < (I 32).toInt ∧ (F 7 xk.toInt.toNat).toInt < (I 32).toInt ∧ ((F 5 xk.toInt.toNat).toInt ≠ 5 → (F 5 xk.toInt.toNat).toInt ≠ 8 → (F 8 xk.toInt.toNat).toInt < (I 32).toInt) from ⟨by omega, by omega, fun _ _ => by omega⟩)]
                          rw [if_neg (by omega)]
                          rw [if_neg (by omega)]
                          have hz8 := hset (F 8 xk.toInt.toNat).toInt.toNat (by omega)
                          rw [show (F 5 xk.toInt.toNat).toInt.toNat = 6 by omega]
                          show _ ↔ (_ < 1 ∨ _ ≤ _)
                          exact ⟨fun _ => by omega, fun _ => rfl⟩
                  · have hV5 := hV5 (by omega)
                    refine lv_iload_n hx hb d_Mod_satisfied_198 rfl (lv_at hl 1 rfl) ?_
                    refine lv_aload_n hx hb d_Mod_satisfied_199 rfl (lv_at hl 3 rfl) ?_
                    refine m_gr hx hb hK hown hP 8 (by decide) t_745 d_Mod_satisfied_200 ?_
                    refine lv_iload_n hx hb d_Mod_satisfied_203 rfl (lv_at hl 4 rfl) ?_
                    refine m_ld hx hb hK hP 8 (by decide) (xk.toInt.toNat) hxk (by omega) (show xk.toInt.toNat < 12 by omega) d_Mod_satisfied_204 (fun z_71 ez_71 => ?_)
                    subst ez_71
                    refine x_add hx hb d_Mod_satisfied_205 rfl rfl (by omega) (fun z_72 tz_72 => ?_)
                    refine lv_iload hx hb d_Mod_satisfied_206 (lv_at hl 0 rfl) ?_
                    refine b_icmp_gt (tgt := 215) hx hb d_Mod_satisfied_208 (by decide) tz_72 rfl (fun c_73 => ?_) (fun c_73 => ?_)
                    · refine lv_iconst (v := 0) hx hb d_Mod_satisfied_215 (by decide) ?_
                      refine W.eq (g2 := F0 m 216 ls [.int (bi false)]) rfl ?_
                      refine e_z hx hb hr hlk hQ hS d_Mod_satisfied_216 ?_
                      refine ⟨false, rfl, ?_, (va_up I 0 (0 : Int32)), F, ch, rfl, hch, ⟨⟨rfl, rfl, rfl, rfl, rfl, rfl, rfl⟩, fun _ _ _ _ _ _ _ _ => rfl, fun _ _ => ⟨rfl, rfl⟩⟩, hP⟩
                      rw [show (0 ≤ xk.toInt ∧ xk.toInt < mm ∧ SatR (I 32).toInt F xk.toInt.toNat) ↔ SatR (I 32).toInt F xk.toInt.toNat from ⟨fun h => h.2.2, fun h => ⟨by omega, by omega, h⟩⟩]
                      unfold SatR
                      rw [if_neg (by omega)]
                      rw [and_iff_right (show (F 6 xk.toInt.toNat).toInt < (I 32).toInt ∧ (F 7 xk.toInt.toNat).toInt < (I 32).toInt ∧ ((F 5 xk.toInt.toNat).toInt ≠ 5 → (F 5 xk.toInt.toNat).toInt ≠ 8 → (F 8 xk.toInt.toNat).toInt < (I 32).toInt) from ⟨by omega, by omega, fun _ _ => by omega⟩)]
                      rw [if_neg (by omega)]
                      rw [if_pos (by omega)]
                      exact ⟨fun h => absurd h (by decide), fun h => by omega⟩
                    · refine lv_iconst (v := 1) hx hb d_Mod_satisfied_211 (by decide) ?_
                      refine lv_goto (tgt := 216) hx hb d_Mod_satisfied_212 (by decide) ?_
                      refine W.eq (g2 := F0 m 216 ls [.int (bi true)]) rfl ?_
                      refine e_z hx hb hr hlk hQ hS d_Mod_satisfied_216 ?_
                      refine ⟨true, rfl, ?_, (va_up I 0 (0 : Int32)), F, ch, rfl, hch, ⟨⟨rfl, rfl, rfl, rfl, rfl, rfl, rfl⟩, fun _ _ _ _ _ _ _ _ => rfl, fun _ _ => ⟨rfl, rfl⟩⟩, hP⟩
                      rw [show (0 ≤ xk.toInt ∧ xk.toInt < mm ∧ SatR (I 32).toInt F xk.toInt.toNat) ↔ SatR (I 32).toInt F xk.toInt.toNat from ⟨fun h => h.2.2, fun h => ⟨by omega, by omega, h⟩⟩]
                      unfold SatR
                      rw [if_neg (by omega)]
                      rw [and_iff_right (show (F 6 xk.toInt.toNat).toInt < (I 32).toInt ∧ (F 7 xk.toInt.toNat).toInt < (I 32).toInt ∧ ((F 5 xk.toInt.toNat).toInt ≠ 5 → (F 5 xk.toInt.toNat).toInt ≠ 8 → (F 8 xk.toInt.toNat).toInt < (I 32).toInt) from ⟨by omega, by omega, fun _ _ => by omega⟩)]
                      rw [if_neg (by omega)]
                      rw [if_pos (by omega)]
                      exact ⟨fun _ => by omega, fun _ => rfl⟩
                · have hV8 := hV8 (by omega)
                  have hrws := hW.2.2.2.2.1 (F 8 xk.toInt.toNat).toInt.toNat (by omega)
                  have hcnt : (F 10 (F 8 xk.toInt.toNat).toInt.toNat).toInt = ((F 10 (F 8 xk.toInt.toNat).toInt.toNat).toInt.toNat : Int) := by have := hrws.1; omega
                  refine lv_aload_n hx hb d_Mod_satisfied_174 rfl (lv_at hl 3 rfl) ?_
                  refine lv_aload_n hx hb d_Mod_satisfied_175 rfl (lv_at hl 3 rfl) ?_
                  refine m_gr hx hb hK hown hP 8 (by decide) t_745 d_Mod_satisfied_176 ?_
                  refine lv_iload_n hx hb d_Mod_satisfied_179 rfl (lv_at hl 4 rfl) ?_
                  refine m_ld hx hb hK hP 8 (by decide) (xk.toInt.toNat) hxk (by omega) (show xk.toInt.toNat < 12 by omega) d_Mod_satisfied_180 (fun z_74 ez_74 => ?_)
                  subst ez_74
                  have hix_75 : (F 8 xk.toInt.toNat).toInt = ((F 8 xk.toInt.toNat).toInt.toNat : Int) := by omega
                  refine lv_iload_n hx hb d_Mod_satisfied_181 rfl (lv_at hl 1 rfl) ?_
                  refine lv_iload hx hb d_Mod_satisfied_182 (lv_at hl 0 rfl) ?_
                  refine x_V (As := [.int (F 8 (xk.toInt.toNat)), .int (F 33 (F 6 xk.toInt.toNat).toInt.toNat), .int (F 33 (F 7 xk.toInt.toNat).toInt.toNat)]) (rest := []) hx hb hml hown hK (k_Mod_isRow l D cA adr hi (va_up I 0 (0 : Int32)) F (F 8 xk.toInt.toNat).toInt.toNat (F 10 (F 8 xk.toInt.toNat).toInt.toNat).toInt.toNat (F 8 (xk.toInt.toNat)) (F 33 (F 6 xk.toInt.toNat).toInt.toNat) (F 33 (F 7 xk.toInt.toNat).toInt.toNat) (by omega) (by omega) hcnt (by omega)) t_1053 t_4 t_1050 t_1052 ts_41 yk_Mod_isRow ⟨Nat.le_of_ble_eq_true rfl, Nat.le_of_ble_eq_true rfl⟩ (m_rec hK hP) hP rfl hl.1 rfl (Nat.le_of_ble_eq_true rfl) d_Mod_satisfied_184 ⟨Nat.le_of_ble_eq_true rfl, Nat.le_of_ble_eq_true rfl⟩ hS (fun q h => h) (fun r H locs hq _ hS => ?_)
                  obtain ⟨q_76, rfl, hq_76, hP⟩ := hq
                  refine W.eq (g2 := F0 m 187 ls [.int (bi q_76)]) rfl ?_
                  refine e_z hx hb hr hlk hQ hS d_Mod_satisfied_187 ?_
                  refine ⟨q_76, rfl, ?_, (va_up I 0 (0 : Int32)), F, ch, rfl, hch, ⟨⟨rfl, rfl, rfl, rfl, rfl, rfl, rfl⟩, fun _ _ _ _ _ _ _ _ => rfl, fun _ _ => ⟨rfl, rfl⟩⟩, hP⟩
                  rw [show (0 ≤ xk.toInt ∧ xk.toInt < mm ∧ SatR (I 32).toInt F xk.toInt.toNat) ↔ SatR (I 32).toInt F xk.toInt.toNat from ⟨fun h => h.2.2, fun h => ⟨by omega, by omega, h⟩⟩]
                  unfold SatR
                  rw [if_neg (by omega)]
                  rw [and_iff_right (show (F 6 xk.toInt.toNat).toInt < (I 32).toInt ∧ (F 7 xk.toInt.toNat).toInt < (I 32).toInt ∧ ((F 5 xk.toInt.toNat).toInt ≠ 5 → (F 5 xk.toInt.toNat).toInt ≠ 8 → (F 8 xk.toInt.toNat).toInt < (I 32).toInt) from ⟨by omega, by omega, fun _ _ => by omega⟩)]
                  rw [if_pos (by omega)]; exact hq_76
              · exact absurd rfl c_47
        · refine lv_iconst (v := 1) hx hb d_Mod_satisfied_87 (by decide) ?_
          refine lv_goto (tgt := 92) hx hb d_Mod_satisfied_88 (by decide) ?_
          refine lv_istore_n (lv' := [(2, .int (1 : Int32)), (0, .ref (adr 0)), (1, .int xk)]) hx hb d_Mod_satisfied_92 rfl hl (by decide) rfl (fun ls hl => ?_)
          refine lv_aload_n hx hb d_Mod_satisfied_93 rfl (lv_at hl 1 rfl) ?_
          refine m_gr hx hb hK hown hP 6 (by decide) t_743 d_Mod_satisfied_94 ?_
          refine lv_iload_n hx hb d_Mod_satisfied_97 rfl (lv_at hl 2 rfl) ?_
          refine m_ld hx hb hK hP 6 (by decide) (xk.toInt.toNat) hxk (by omega) (show xk.toInt.toNat < 12 by omega) d_Mod_satisfied_98 (fun z_77 ez_77 => ?_)
          subst ez_77
          refine lv_aload_n hx hb d_Mod_satisfied_99 rfl (lv_at hl 1 rfl) ?_
          refine m_gi (v := (I 32)) hx hb hK hown hP 32 (by decide) t_769 rfl d_Mod_satisfied_100 ?_
          refine b_icmp_ge (tgt := 136) hx hb d_Mod_satisfied_103 (by decide) rfl hsd9 (fun c_78 => ?_) (fun c_78 => ?_)
          · refine lv_iconst (v := 0) hx hb d_Mod_satisfied_136 (by decide) ?_
            refine W.eq (g2 := F0 m 137 ls [.int (bi false)]) rfl ?_
            refine e_z hx hb hr hlk hQ hS d_Mod_satisfied_137 ?_
            refine ⟨false, rfl, ?_, (va_up I 0 (0 : Int32)), F, ch, rfl, hch, ⟨⟨rfl, rfl, rfl, rfl, rfl, rfl, rfl⟩, fun _ _ _ _ _ _ _ _ => rfl, fun _ _ => ⟨rfl, rfl⟩⟩, hP⟩
            rw [show (0 ≤ xk.toInt ∧ xk.toInt < mm ∧ SatR (I 32).toInt F xk.toInt.toNat) ↔ SatR (I 32).toInt F xk.toInt.toNat from ⟨fun h => h.2.2, fun h => ⟨by omega, by omega, h⟩⟩]
            unfold SatR
            rw [if_neg (by omega)]
            refine ⟨fun h => absurd h (by decide), fun h => ?_⟩
            obtain ⟨⟨h1, h2, h3⟩, _⟩ := h; omega
          · refine lv_aload_n hx hb d_Mod_satisfied_106 rfl (lv_at hl 1 rfl) ?_
            refine m_gr hx hb hK hown hP 7 (by decide) t_744 d_Mod_satisfied_107 ?_
            refine lv_iload_n hx hb d_Mod_satisfied_110 rfl (lv_at hl 2 rfl) ?_
            refine m_ld hx hb hK hP 7 (by decide) (xk.toInt.toNat) hxk (by omega) (show xk.toInt.toNat < 12 by omega) d_Mod_satisfied_111 (fun z_79 ez_79 => ?_)
            subst ez_79
            refine lv_aload_n hx hb d_Mod_satisfied_112 rfl (lv_at hl 1 rfl) ?_
            refine m_gi (v := (I 32)) hx hb hK hown hP 32 (by decide) t_769 rfl d_Mod_satisfied_113 ?_
            refine b_icmp_ge (tgt := 136) hx hb d_Mod_satisfied_116 (by decide) rfl hsd9 (fun c_80 => ?_) (fun c_80 => ?_)
            · refine lv_iconst (v := 0) hx hb d_Mod_satisfied_136 (by decide) ?_
              refine W.eq (g2 := F0 m 137 ls [.int (bi false)]) rfl ?_
              refine e_z hx hb hr hlk hQ hS d_Mod_satisfied_137 ?_
              refine ⟨false, rfl, ?_, (va_up I 0 (0 : Int32)), F, ch, rfl, hch, ⟨⟨rfl, rfl, rfl, rfl, rfl, rfl, rfl⟩, fun _ _ _ _ _ _ _ _ => rfl, fun _ _ => ⟨rfl, rfl⟩⟩, hP⟩
              rw [show (0 ≤ xk.toInt ∧ xk.toInt < mm ∧ SatR (I 32).toInt F xk.toInt.toNat) ↔ SatR (I 32).toInt F xk.toInt.toNat from ⟨fun h => h.2.2, fun h => ⟨by omega, by omega, h⟩⟩]
              unfold SatR
              rw [if_neg (by omega)]
              refine ⟨fun h => absurd h (by decide), fun h => ?_⟩
              obtain ⟨⟨h1, h2, h3⟩, _⟩ := h; omega
            · refine lv_iload_n hx hb d_Mod_satisfied_119 rfl (lv_at hl 0 rfl) ?_
              refine b_if_eq (tgt := 138) hx hb d_Mod_satisfied_120 (by decide) kc_1 (fun c_81 => ?_) (fun c_81 => ?_)
              · exact absurd c_81 (by decide)
              · refine lv_aload_n hx hb d_Mod_satisfied_123 rfl (lv_at hl 1 rfl) ?_
                refine m_gr hx hb hK hown hP 8 (by decide) t_745 d_Mod_satisfied_124 ?_
                refine lv_iload_n hx hb d_Mod_satisfied_127 rfl (lv_at hl 2 rfl) ?_
                refine m_ld hx hb hK hP 8 (by decide) (xk.toInt.toNat) hxk (by omega) (show xk.toInt.toNat < 12 by omega) d_Mod_satisfied_128 (fun z_82 ez_82 => ?_)
                subst ez_82
                refine lv_aload_n hx hb d_Mod_satisfied_129 rfl (lv_at hl 1 rfl) ?_
                refine m_gi (v := (I 32)) hx hb hK hown hP 32 (by decide) t_769 rfl d_Mod_satisfied_130 ?_
                refine b_icmp_lt (tgt := 138) hx hb d_Mod_satisfied_133 (by decide) rfl hsd9 (fun c_83 => ?_) (fun c_83 => ?_)
                · refine lv_aload_n hx hb d_Mod_satisfied_138 rfl (lv_at hl 1 rfl) ?_
                  refine m_gr hx hb hK hown hP 33 (by decide) t_770 d_Mod_satisfied_139 ?_
                  refine lv_aload_n hx hb d_Mod_satisfied_142 rfl (lv_at hl 1 rfl) ?_
                  refine m_gr hx hb hK hown hP 6 (by decide) t_743 d_Mod_satisfied_143 ?_
                  refine lv_iload_n hx hb d_Mod_satisfied_146 rfl (lv_at hl 2 rfl) ?_
                  refine m_ld hx hb hK hP 6 (by decide) (xk.toInt.toNat) hxk (by omega) (show xk.toInt.toNat < 12 by omega) d_Mod_satisfied_147 (fun z_84 ez_84 => ?_)
                  subst ez_84
                  have hix_85 : (F 6 xk.toInt.toNat).toInt = ((F 6 xk.toInt.toNat).toInt.toNat : Int) := by omega
                  refine m_ld hx hb hK hP 33 (by decide) ((F 6 xk.toInt.toNat).toInt.toNat) hix_85 (by omega) (show (F 6 xk.toInt.toNat).toInt.toNat < 10 by omega) d_Mod_satisfied_148 (fun z_86 ez_86 => ?_)
                  subst ez_86
                  have hst_87 := hset (F 6 xk.toInt.toNat).toInt.toNat (by omega)
                  refine lv_istore_n (lv' := [(3, .int (F 33 (F 6 xk.toInt.toNat).toInt.toNat)), (2, .int (1 : Int32)), (0, .ref (adr 0)), (1, .int xk)]) hx hb d_Mod_satisfied_149 rfl hl (by decide) rfl (fun ls hl => ?_)
                  refine lv_aload_n hx hb d_Mod_satisfied_150 rfl (lv_at hl 2 rfl) ?_
                  refine m_gr hx hb hK hown hP 33 (by decide) t_770 d_Mod_satisfied_151 ?_
                  refine lv_aload_n hx hb d_Mod_satisfied_154 rfl (lv_at hl 2 rfl) ?_
                  refine m_gr hx hb hK hown hP 7 (by decide) t_744 d_Mod_satisfied_155 ?_
                  refine lv_iload_n hx hb d_Mod_satisfied_158 rfl (lv_at hl 3 rfl) ?_
                  refine m_ld hx hb hK hP 7 (by decide) (xk.toInt.toNat) hxk (by omega) (show xk.toInt.toNat < 12 by omega) d_Mod_satisfied_159 (fun z_88 ez_88 => ?_)
                  subst ez_88
                  have hix_89 : (F 7 xk.toInt.toNat).toInt = ((F 7 xk.toInt.toNat).toInt.toNat : Int) := by omega
                  refine m_ld hx hb hK hP 33 (by decide) ((F 7 xk.toInt.toNat).toInt.toNat) hix_89 (by omega) (show (F 7 xk.toInt.toNat).toInt.toNat < 10 by omega) d_Mod_satisfied_160 (fun z_90 ez_90 => ?_)
                  subst ez_90
                  have hst_91 := hset (F 7 xk.toInt.toNat).toInt.toNat (by omega)
                  refine lv_istore (lv' := [(4, .int (F 33 (F 7 xk.toInt.toNat).toInt.toNat)), (3, .int (F 33 (F 6 xk.toInt.toNat).toInt.toNat)), (2, .int (1 : Int32)), (0, .ref (adr 0)), (1, .int xk)]) hx hb d_Mod_satisfied_161 hl (by decide) rfl (fun ls hl => ?_)
                  refine lv_aload_n hx hb d_Mod_satisfied_163 rfl (lv_at hl 3 rfl) ?_
                  refine m_gr hx hb hK hown hP 5 (by decide) t_742 d_Mod_satisfied_164 ?_
                  refine lv_iload_n hx hb d_Mod_satisfied_167 rfl (lv_at hl 4 rfl) ?_
                  refine m_ld hx hb hK hP 5 (by decide) (xk.toInt.toNat) hxk (by omega) (show xk.toInt.toNat < 12 by omega) d_Mod_satisfied_168 (fun z_92 ez_92 => ?_)
                  subst ez_92
                  refine lv_bipush (v := 7) hx hb d_Mod_satisfied_169 (by decide) ?_
                  refine b_icmp_le (tgt := 188) hx hb d_Mod_satisfied_171 (by decide) rfl kc_7 (fun c_93 => ?_) (fun c_93 => ?_)
                  · refine lv_aload_n hx hb d_Mod_satisfied_188 rfl (lv_at hl 3 rfl) ?_
                    refine m_gr hx hb hK hown hP 5 (by decide) t_742 d_Mod_satisfied_189 ?_
                    refine lv_iload_n hx hb d_Mod_satisfied_192 rfl (lv_at hl 4 rfl) ?_
                    refine m_ld hx hb hK hP 5 (by decide) (xk.toInt.toNat) hxk (by omega) (show xk.toInt.toNat < 12 by omega) d_Mod_satisfied_193 (fun z_94 ez_94 => ?_)
                    subst ez_94
                    refine lv_iconst (v := 5) hx hb d_Mod_satisfied_194 (by decide) ?_
                    refine b_icmp_ne (tgt := 217) hx hb d_Mod_satisfied_195 (by decide) rfl kc_5 (fun c_95 => ?_) (fun c_95 => ?_)
                    · have hV3 := hV3 (by omega) (by omega) (by omega)
                      refine lv_aload_n hx hb d_Mod_satisfied_217 rfl (lv_at hl 3 rfl) ?_
                      refine m_gr hx hb hK hown hP 33 (by decide) t_770 d_Mod_satisfied_218 ?_
                      refine lv_aload_n hx hb d_Mod_satisfied_221 rfl (lv_at hl 3 rfl) ?_
                      refine m_gr hx hb hK hown hP 8 (by decide) t_745 d_Mod_satisfied_222 ?_
                      refine lv_iload_n hx hb d_Mod_satisfied_225 rfl (lv_at hl 4 rfl) ?_
                      refine m_ld hx hb hK hP 8 (by decide) (xk.toInt.toNat) hxk (by omega) (show xk.toInt.toNat < 12 by omega) d_Mod_satisfied_226 (fun z_96 ez_96 => ?_)
                      subst ez_96
                      have hix_97 : (F 8 xk.toInt.toNat).toInt = ((F 8 xk.toInt.toNat).toInt.toNat : Int) := by omega
                      refine m_ld hx hb hK hP 33 (by decide) ((F 8 xk.toInt.toNat).toInt.toNat) hix_97 (by omega) (show (F 8 xk.toInt.toNat).toInt.toNat < 10 by omega) d_Mod_satisfied_227 (fun z_98 ez_98 => ?_)
                      subst ez_98
                      have hst_99 := hset (F 8 xk.toInt.toNat).toInt.toNat (by omega)
                      refine lv_istore (lv' := [(5, .int (F 33 (F 8 xk.toInt.toNat).toInt.toNat)), (4, .int (F 33 (F 7 xk.toInt.toNat).toInt.toNat)), (3, .int (F 33 (F 6 xk.toInt.toNat).toInt.toNat)), (2, .int (1 : Int32)), (0, .ref (adr 0)), (1, .int xk)]) hx hb d_Mod_satisfied_228 hl (by decide) rfl (fun ls hl => ?_)
                      refine lv_aload_n hx hb d_Mod_satisfied_230 rfl (lv_at hl 4 rfl) ?_
                      refine m_gr hx hb hK hown hP 5 (by decide) t_742 d_Mod_satisfied_231 ?_
                      refine lv_iload_n hx hb d_Mod_satisfied_234 rfl (lv_at hl 5 rfl) ?_
                      refine m_ld hx hb hK hP 5 (by decide) (xk.toInt.toNat) hxk (by omega) (show xk.toInt.toNat < 12 by omega) d_Mod_satisfied_235 (fun z_100 ez_100 => ?_)
                      subst ez_100
                      refine lv_bipush (v := 6) hx hb d_Mod_satisfied_236 (by decide) ?_
                      refine b_icmp_ne (tgt := 261) hx hb d_Mod_satisfied_238 (by decide) rfl kc_6 (fun c_101 => ?_) (fun c_101 => ?_)
                      · refine lv_aload_n hx hb d_Mod_satisfied_261 rfl (lv_at hl 4 rfl) ?_
                        refine m_gr hx hb hK hown hP 5 (by decide) t_742 d_Mod_satisfied_262 ?_
                        refine lv_iload_n hx hb d_Mod_satisfied_265 rfl (lv_at hl 5 rfl) ?_
                        refine m_ld hx hb hK hP 5 (by decide) (xk.toInt.toNat) hxk (by omega) (show xk.toInt.toNat < 12 by omega) d_Mod_satisfied_266 (fun z_102 ez_102 => ?_)
                        subst ez_102
                        refine lv_iload_n hx hb d_Mod_satisfied_267 rfl (lv_at hl 2 rfl) ?_
                        refine lv_iload hx hb d_Mod_satisfied_268 (lv_at hl 1 rfl) ?_
                        refine r_Mod_thirdOf hx hb hml hown hK hl.1 hS ⟨Nat.le_of_ble_eq_true rfl, Nat.le_of_ble_eq_true rfl⟩ ⟨Nat.le_of_ble_eq_true rfl, Nat.le_of_ble_eq_true rfl⟩ rfl rfl rfl (by omega) (by omega) d_Mod_satisfied_270 (Nat.le_of_ble_eq_true rfl) (fun z_103 locs tz_103 hS => ?_)
                        refine lv_iload hx hb d_Mod_satisfied_273 (lv_at hl 0 rfl) ?_
                        refine b_icmp_ne (tgt := 282) hx hb d_Mod_satisfied_275 (by decide) tz_103 rfl (fun c_104 => ?_) (fun c_104 => ?_)
                        · refine lv_iconst (v := 0) hx hb d_Mod_satisfied_282 (by decide) ?_
                          refine W.eq (g2 := F0 m 283 ls [.int (bi false)]) rfl ?_
                          refine e_z hx hb hr hlk hQ hS d_Mod_satisfied_283 ?_
                          refine ⟨false, rfl, ?_, (va_up I 0 (0 : Int32)), F, ch, rfl, hch, ⟨⟨rfl, rfl, rfl, rfl, rfl, rfl, rfl⟩, fun _ _ _ _ _ _ _ _ => rfl, fun _ _ => ⟨rfl, rfl⟩⟩, hP⟩
                          rw [show (0 ≤ xk.toInt ∧ xk.toInt < mm ∧ SatR (I 32).toInt F xk.toInt.toNat) ↔ SatR (I 32).toInt F xk.toInt.toNat from ⟨fun h => h.2.2, fun h => ⟨by omega, by omega, h⟩⟩]
                          unfold SatR
                          rw [if_neg (by omega)]
                          rw [and_iff_right (show (F 6 xk.toInt.toNat).toInt < (I 32).toInt ∧ (F 7 xk.toInt.toNat).toInt < (I 32).toInt ∧ ((F 5 xk.toInt.toNat).toInt ≠ 5 → (F 5 xk.toInt.toNat).toInt ≠ 8 → (F 8 xk.toInt.toNat).toInt < (I 32).toInt) from ⟨by omega, by omega, fun _ _ => by omega⟩)]
                          rw [if_neg (by omega)]
                          rw [if_neg (by omega)]
                          have hz8 := hset (F 8 xk.toInt.toNat).toInt.toNat (by omega)
                          rw [R3_third (by omega) (by omega) (by omega) hz8, show (((F 5 xk.toInt.toNat).toInt.toNat : Nat) : Int) = (F 5 xk.toInt.toNat).toInt by omega]
                          exact ⟨fun h => absurd h (by decide), fun h => absurd h c_104⟩
                        · refine lv_iconst (v := 1) hx hb d_Mod_satisfied_278 (by decide) ?_
                          refine lv_goto (tgt := 283) hx hb d_Mod_satisfied_279 (by decide) ?_
                          refine W.eq (g2 := F0 m 283 ls [.int (bi true)]) rfl ?_
                          refine e_z hx hb hr hlk hQ hS d_Mod_satisfied_283 ?_
                          refine ⟨true, rfl, ?_, (va_up I 0 (0 : Int32)), F, ch, rfl, hch, ⟨⟨rfl, rfl, rfl, rfl, rfl, rfl, rfl⟩, fun _ _ _ _ _ _ _ _ => rfl, fun _ _ => ⟨rfl, rfl⟩⟩, hP⟩
                          rw [show (0 ≤ xk.toInt ∧ xk.toInt < mm ∧ SatR (I 32).toInt F xk.toInt.toNat) ↔ SatR (I 32).toInt F xk.toInt.toNat from ⟨fun h => h.2.2, fun h => ⟨by omega, by omega, h⟩⟩]
                          unfold SatR
                          rw [if_neg (by omega)]
                          rw [and_iff_right (show (F 6 xk.toInt.toNat).toInt < (I 32).toInt ∧ (F 7 xk.toInt.toNat).toInt < (I 32).toInt ∧ ((F 5 xk.toInt.toNat).toInt ≠ 5 → (F 5 xk.toInt.toNat).toInt ≠ 8 → (F 8 xk.toInt.toNat).toInt < (I 32).toInt) from ⟨by omega, by omega, fun _ _ => by omega⟩)]
                          rw [if_neg (by omega)]
                          rw [if_neg (by omega)]
                          have hz8 := hset (F 8 xk.toInt.toNat).toInt.toNat (by omega)
                          rw [R3_third (by omega) (by omega) (by omega) hz8, show (((F 5 xk.toInt.toNat).toInt.toNat : Nat) : Int) = (F 5 xk.toInt.toNat).toInt by omega]
                          exact ⟨fun _ => c_104, fun _ => rfl⟩
                      · refine lv_iload_n hx hb d_Mod_satisfied_241 rfl (lv_at hl 2 rfl) ?_
                        refine lv_iconst (v := 1) hx hb d_Mod_satisfied_242 (by decide) ?_
                        refine b_icmp_lt (tgt := 253) hx hb d_Mod_satisfied_243 (by decide) rfl kc_1 (fun c_105 => ?_) (fun c_105 => ?_)
                        · refine lv_iconst (v := 1) hx hb d_Mod_satisfied_253 (by decide) ?_
                          refine lv_goto (tgt := 283) hx hb d_Mod_satisfied_254 (by decide) ?_
                          refine W.eq (g2 := F0 m 283 ls [.int (bi true)]) rfl ?_
                          refine e_z hx hb hr hlk hQ hS d_Mod_satisfied_283 ?_
                          refine ⟨true, rfl, ?_, (va_up I 0 (0 : Int32)), F, ch, rfl, hch, ⟨⟨rfl, rfl, rfl, rfl, rfl, rfl, rfl⟩, fun _ _ _ _ _ _ _ _ => rfl, fun _ _ => ⟨rfl, rfl⟩⟩, hP⟩
                          rw [show (0 ≤ xk.toInt ∧ xk.toInt < mm ∧ SatR (I 32).toInt F xk.toInt.toNat) ↔ SatR (I 32).toInt F xk.toInt.toNat from ⟨fun h => h.2.2, fun h => ⟨by omega, by omega, h⟩⟩]
                          unfold SatR
                          rw [if_neg (by omega)]
                          rw [and_iff_right (show (F 6 xk.toInt.toNat).toInt < (I 32).toInt ∧ (F 7 xk.toInt.toNat).toInt < (I 32).toInt ∧ ((F 5 xk.toInt.toNat).toInt ≠ 5 → (F 5 xk.toInt.toNat).toInt ≠ 8 → (F 8 xk.toInt.toNat).toInt < (I 32).toInt) from ⟨by omega, by omega, fun _ _ => by omega⟩)]
                          rw [if_neg (by omega)]
                          rw [if_neg (by omega)]
                          have hz8 := hset (F 8 xk.toInt.toNat).toInt.toNat (by omega)
                          rw [show (F 5 xk.toInt.toNat).toInt.toNat = 6 by omega]
                          show _ ↔ (_ < 1 ∨ _ ≤ _)
                          exact ⟨fun _ => by omega, fun _ => rfl⟩
                        · refine lv_iload hx hb d_Mod_satisfied_246 (lv_at hl 1 rfl) ?_
                          refine lv_iload hx hb d_Mod_satisfied_248 (lv_at hl 0 rfl) ?_
                          refine b_icmp_gt (tgt := 257) hx hb d_Mod_satisfied_250 (by decide) rfl rfl (fun c_106 => ?_) (fun c_106 => ?_)
                          · refine lv_iconst (v := 0) hx hb d_Mod_satisfied_257 (by decide) ?_
                            refine lv_goto (tgt := 283) hx hb d_Mod_satisfied_258 (by decide) ?_
                            refine W.eq (g2 := F0 m 283 ls [.int (bi false)]) rfl ?_
                            refine e_z hx hb hr hlk hQ hS d_Mod_satisfied_283 ?_
                            refine ⟨false, rfl, ?_, (va_up I 0 (0 : Int32)), F, ch, rfl, hch, ⟨⟨rfl, rfl, rfl, rfl, rfl, rfl, rfl⟩, fun _ _ _ _ _ _ _ _ => rfl, fun _ _ => ⟨rfl, rfl⟩⟩, hP⟩
                            rw [show (0 ≤ xk.toInt ∧ xk.toInt < mm ∧ SatR (I 32).toInt F xk.toInt.toNat) ↔ SatR (I 32).toInt F xk.toInt.toNat from ⟨fun h => h.2.2, fun h => ⟨by omega, by omega, h⟩⟩]
                            unfold SatR
                            rw [if_neg (by omega)]
                            rw [and_iff_right (show (F 6 xk.toInt.toNat).toInt < (I 32).toInt ∧ (F 7 xk.toInt.toNat).toInt < (I 32).toInt ∧ ((F 5 xk.toInt.toNat).toInt ≠ 5 → (F 5 xk.toInt.toNat).toInt ≠ 8 → (F 8 xk.toInt.toNat).toInt < (I 32).toInt) from ⟨by omega, by omega, fun _ _ => by omega⟩)]
                            rw [if_neg (by omega)]
                            rw [if_neg (by omega)]
                            have hz8 := hset (F 8 xk.toInt.toNat).toInt.toNat (by omega)
                            rw [show (F 5 xk.toInt.toNat).toInt.toNat = 6 by omega]
                            show _ ↔ (_ < 1 ∨ _ ≤ _)
                            exact ⟨fun h => absurd h (by decide), fun h => by omega⟩
                          · refine lv_iconst (v := 1) hx hb d_Mod_satisfied_253 (by decide) ?_
                            refine lv_goto (tgt := 283) hx hb d_Mod_satisfied_254 (by decide) ?_
                            refine W.eq (g2 := F0 m 283 ls [.int (bi true)]) rfl ?_
                            refine e_z hx hb hr hlk hQ hS d_Mod_satisfied_283 ?_
                            refine ⟨true, rfl, ?_, (va_up I 0 (0 : Int32)), F, ch, rfl, hch, ⟨⟨rfl, rfl, rfl, rfl, rfl, rfl, rfl⟩, fun _ _ _ _ _ _ _ _ => rfl, fun _ _ => ⟨rfl, rfl⟩⟩, hP⟩
                            rw [show (0 ≤ xk.toInt ∧ xk.toInt < mm ∧ SatR (I 32).toInt F xk.toInt.toNat) ↔ SatR (I 32).toInt F xk.toInt.toNat from ⟨fun h => h.2.2, fun h => ⟨by omega, by omega, h⟩⟩]
                            unfold SatR
                            rw [if_neg (by omega)]
                            rw [and_iff_right (show (F 6 xk.toInt.toNat).toInt < (I 32).toInt ∧ (F 7 xk.toInt.toNat).toInt < (I 32).toInt ∧ ((F 5 xk.toInt.toNat).toInt ≠ 5 → (F 5 xk.toInt.toNat).toInt ≠ 8 → (F 8 xk.toInt.toNat).toInt < (I 32).toInt) from ⟨by omega, by omega, fun _ _ => by omega⟩)]
                            rw [if_neg (by omega)]
                            rw [if_neg (by omega)]
                            have hz8 := hset (F 8 xk.toInt.toNat).toInt.toNat (by omega)
                            rw [show (F 5 xk.toInt.toNat).toInt.toNat = 6 by omega]
                            show _ ↔ (_ < 1 ∨ _ ≤ _)
                            exact ⟨fun _ => by omega, fun _ => rfl⟩
                    · have hV5 := hV5 (by omega)
                      refine lv_iload_n hx hb d_Mod_satisfied_198 rfl (lv_at hl 1 rfl) ?_
                      refine lv_aload_n hx hb d_Mod_satisfied_199 rfl (lv_at hl 3 rfl) ?_
                      refine m_gr hx hb hK hown hP 8 (by decide) t_745 d_Mod_satisfied_200 ?_
                      refine lv_iload_n hx hb d_Mod_satisfied_203 rfl (lv_at hl 4 rfl) ?_
                      refine m_ld hx hb hK hP 8 (by decide) (xk.toInt.toNat) hxk (by omega) (show xk.toInt.toNat < 12 by omega) d_Mod_satisfied_204 (fun z_107 ez_107 => ?_)
                      subst ez_107
                      refine x_add hx hb d_Mod_satisfied_205 rfl rfl (by omega) (fun z_108 tz_108 => ?_)
                      refine lv_iload hx hb d_Mod_satisfied_206 (lv_at hl 0 rfl) ?_
                      refine b_icmp_gt (tgt := 215) hx hb d_Mod_satisfied_208 (by decide) tz_108 rfl (fun c_109 => ?_) (fun c_109 => ?_)
                      · refine lv_iconst (v := 0) hx hb d_Mod_satisfied_215 (by decide) ?_
                        refine W.eq (g2 := F0 m 216 ls [.int (bi false)]) rfl ?_
                        refine e_z hx hb hr hlk hQ hS d_Mod_satisfied_216 ?_
                        refine ⟨false, rfl, ?_, (va_up I 0 (0 : Int32)), F, ch, rfl, hch, ⟨⟨rfl, rfl, rfl, rfl, rfl, rfl, rfl⟩, fun _ _ _ _ _ _ _ _ => rfl, fun _ _ => ⟨rfl, rfl⟩⟩, hP⟩
                        rw [show (0 ≤ xk.toInt ∧ xk.toInt < mm ∧ SatR (I 32).toInt F xk.toInt.toNat) ↔ SatR (I 32).toInt F xk.toInt.toNat from ⟨fun h => h.2.2, fun h => ⟨by omega, by omega, h⟩⟩]
                        unfold SatR
                        rw [if_neg (by omega)]
                        rw [and_iff_right (show (F 6 xk.toInt.toNat).toInt < (I 32).toInt ∧ (F 7 xk.toInt.toNat).toInt < (I 32).toInt ∧ ((F 5 xk.toInt.toNat).toInt ≠ 5 → (F 5 xk.toInt.toNat).toInt ≠ 8 → (F 8 xk.toInt.toNat).toInt < (I 32).toInt) from ⟨by omega, by omega, fun _ _ => by omega⟩)]
                        rw [if_neg (by omega)]
                        rw [if_pos (by omega)]
                        exact ⟨fun h => absurd h (by decide), fun h => by omega⟩
                      · refine lv_iconst (v := 1) hx hb d_Mod_satisfied_211 (by decide) ?_
                        refine lv_goto (tgt := 216) hx hb d_Mod_satisfied_212 (by decide) ?_
                        refine W.eq (g2 := F0 m 216 ls [.int (bi true)]) rfl ?_
                        refine e_z hx hb hr hlk hQ hS d_Mod_satisfied_216 ?_
                        refine ⟨true, rfl, ?_, (va_up I 0 (0 : Int32)), F, ch, rfl, hch, ⟨⟨rfl, rfl, rfl, rfl, rfl, rfl, rfl⟩, fun _ _ _ _ _ _ _ _ => rfl, fun _ _ => ⟨rfl, rfl⟩⟩, hP⟩
                        rw [show (0 ≤ xk.toInt ∧ xk.toInt < mm ∧ SatR (I 32).toInt F xk.toInt.toNat) ↔ SatR (I 32).toInt F xk.toInt.toNat from ⟨fun h => h.2.2, fun h => ⟨by omega, by omega, h⟩⟩]
                        unfold SatR
                        rw [if_neg (by omega)]
                        rw [and_iff_right (show (F 6 xk.toInt.toNat).toInt < (I 32).toInt ∧ (F 7 xk.toInt.toNat).toInt < (I 32).toInt ∧ ((F 5 xk.toInt.toNat).toInt ≠ 5 → (F 5 xk.toInt.toNat).toInt ≠ 8 → (F 8 xk.toInt.toNat).toInt < (I 32).toInt) from ⟨by omega, by omega, fun _ _ => by omega⟩)]
                        rw [if_neg (by omega)]
                        rw [if_pos (by omega)]
                        exact ⟨fun _ => by omega, fun _ => rfl⟩
                  · have hV8 := hV8 (by omega)
                    have hrws := hW.2.2.2.2.1 (F 8 xk.toInt.toNat).toInt.toNat (by omega)
                    have hcnt : (F 10 (F 8 xk.toInt.toNat).toInt.toNat).toInt = ((F 10 (F 8 xk.toInt.toNat).toInt.toNat).toInt.toNat : Int) := by have := hrws.1; omega
                    refine lv_aload_n hx hb d_Mod_satisfied_174 rfl (lv_at hl 3 rfl) ?_
                    refine lv_aload_n hx hb d_Mod_satisfied_175 rfl (lv_at hl 3 rfl) ?_
                    refine m_gr hx hb hK hown hP 8 (by decide) t_745 d_Mod_satisfied_176 ?_
                    refine lv_iload_n hx hb d_Mod_satisfied_179 rfl (lv_at hl 4 rfl) ?_
                    refine m_ld hx hb hK hP 8 (by decide) (xk.toInt.toNat) hxk (by omega) (show xk.toInt.toNat < 12 by omega) d_Mod_satisfied_180 (fun z_110 ez_110 => ?_)
                    subst ez_110
                    have hix_111 : (F 8 xk.toInt.toNat).toInt = ((F 8 xk.toInt.toNat).toInt.toNat : Int) := by omega
                    refine lv_iload_n hx hb d_Mod_satisfied_181 rfl (lv_at hl 1 rfl) ?_
                    refine lv_iload hx hb d_Mod_satisfied_182 (lv_at hl 0 rfl) ?_
                    refine x_V (As := [.int (F 8 (xk.toInt.toNat)), .int (F 33 (F 6 xk.toInt.toNat).toInt.toNat), .int (F 33 (F 7 xk.toInt.toNat).toInt.toNat)]) (rest := []) hx hb hml hown hK (k_Mod_isRow l D cA adr hi (va_up I 0 (0 : Int32)) F (F 8 xk.toInt.toNat).toInt.toNat (F 10 (F 8 xk.toInt.toNat).toInt.toNat).toInt.toNat (F 8 (xk.toInt.toNat)) (F 33 (F 6 xk.toInt.toNat).toInt.toNat) (F 33 (F 7 xk.toInt.toNat).toInt.toNat) (by omega) (by omega) hcnt (by omega)) t_1053 t_4 t_1050 t_1052 ts_41 yk_Mod_isRow ⟨Nat.le_of_ble_eq_true rfl, Nat.le_of_ble_eq_true rfl⟩ (m_rec hK hP) hP rfl hl.1 rfl (Nat.le_of_ble_eq_true rfl) d_Mod_satisfied_184 ⟨Nat.le_of_ble_eq_true rfl, Nat.le_of_ble_eq_true rfl⟩ hS (fun q h => h) (fun r H locs hq _ hS => ?_)
                    obtain ⟨q_112, rfl, hq_112, hP⟩ := hq
                    refine W.eq (g2 := F0 m 187 ls [.int (bi q_112)]) rfl ?_
                    refine e_z hx hb hr hlk hQ hS d_Mod_satisfied_187 ?_
                    refine ⟨q_112, rfl, ?_, (va_up I 0 (0 : Int32)), F, ch, rfl, hch, ⟨⟨rfl, rfl, rfl, rfl, rfl, rfl, rfl⟩, fun _ _ _ _ _ _ _ _ => rfl, fun _ _ => ⟨rfl, rfl⟩⟩, hP⟩
                    rw [show (0 ≤ xk.toInt ∧ xk.toInt < mm ∧ SatR (I 32).toInt F xk.toInt.toNat) ↔ SatR (I 32).toInt F xk.toInt.toNat from ⟨fun h => h.2.2, fun h => ⟨by omega, by omega, h⟩⟩]
                    unfold SatR
                    rw [if_neg (by omega)]
                    rw [and_iff_right (show (F 6 xk.toInt.toNat).toInt < (I 32).toInt ∧ (F 7 xk.toInt.toNat).toInt < (I 32).toInt ∧ ((F 5 xk.toInt.toNat).toInt ≠ 5 → (F 5 xk.toInt.toNat).toInt ≠ 8 → (F 8 xk.toInt.toNat).toInt < (I 32).toInt) from ⟨by omega, by omega, fun _ _ => by omega⟩)]
                    rw [if_pos (by omega)]; exact hq_112
                · refine lv_iconst (v := 0) hx hb d_Mod_satisfied_136 (by decide) ?_
                  refine W.eq (g2 := F0 m 137 ls [.int (bi false)]) rfl ?_
                  refine e_z hx hb hr hlk hQ hS d_Mod_satisfied_137 ?_
                  refine ⟨false, rfl, ?_, (va_up I 0 (0 : Int32)), F, ch, rfl, hch, ⟨⟨rfl, rfl, rfl, rfl, rfl, rfl, rfl⟩, fun _ _ _ _ _ _ _ _ => rfl, fun _ _ => ⟨rfl, rfl⟩⟩, hP⟩
                  rw [show (0 ≤ xk.toInt ∧ xk.toInt < mm ∧ SatR (I 32).toInt F xk.toInt.toNat) ↔ SatR (I 32).toInt F xk.toInt.toNat from ⟨fun h => h.2.2, fun h => ⟨by omega, by omega, h⟩⟩]
                  unfold SatR
                  rw [if_neg (by omega)]
                  refine ⟨fun h => absurd h (by decide), fun h => ?_⟩
                  obtain ⟨⟨h1, h2, h3⟩, _⟩ := h; omega
    · have hV7 := hV7 c_4
      refine lv_aload_n hx hb d_Mod_satisfied_32 rfl (lv_at hl 0 rfl) ?_
      refine m_gr hx hb hK hown hP 6 (by decide) t_743 d_Mod_satisfied_33 ?_
      refine lv_iload_n hx hb d_Mod_satisfied_36 rfl (lv_at hl 1 rfl) ?_
      refine m_ld hx hb hK hP 6 (by decide) (xk.toInt.toNat) hxk (by omega) (show xk.toInt.toNat < 12 by omega) d_Mod_satisfied_37 (fun z_113 ez_113 => ?_)
      subst ez_113
      refine lv_iconst (v := 1) hx hb d_Mod_satisfied_38 (by decide) ?_
      refine lv_aload_n hx hb d_Mod_satisfied_39 rfl (lv_at hl 0 rfl) ?_
      refine m_gi (v := (I 32)) hx hb hK hown hP 32 (by decide) t_769 rfl d_Mod_satisfied_40 ?_
      refine x_shl1 hx hb d_Mod_satisfied_43 ((I 32).toInt.toNat) hsd9 (by omega) (by omega) (fun z_114 tz_114 => ?_)
      refine b_icmp_ge (tgt := 64) hx hb d_Mod_satisfied_44 (by decide) rfl tz_114 (fun c_115 => ?_) (fun c_115 => ?_)
      · refine lv_iconst (v := 0) hx hb d_Mod_satisfied_64 (by decide) ?_
        refine W.eq (g2 := F0 m 65 ls [.int (bi false)]) rfl ?_
        refine e_z hx hb hr hlk hQ hS d_Mod_satisfied_65 ?_
        refine ⟨false, rfl, ?_, (va_up I 0 (0 : Int32)), F, ch, rfl, hch, ⟨⟨rfl, rfl, rfl, rfl, rfl, rfl, rfl⟩, fun _ _ _ _ _ _ _ _ => rfl, fun _ _ => ⟨rfl, rfl⟩⟩, hP⟩
        rw [show (0 ≤ xk.toInt ∧ xk.toInt < mm ∧ SatR (I 32).toInt F xk.toInt.toNat) ↔ SatR (I 32).toInt F xk.toInt.toNat from ⟨fun h => h.2.2, fun h => ⟨by omega, by omega, h⟩⟩]
        unfold SatR
        rw [if_pos (by omega)]
        exact ⟨fun h => absurd h (by decide), fun h => by have := h.1; omega⟩
      · refine lv_aload_n hx hb d_Mod_satisfied_47 rfl (lv_at hl 0 rfl) ?_
        refine lv_aload_n hx hb d_Mod_satisfied_48 rfl (lv_at hl 0 rfl) ?_
        refine m_gr hx hb hK hown hP 6 (by decide) t_743 d_Mod_satisfied_49 ?_
        refine lv_iload_n hx hb d_Mod_satisfied_52 rfl (lv_at hl 1 rfl) ?_
        refine m_ld hx hb hK hP 6 (by decide) (xk.toInt.toNat) hxk (by omega) (show xk.toInt.toNat < 12 by omega) d_Mod_satisfied_53 (fun z_116 ez_116 => ?_)
        subst ez_116
        refine x_V (As := [.int (F 6 (xk.toInt.toNat))]) (rest := []) hx hb hml hown hK (k_Mod_isDifferent l D cA adr hi (va_up I 0 (0 : Int32)) F (F 6 xk.toInt.toNat).toInt.toNat (F 6 (xk.toInt.toNat)) (by omega)) t_1049 t_4 t_1046 t_1048 ts_40 yk_Mod_isDifferent ⟨Nat.le_of_ble_eq_true rfl, Nat.le_of_ble_eq_true rfl⟩ (m_rec hK hP) hP rfl hl.1 rfl (Nat.le_of_ble_eq_true rfl) d_Mod_satisfied_54 ⟨Nat.le_of_ble_eq_true rfl, Nat.le_of_ble_eq_true rfl⟩ hS (fun q h => h) (fun r H locs hq _ hS => ?_)
        obtain ⟨q_117, rfl, hq_117, hP⟩ := hq
        refine W.eq (g2 := F0 m 57 ls [.int (bi q_117)]) rfl ?_
        refine b_bool_eq (tgt := 64) hx hb d_Mod_satisfied_57 (by decide) (fun c_118 => ?_) (fun c_118 => ?_)
        · refine lv_iconst (v := 0) hx hb d_Mod_satisfied_64 (by decide) ?_
          refine W.eq (g2 := F0 m 65 ls [.int (bi false)]) rfl ?_
          refine e_z hx hb hr hlk hQ hS d_Mod_satisfied_65 ?_
          refine ⟨false, rfl, ?_, (va_up I 0 (0 : Int32)), F, ch, rfl, hch, ⟨⟨rfl, rfl, rfl, rfl, rfl, rfl, rfl⟩, fun _ _ _ _ _ _ _ _ => rfl, fun _ _ => ⟨rfl, rfl⟩⟩, hP⟩
          rw [show (0 ≤ xk.toInt ∧ xk.toInt < mm ∧ SatR (I 32).toInt F xk.toInt.toNat) ↔ SatR (I 32).toInt F xk.toInt.toNat from ⟨fun h => h.2.2, fun h => ⟨by omega, by omega, h⟩⟩]
          unfold SatR
          rw [if_pos (by omega)]
          exact ⟨fun h => absurd h (by decide), fun h => by have := hq_117.mpr h.2; rw [c_118] at this; cases this⟩
        · refine lv_iconst (v := 1) hx hb d_Mod_satisfied_60 (by decide) ?_
          refine lv_goto (tgt := 65) hx hb d_Mod_satisfied_61 (by decide) ?_
          refine W.eq (g2 := F0 m 65 ls [.int (bi true)]) rfl ?_
          refine e_z hx hb hr hlk hQ hS d_Mod_satisfied_65 ?_
          refine ⟨true, rfl, ?_, (va_up I 0 (0 : Int32)), F, ch, rfl, hch, ⟨⟨rfl, rfl, rfl, rfl, rfl, rfl, rfl⟩, fun _ _ _ _ _ _ _ _ => rfl, fun _ _ => ⟨rfl, rfl⟩⟩, hP⟩
          rw [show (0 ≤ xk.toInt ∧ xk.toInt < mm ∧ SatR (I 32).toInt F xk.toInt.toNat) ↔ SatR (I 32).toInt F xk.toInt.toNat from ⟨fun h => h.2.2, fun h => ⟨by omega, by omega, h⟩⟩]
          unfold SatR
          rw [if_pos (by omega)]
          exact ⟨fun _ => ⟨by omega, hq_117.mp c_118⟩, fun _ => rfl⟩
  · have hc_2 := of_decide_eq_false c_2
    refine lv_iconst (v := 0) hx hb d_Mod_satisfied_19 (by decide) ?_
    refine W.eq (g2 := F0 m 20 ls [.int (bi false)]) rfl ?_
    refine e_z hx hb hr hlk hQ hS d_Mod_satisfied_20 ?_
    refine ⟨false, rfl, ?_, (va_up I 0 (0 : Int32)), F, ch, rfl, hch, ⟨⟨rfl, rfl, rfl, rfl, rfl, rfl, rfl⟩, fun _ _ _ _ _ _ _ _ => rfl, fun _ _ => ⟨rfl, rfl⟩⟩, hP⟩
    exact ⟨fun h => absurd h (by decide), fun h => by omega⟩
