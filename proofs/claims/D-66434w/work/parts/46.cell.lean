theorem nI_and {a b : Nat} (ha : a < 2 ^ 31) (hb : b < 2 ^ 31) : nI a &&& nI b = nI (a &&& b) := by
  apply Int32.toBitVec_inj.mp
  apply BitVec.eq_of_toNat_eq
  have h : a &&& b < 2 ^ 31 := Nat.and_lt_two_pow _ hb
  rw [Int32.toBitVec_and, BitVec.toNat_and, pk_tn (by omega), pk_tn (by omega), pk_tn (by omega)]
section AN
variable {p : Program} {l : Launch} {e : Env} {R : Room} {s : State} {m : MethodId} {args : Array Value} {below : List Frame} {meth : Method} {c : Code} {H : Heap} {locs : List Loc} {cells slots : Nat} {Q : State → Prop}
variable {cc : ByteArray} {pc : Nat} {ls : Array Slot} {rest : List Value}
theorem x_andN (hexec : p.tables.exec = Jvm.exec) (hb : c.code = cc) {x y : Int32} {a b : Int} (hdg : decode cc pc = .ok (.iand, 1)) (na nb : Nat) (hx : x.toInt = a) (hy : y.toInt = b) (ha : a = (na : Int)) (hb' : b = (nb : Int))
    (k : ∀ z : Int32, z.toInt = ((na &&& nb : Nat) : Int) → W p l e R s m args below meth c H locs cells slots Q (F0 m (pc + 1) ls (.int z :: rest))) : W p l e R s m args below meth c H locs cells slots Q (F0 m pc ls (.int y :: .int x :: rest)) := by
  refine lv_iand hexec hb hdg (k _ ?_)
  have h1 := nI_bk (hx.trans ha)
  have h2 := nI_bk (hy.trans hb')
  have r1 := i_rng x
  have r2 := i_rng y
  rw [h1, h2, nI_and (by omega) (by omega), nI_toInt (Nat.and_lt_two_pow _ (by omega))]
end AN
/-- a new cell -/
theorem CP.cell {cA : Nat → ClassId} {adr : Nat → Nat} {cn cn' : Nat → va_E} {I : Nat → Int32} {F : Nat → Nat → Int32} {mm nn : Nat} {x : Nat → Int32} {dn c : Bool} {lo hh v : Int32} (h : CP cA adr cn I F mm x dn) (h0 : cn' 0 = .inr (1, SF adr (va_up x 1 v) dn)) (hB : BP cA adr cn' 8 (upd (F 2) nn lo) (upd (F 3) nn hh) c) (hk : ∀ k, k ≠ 0 → k ≠ 8 → k ≠ 9 → k ≠ 10 → cn' k = cn k) : CP cA adr cn' (va_up I 1 v) (G_cell F nn lo hh) mm (va_up x 1 v) dn := by
  obtain ⟨⟨r0, r1, r2, r3, r4⟩, ⟨y1, y2, y3, y4, y5, y6, y7⟩, ⟨a2, a3, a4, a5, a6, a7⟩, -, ⟨f11, g11, c11, b11, e11⟩, hb⟩ := h
  have kB : ∀ a f g c, BP cA adr cn a f g c → 11 ≤ a → BP cA adr cn' a f g c := fun a f g c q hq => ⟨(hk a (by omega) (by omega) (by omega) (by omega)).trans q.1, (hk (a + 1) (by omega) (by omega) (by omega) (by omega)).trans q.2.1, (hk (a + 2) (by omega) (by omega) (by omega) (by omega)).trans q.2.2⟩
  exact ⟨⟨h0, (hk 1 (by omega) (by omega) (by omega) (by omega)).trans r1, r2, r3.fr (fun k h1 h2 => hk k (by omega) (by omega) (by omega) (by omega)), fun r hr => (r4 r hr).fr (hk _ (by omega) (by omega) (by omega) (by omega))⟩, ⟨rfl, y2, y3, y4, y5, y6, y7⟩, ⟨(hk 2 (by omega) (by omega) (by omega) (by omega)).trans a2, (hk 3 (by omega) (by omega) (by omega) (by omega)).trans a3, (hk 4 (by omega) (by omega) (by omega) (by omega)).trans a4, (hk 5 (by omega) (by omega) (by omega) (by omega)).trans a5, (hk 6 (by omega) (by omega) (by omega) (by omega)).trans a6, (hk 7 (by omega) (by omega) (by omega) (by omega)).trans a7⟩, ⟨c, hB⟩, ⟨f11, g11, c11, kB 11 _ _ _ b11 (by omega), e11⟩, fun d hd => by obtain ⟨f0, g0, c0, b0⟩ := hb d hd; exact ⟨f0, g0, c0, kB _ _ _ _ b0 (by omega)⟩⟩
theorem d_Sht_isCell_0 : decode b_Sht_isCell 0 = .ok (.iload_n 1, 1) := by decide +kernel
theorem d_Sht_isCell_1 : decode b_Sht_isCell 1 = .ok (.iconst 0, 1) := by decide +kernel
theorem d_Sht_isCell_2 : decode b_Sht_isCell 2 = .ok (.aload_n 0, 1) := by decide +kernel
theorem d_Sht_isCell_3 : decode b_Sht_isCell 3 = .ok (.getfield 55, 3) := by decide +kernel
theorem d_Sht_isCell_6 : decode b_Sht_isCell 6 = .ok (.iconst 1, 1) := by decide +kernel
theorem d_Sht_isCell_7 : decode b_Sht_isCell 7 = .ok (.isub, 1) := by decide +kernel
theorem d_Sht_isCell_8 : decode b_Sht_isCell 8 = .ok (.invokestatic 59, 3) := by decide +kernel
theorem d_Sht_isCell_11 : decode b_Sht_isCell 11 = .ok (.ireturn, 1) := by decide +kernel
set_option maxHeartbeats 4000000 in
set_option maxRecDepth 20000 in
theorem k_Sht_isCell (l : Launch) (D : va_G) (cA : Nat → ClassId) (adr : Nat → Nat) (N : List Nat) (cn : Nat → va_E) (x : Nat → Int32) (dn : Bool) (h00 : cn 0 = .inr (1, SF adr x dn)) (hN0 : 0 ∈ N) (nn : Nat) (hv1 : (x 1).toInt = (nn : Int)) (hn10 : nn ≤ 10) (xk : Int32) : Ct l y_Sht_isCell b_Sht_isCell 2 (some .boolean) 2 D cA [.ref (adr 0), .int xk] (fun H => va_P D classes (wl N adr cn) H) (fun r H => r = some (.int (bi (decide (0 ≤ xk.toInt ∧ xk.toInt ≤ (nn : Int) - 1)))) ∧ va_P D classes (wl N adr cn) H) (fun _ => False) := by
  refine Ct.mk (by decide) (Nat.le_of_ble_eq_true rfl) ?_
  intro p e s m args below meth c Q H locs ls hx hb hr hml hlk hown hin hK hQ hS hP hl
  have hl : lv_has ls 2 [(0, .ref (adr 0)), (1, .int xk)] := hl
  have hown : s.vm.findClass "RangeSheet" = some m.cls := hown
  refine lv_iload_n hx hb d_Sht_isCell_0 rfl (lv_at hl 1 rfl) ?_
  refine lv_iconst (v := 0) hx hb d_Sht_isCell_1 (by decide) ?_
  refine lv_aload_n hx hb d_Sht_isCell_2 rfl (lv_at hl 0 rfl) ?_
  refine w_gf hx hb hK i_Sht hown hP hN0 h00 rfl 1 (by decide) t_86 rfl rfl d_Sht_isCell_3 ?_
  refine lv_iconst (v := 1) hx hb d_Sht_isCell_6 (by decide) ?_
  refine x_sub hx hb d_Sht_isCell_7 hv1 kc_1 (by omega) (fun z_1 tz_1 => ?_)
  refine r_wn_Sht hx hb hml hown hK hl.1 hS ⟨Nat.le_of_ble_eq_true rfl, Nat.le_of_ble_eq_true rfl⟩ ⟨Nat.le_of_ble_eq_true rfl, Nat.le_of_ble_eq_true rfl⟩ rfl kc_0 tz_1  d_Sht_isCell_8 (Nat.le_of_ble_eq_true rfl) (fun locs hS => ?_)
  refine e_z hx hb hr hlk hQ hS d_Sht_isCell_11 ?_
  exact ⟨rfl, hP⟩
theorem d_Sht_isGood_0 : decode b_Sht_isGood 0 = .ok (.iload_n 1, 1) := by decide +kernel
theorem d_Sht_isGood_1 : decode b_Sht_isGood 1 = .ok (.bipush 7, 2) := by decide +kernel
theorem d_Sht_isGood_3 : decode b_Sht_isGood 3 = .ok (.if_icmp .ne 31, 3) := by decide +kernel
theorem d_Sht_isGood_6 : decode b_Sht_isGood 6 = .ok (.iload_n 2, 1) := by decide +kernel
theorem d_Sht_isGood_7 : decode b_Sht_isGood 7 = .ok (.ifCond .le 25, 3) := by decide +kernel
theorem d_Sht_isGood_10 : decode b_Sht_isGood 10 = .ok (.iload_n 2, 1) := by decide +kernel
theorem d_Sht_isGood_11 : decode b_Sht_isGood 11 = .ok (.iconst 1, 1) := by decide +kernel
theorem d_Sht_isGood_12 : decode b_Sht_isGood 12 = .ok (.aload_n 0, 1) := by decide +kernel
theorem d_Sht_isGood_13 : decode b_Sht_isGood 13 = .ok (.getfield 55, 3) := by decide +kernel
theorem d_Sht_isGood_16 : decode b_Sht_isGood 16 = .ok (.ishl, 1) := by decide +kernel
theorem d_Sht_isGood_17 : decode b_Sht_isGood 17 = .ok (.if_icmp .ge 15, 3) := by decide +kernel
theorem d_Sht_isGood_20 : decode b_Sht_isGood 20 = .ok (.iload_n 2, 1) := by decide +kernel
theorem d_Sht_isGood_21 : decode b_Sht_isGood 21 = .ok (.iload_n 2, 1) := by decide +kernel
theorem d_Sht_isGood_22 : decode b_Sht_isGood 22 = .ok (.iconst 1, 1) := by decide +kernel
theorem d_Sht_isGood_23 : decode b_Sht_isGood 23 = .ok (.isub, 1) := by decide +kernel
theorem d_Sht_isGood_24 : decode b_Sht_isGood 24 = .ok (.iand, 1) := by decide +kernel
theorem d_Sht_isGood_25 : decode b_Sht_isGood 25 = .ok (.ifCond .eq 7, 3) := by decide +kernel
theorem d_Sht_isGood_28 : decode b_Sht_isGood 28 = .ok (.iconst 1, 1) := by decide +kernel
theorem d_Sht_isGood_29 : decode b_Sht_isGood 29 = .ok (.goto 4, 3) := by decide +kernel
theorem d_Sht_isGood_32 : decode b_Sht_isGood 32 = .ok (.iconst 0, 1) := by decide +kernel
theorem d_Sht_isGood_33 : decode b_Sht_isGood 33 = .ok (.ireturn, 1) := by decide +kernel
theorem d_Sht_isGood_34 : decode b_Sht_isGood 34 = .ok (.iload_n 1, 1) := by decide +kernel
theorem d_Sht_isGood_35 : decode b_Sht_isGood 35 = .ok (.iconst 5, 1) := by decide +kernel
theorem d_Sht_isGood_36 : decode b_Sht_isGood 36 = .ok (.if_icmp .ne 17, 3) := by decide +kernel
theorem d_Sht_isGood_39 : decode b_Sht_isGood 39 = .ok (.iload 4, 2) := by decide +kernel
theorem d_Sht_isGood_41 : decode b_Sht_isGood 41 = .ok (.sipush (-200), 3) := by decide +kernel
theorem d_Sht_isGood_44 : decode b_Sht_isGood 44 = .ok (.sipush 200, 3) := by decide +kernel
theorem d_Sht_isGood_47 : decode b_Sht_isGood 47 = .ok (.invokestatic 59, 3) := by decide +kernel
theorem d_Sht_isGood_50 : decode b_Sht_isGood 50 = .ok (.goto 25, 3) := by decide +kernel
theorem d_Sht_isGood_53 : decode b_Sht_isGood 53 = .ok (.iload_n 1, 1) := by decide +kernel
theorem d_Sht_isGood_54 : decode b_Sht_isGood 54 = .ok (.bipush 8, 2) := by decide +kernel
theorem d_Sht_isGood_56 : decode b_Sht_isGood 56 = .ok (.if_icmp .ne 13, 3) := by decide +kernel
theorem d_Sht_isGood_59 : decode b_Sht_isGood 59 = .ok (.iload 4, 2) := by decide +kernel
theorem d_Sht_isGood_61 : decode b_Sht_isGood 61 = .ok (.iconst 0, 1) := by decide +kernel
theorem d_Sht_isGood_62 : decode b_Sht_isGood 62 = .ok (.iconst 2, 1) := by decide +kernel
theorem d_Sht_isGood_63 : decode b_Sht_isGood 63 = .ok (.invokestatic 59, 3) := by decide +kernel
theorem d_Sht_isGood_66 : decode b_Sht_isGood 66 = .ok (.goto 9, 3) := by decide +kernel
theorem d_Sht_isGood_69 : decode b_Sht_isGood 69 = .ok (.aload_n 0, 1) := by decide +kernel
theorem d_Sht_isGood_70 : decode b_Sht_isGood 70 = .ok (.iload 4, 2) := by decide +kernel
theorem d_Sht_isGood_72 : decode b_Sht_isGood 72 = .ok (.invokevirtual 86, 3) := by decide +kernel
theorem d_Sht_isGood_75 : decode b_Sht_isGood 75 = .ok (.istore 5, 2) := by decide +kernel
theorem d_Sht_isGood_77 : decode b_Sht_isGood 77 = .ok (.aload_n 0, 1) := by decide +kernel
theorem d_Sht_isGood_78 : decode b_Sht_isGood 78 = .ok (.iload_n 2, 1) := by decide +kernel
theorem d_Sht_isGood_79 : decode b_Sht_isGood 79 = .ok (.invokevirtual 86, 3) := by decide +kernel
theorem d_Sht_isGood_82 : decode b_Sht_isGood 82 = .ok (.ifCond .eq 20, 3) := by decide +kernel
theorem d_Sht_isGood_85 : decode b_Sht_isGood 85 = .ok (.aload_n 0, 1) := by decide +kernel
theorem d_Sht_isGood_86 : decode b_Sht_isGood 86 = .ok (.iload_n 3, 1) := by decide +kernel
theorem d_Sht_isGood_87 : decode b_Sht_isGood 87 = .ok (.invokevirtual 86, 3) := by decide +kernel
theorem d_Sht_isGood_90 : decode b_Sht_isGood 90 = .ok (.ifCond .eq 12, 3) := by decide +kernel
theorem d_Sht_isGood_93 : decode b_Sht_isGood 93 = .ok (.iload 5, 2) := by decide +kernel
theorem d_Sht_isGood_95 : decode b_Sht_isGood 95 = .ok (.ifCond .eq 7, 3) := by decide +kernel
theorem d_Sht_isGood_98 : decode b_Sht_isGood 98 = .ok (.iconst 1, 1) := by decide +kernel
theorem d_Sht_isGood_99 : decode b_Sht_isGood 99 = .ok (.goto 4, 3) := by decide +kernel
theorem d_Sht_isGood_102 : decode b_Sht_isGood 102 = .ok (.iconst 0, 1) := by decide +kernel
theorem d_Sht_isGood_103 : decode b_Sht_isGood 103 = .ok (.ireturn, 1) := by decide +kernel
set_option maxHeartbeats 4000000 in
set_option maxRecDepth 20000 in
theorem k_Sht_isGood (l : Launch) (D : va_G) (cA : Nat → ClassId) (adr : Nat → Nat) (N : List Nat) (cn : Nat → va_E) (x : Nat → Int32) (dn : Bool) (h00 : cn 0 = .inr (1, SF adr x dn)) (hN0 : 0 ∈ N) (nn : Nat) (hv1 : (x 1).toInt = (nn : Int)) (hn10 : nn ≤ 10) (xk xa xb xc : Int32) (hk8 : 0 ≤ xk.toInt ∧ xk.toInt ≤ 8) : Ct l y_Sht_isGood b_Sht_isGood 6 (some .boolean) 4 D cA [.ref (adr 0), .int xk, .int xa, .int xb, .int xc] (fun H => va_P D classes (wl N adr cn) H) (fun r H => ∃ q : Bool, r = some (.int (bi q)) ∧ (q = true ↔ RO nn xk.toInt xa.toInt xb.toInt xc.toInt) ∧ va_P D classes (wl N adr cn) H) (fun _ => False) := by
  refine Ct.mk (by decide) (Nat.le_of_ble_eq_true rfl) ?_
  intro p e s m args below meth c Q H locs ls hx hb hr hml hlk hown hin hK hQ hS hP hl
  have hl : lv_has ls 6 [(0, .ref (adr 0)), (1, .int xk), (2, .int xa), (3, .int xb), (4, .int xc)] := hl
  have hown : s.vm.findClass "RangeSheet" = some m.cls := hown
  have hp2 := p2_le hn10
  have hp3 := Nat.one_le_two_pow (n := nn)
  refine lv_iload_n hx hb d_Sht_isGood_0 rfl (lv_at hl 1 rfl) ?_
  refine lv_bipush (v := 7) hx hb d_Sht_isGood_1 (by decide) ?_
  refine b_icmp_ne (tgt := 34) hx hb d_Sht_isGood_3 (by decide) rfl kc_7 (fun c_1 => ?_) (fun c_1 => ?_)
  · refine lv_iload_n hx hb d_Sht_isGood_34 rfl (lv_at hl 1 rfl) ?_
    refine lv_iconst (v := 5) hx hb d_Sht_isGood_35 (by decide) ?_
    refine b_icmp_ne (tgt := 53) hx hb d_Sht_isGood_36 (by decide) rfl kc_5 (fun c_2 => ?_) (fun c_2 => ?_)
    · refine lv_iload_n hx hb d_Sht_isGood_53 rfl (lv_at hl 1 rfl) ?_
      refine lv_bipush (v := 8) hx hb d_Sht_isGood_54 (by decide) ?_
      refine b_icmp_ne (tgt := 69) hx hb d_Sht_isGood_56 (by decide) rfl kc_8 (fun c_3 => ?_) (fun c_3 => ?_)
      · refine lv_aload_n hx hb d_Sht_isGood_69 rfl (lv_at hl 0 rfl) ?_
        refine lv_iload hx hb d_Sht_isGood_70 (lv_at hl 4 rfl) ?_
        refine x_V (As := [.int xc]) (rest := []) hx hb hml hown hK (k_Sht_isCell l D cA adr N cn x dn h00 hN0 nn hv1 hn10 xc) t_494 t_1 t_491 t_493 ts_9 yk_Sht_isCell ⟨Nat.le_of_ble_eq_true rfl, Nat.le_of_ble_eq_true rfl⟩ (w_rec hK hP hN0 h00 rfl) hP rfl hl.1 rfl (Nat.le_of_ble_eq_true rfl) d_Sht_isGood_72 ⟨Nat.le_of_ble_eq_true rfl, Nat.le_of_ble_eq_true rfl⟩ hS (fun q h => h.elim) (fun r H locs hq _ hS => ?_)
        obtain ⟨rfl, hP⟩ := hq
        refine W.eq (g2 := F0 m 75 ls [.int (bi (decide (0 ≤ xc.toInt ∧ xc.toInt ≤ (nn : Int) - 1)))]) rfl ?_
        refine lv_istore (lv' := [(5, .int (bi (decide (0 ≤ xc.toInt ∧ xc.toInt ≤ (nn : Int) - 1)))), (0, .ref (adr 0)), (1, .int xk), (2, .int xa), (3, .int xb), (4, .int xc)]) hx hb d_Sht_isGood_75 hl (by decide) rfl (fun ls hl => ?_)
        refine lv_aload_n hx hb d_Sht_isGood_77 rfl (lv_at hl 1 rfl) ?_
        refine lv_iload_n hx hb d_Sht_isGood_78 rfl (lv_at hl 3 rfl) ?_
        refine x_V (As := [.int xa]) (rest := []) hx hb hml hown hK (k_Sht_isCell l D cA adr N cn x dn h00 hN0 nn hv1 hn10 xa) t_494 t_1 t_491 t_493 ts_9 yk_Sht_isCell ⟨Nat.le_of_ble_eq_true rfl, Nat.le_of_ble_eq_true rfl⟩ (w_rec hK hP hN0 h00 rfl) hP rfl hl.1 rfl (Nat.le_of_ble_eq_true rfl) d_Sht_isGood_79 ⟨Nat.le_of_ble_eq_true rfl, Nat.le_of_ble_eq_true rfl⟩ hS (fun q h => h.elim) (fun r H locs hq _ hS => ?_)
        obtain ⟨rfl, hP⟩ := hq
        refine W.eq (g2 := F0 m 82 ls [.int (bi (decide (0 ≤ xa.toInt ∧ xa.toInt ≤ (nn : Int) - 1)))]) rfl ?_
        refine b_bool_eq (tgt := 102) hx hb d_Sht_isGood_82 (by decide) (fun c_4 => ?_) (fun c_4 => ?_)
        · have hc_4 := of_decide_eq_false c_4
          refine lv_iconst (v := 0) hx hb d_Sht_isGood_102 (by decide) ?_
          refine W.eq (g2 := F0 m 103 ls [.int (bi false)]) rfl ?_
          refine e_z hx hb hr hlk hQ hS d_Sht_isGood_103 ?_
          refine ⟨false, rfl, ?_, hP⟩
          refine ⟨fun h => absurd h (by decide), fun h => ?_⟩
          obtain ⟨⟨v0, v7, v1, v5, v8, v3⟩, vt⟩ := h; exfalso; omega
        · have hc_4 := of_decide_eq_true c_4
          refine lv_aload_n hx hb d_Sht_isGood_85 rfl (lv_at hl 1 rfl) ?_
          refine lv_iload_n hx hb d_Sht_isGood_86 rfl (lv_at hl 4 rfl) ?_
          refine x_V (As := [.int xb]) (rest := []) hx hb hml hown hK (k_Sht_isCell l D cA adr N cn x dn h00 hN0 nn hv1 hn10 xb) t_494 t_1 t_491 t_493 ts_9 yk_Sht_isCell ⟨Nat.le_of_ble_eq_true rfl, Nat.le_of_ble_eq_true rfl⟩ (w_rec hK hP hN0 h00 rfl) hP rfl hl.1 rfl (Nat.le_of_ble_eq_true rfl) d_Sht_isGood_87 ⟨Nat.le_of_ble_eq_true rfl, Nat.le_of_ble_eq_true rfl⟩ hS (fun q h => h.elim) (fun r H locs hq _ hS => ?_)
          obtain ⟨rfl, hP⟩ := hq
          refine W.eq (g2 := F0 m 90 ls [.int (bi (decide (0 ≤ xb.toInt ∧ xb.toInt ≤ (nn : Int) - 1)))]) rfl ?_
          refine b_bool_eq (tgt := 102) hx hb d_Sht_isGood_90 (by decide) (fun c_5 => ?_) (fun c_5 => ?_)
          · have hc_5 := of_decide_eq_false c_5
            refine lv_iconst (v := 0) hx hb d_Sht_isGood_102 (by decide) ?_
            refine W.eq (g2 := F0 m 103 ls [.int (bi false)]) rfl ?_
            refine e_z hx hb hr hlk hQ hS d_Sht_isGood_103 ?_
            refine ⟨false, rfl, ?_, hP⟩
            refine ⟨fun h => absurd h (by decide), fun h => ?_⟩
            obtain ⟨⟨v0, v7, v1, v5, v8, v3⟩, vt⟩ := h; exfalso; omega
          · have hc_5 := of_decide_eq_true c_5
            refine lv_iload hx hb d_Sht_isGood_93 (lv_at hl 0 rfl) ?_
            refine b_bool_eq (tgt := 102) hx hb d_Sht_isGood_95 (by decide) (fun c_6 => ?_) (fun c_6 => ?_)
            · have hc_6 := of_decide_eq_false c_6
              refine lv_iconst (v := 0) hx hb d_Sht_isGood_102 (by decide) ?_
              refine W.eq (g2 := F0 m 103 ls [.int (bi false)]) rfl ?_
              refine e_z hx hb hr hlk hQ hS d_Sht_isGood_103 ?_
              refine ⟨false, rfl, ?_, hP⟩
              refine ⟨fun h => absurd h (by decide), fun h => ?_⟩
              obtain ⟨⟨v0, v7, v1, v5, v8, v3⟩, vt⟩ := h; exfalso; omega
            · have hc_6 := of_decide_eq_true c_6
              refine lv_iconst (v := 1) hx hb d_Sht_isGood_98 (by decide) ?_
              refine lv_goto (tgt := 103) hx hb d_Sht_isGood_99 (by decide) ?_
              refine W.eq (g2 := F0 m 103 ls [.int (bi true)]) rfl ?_
              refine e_z hx hb hr hlk hQ hS d_Sht_isGood_103 ?_
              refine ⟨true, rfl, ?_, hP⟩
              exact ⟨fun _ => ⟨⟨by omega, fun h => absurd h (by omega), fun _ => by omega, fun _ => by omega, fun _ => by omega, fun _ _ _ => by omega⟩, fun h => absurd h (by omega)⟩, fun _ => rfl⟩
      · refine lv_iload hx hb d_Sht_isGood_59 (lv_at hl 4 rfl) ?_
        refine lv_iconst (v := 0) hx hb d_Sht_isGood_61 (by decide) ?_
        refine lv_iconst (v := 2) hx hb d_Sht_isGood_62 (by decide) ?_
        refine r_wn_Sht hx hb hml hown hK hl.1 hS ⟨Nat.le_of_ble_eq_true rfl, Nat.le_of_ble_eq_true rfl⟩ ⟨Nat.le_of_ble_eq_true rfl, Nat.le_of_ble_eq_true rfl⟩ rfl kc_0 kc_2  d_Sht_isGood_63 (Nat.le_of_ble_eq_true rfl) (fun locs hS => ?_)
        refine lv_goto (tgt := 75) hx hb d_Sht_isGood_66 (by decide) ?_
        refine lv_istore (lv' := [(5, .int (bi (decide (0 ≤ xc.toInt ∧ xc.toInt ≤ 2)))), (0, .ref (adr 0)), (1, .int xk), (2, .int xa), (3, .int xb), (4, .int xc)]) hx hb d_Sht_isGood_75 hl (by decide) rfl (fun ls hl => ?_)
        refine lv_aload_n hx hb d_Sht_isGood_77 rfl (lv_at hl 1 rfl) ?_
        refine lv_iload_n hx hb d_Sht_isGood_78 rfl (lv_at hl 3 rfl) ?_
        refine x_V (As := [.int xa]) (rest := []) hx hb hml hown hK (k_Sht_isCell l D cA adr N cn x dn h00 hN0 nn hv1 hn10 xa) t_494 t_1 t_491 t_493 ts_9 yk_Sht_isCell ⟨Nat.le_of_ble_eq_true rfl, Nat.le_of_ble_eq_true rfl⟩ (w_rec hK hP hN0 h00 rfl) hP rfl hl.1 rfl (Nat.le_of_ble_eq_true rfl) d_Sht_isGood_79 ⟨Nat.le_of_ble_eq_true rfl, Nat.le_of_ble_eq_true rfl⟩ hS (fun q h => h.elim) (fun r H locs hq _ hS => ?_)
        obtain ⟨rfl, hP⟩ := hq
        refine W.eq (g2 := F0 m 82 ls [.int (bi (decide (0 ≤ xa.toInt ∧ xa.toInt ≤ (nn : Int) - 1)))]) rfl ?_
        refine b_bool_eq (tgt := 102) hx hb d_Sht_isGood_82 (by decide) (fun c_7 => ?_) (fun c_7 => ?_)
        · have hc_7 := of_decide_eq_false c_7
          refine lv_iconst (v := 0) hx hb d_Sht_isGood_102 (by decide) ?_
          refine W.eq (g2 := F0 m 103 ls [.int (bi false)]) rfl ?_
          refine e_z hx hb hr hlk hQ hS d_Sht_isGood_103 ?_
          refine ⟨false, rfl, ?_, hP⟩
          refine ⟨fun h => absurd h (by decide), fun h => ?_⟩
          obtain ⟨⟨v0, v7, v1, v5, v8, v3⟩, vt⟩ := h; exfalso; omega
        · have hc_7 := of_decide_eq_true c_7
          refine lv_aload_n hx hb d_Sht_isGood_85 rfl (lv_at hl 1 rfl) ?_
          refine lv_iload_n hx hb d_Sht_isGood_86 rfl (lv_at hl 4 rfl) ?_
          refine x_V (As := [.int xb]) (rest := []) hx hb hml hown hK (k_Sht_isCell l D cA adr N cn x dn h00 hN0 nn hv1 hn10 xb) t_494 t_1 t_491 t_493 ts_9 yk_Sht_isCell ⟨Nat.le_of_ble_eq_true rfl, Nat.le_of_ble_eq_true rfl⟩ (w_rec hK hP hN0 h00 rfl) hP rfl hl.1 rfl (Nat.le_of_ble_eq_true rfl) d_Sht_isGood_87 ⟨Nat.le_of_ble_eq_true rfl, Nat.le_of_ble_eq_true rfl⟩ hS (fun q h => h.elim) (fun r H locs hq _ hS => ?_)
          obtain ⟨rfl, hP⟩ := hq
          refine W.eq (g2 := F0 m 90 ls [.int (bi (decide (0 ≤ xb.toInt ∧ xb.toInt ≤ (nn : Int) - 1)))]) rfl ?_
          refine b_bool_eq (tgt := 102) hx hb d_Sht_isGood_90 (by decide) (fun c_8 => ?_) (fun c_8 => ?_)
          · have hc_8 := of_decide_eq_false c_8
            refine lv_iconst (v := 0) hx hb d_Sht_isGood_102 (by decide) ?_
            refine W.eq (g2 := F0 m 103 ls [.int (bi false)]) rfl ?_
            refine e_z hx hb hr hlk hQ hS d_Sht_isGood_103 ?_
            refine ⟨false, rfl, ?_, hP⟩
            refine ⟨fun h => absurd h (by decide), fun h => ?_⟩
            obtain ⟨⟨v0, v7, v1, v5, v8, v3⟩, vt⟩ := h; exfalso; omega
          · have hc_8 := of_decide_eq_true c_8
            refine lv_iload hx hb d_Sht_isGood_93 (lv_at hl 0 rfl) ?_
            refine b_bool_eq (tgt := 102) hx hb d_Sht_isGood_95 (by decide) (fun c_9 => ?_) (fun c_9 => ?_)
            · have hc_9 := of_decide_eq_false c_9
              refine lv_iconst (v := 0) hx hb d_Sht_isGood_102 (by decide) ?_
              refine W.eq (g2 := F0 m 103 ls [.int (bi false)]) rfl ?_
              refine e_z hx hb hr hlk hQ hS d_Sht_isGood_103 ?_
              refine ⟨false, rfl, ?_, hP⟩
              refine ⟨fun h => absurd h (by decide), fun h => ?_⟩
              obtain ⟨⟨v0, v7, v1, v5, v8, v3⟩, vt⟩ := h; exfalso; omega
            · have hc_9 := of_decide_eq_true c_9
              refine lv_iconst (v := 1) hx hb d_Sht_isGood_98 (by decide) ?_
              refine lv_goto (tgt := 103) hx hb d_Sht_isGood_99 (by decide) ?_
              refine W.eq (g2 := F0 m 103 ls [.int (bi true)]) rfl ?_
              refine e_z hx hb hr hlk hQ hS d_Sht_isGood_103 ?_
              refine ⟨true, rfl, ?_, hP⟩
              exact ⟨fun _ => ⟨⟨by omega, fun h => absurd h (by omega), fun _ => by omega, fun _ => by omega, fun _ => by omega, fun _ _ _ => by omega⟩, fun h => absurd h (by omega)⟩, fun _ => rfl⟩
    · refine lv_iload hx hb d_Sht_isGood_39 (lv_at hl 4 rfl) ?_
      refine lv_sipush (v := (-200)) hx hb d_Sht_isGood_41 (by decide) ?_
      refine lv_sipush (v := 200) hx hb d_Sht_isGood_44 (by decide) ?_
      refine r_wn_Sht hx hb hml hown hK hl.1 hS ⟨Nat.le_of_ble_eq_true rfl, Nat.le_of_ble_eq_true rfl⟩ ⟨Nat.le_of_ble_eq_true rfl, Nat.le_of_ble_eq_true rfl⟩ rfl kc_m200 kc_200  d_Sht_isGood_47 (Nat.le_of_ble_eq_true rfl) (fun locs hS => ?_)
      refine lv_goto (tgt := 75) hx hb d_Sht_isGood_50 (by decide) ?_
      refine lv_istore (lv' := [(5, .int (bi (decide ((-200) ≤ xc.toInt ∧ xc.toInt ≤ 200)))), (0, .ref (adr 0)), (1, .int xk), (2, .int xa), (3, .int xb), (4, .int xc)]) hx hb d_Sht_isGood_75 hl (by decide) rfl (fun ls hl => ?_)
      refine lv_aload_n hx hb d_Sht_isGood_77 rfl (lv_at hl 1 rfl) ?_
      refine lv_iload_n hx hb d_Sht_isGood_78 rfl (lv_at hl 3 rfl) ?_
      refine x_V (As := [.int xa]) (rest := []) hx hb hml hown hK (k_Sht_isCell l D cA adr N cn x dn h00 hN0 nn hv1 hn10 xa) t_494 t_1 t_491 t_493 ts_9 yk_Sht_isCell ⟨Nat.le_of_ble_eq_true rfl, Nat.le_of_ble_eq_true rfl⟩ (w_rec hK hP hN0 h00 rfl) hP rfl hl.1 rfl (Nat.le_of_ble_eq_true rfl) d_Sht_isGood_79 ⟨Nat.le_of_ble_eq_true rfl, Nat.le_of_ble_eq_true rfl⟩ hS (fun q h => h.elim) (fun r H locs hq _ hS => ?_)
      obtain ⟨rfl, hP⟩ := hq
      refine W.eq (g2 := F0 m 82 ls [.int (bi (decide (0 ≤ xa.toInt ∧ xa.toInt ≤ (nn : Int) - 1)))]) rfl ?_
      refine b_bool_eq (tgt := 102) hx hb d_Sht_isGood_82 (by decide) (fun c_10 => ?_) (fun c_10 => ?_)
      · have hc_10 := of_decide_eq_false c_10
        refine lv_iconst (v := 0) hx hb d_Sht_isGood_102 (by decide) ?_
        refine W.eq (g2 := F0 m 103 ls [.int (bi false)]) rfl ?_
        refine e_z hx hb hr hlk hQ hS d_Sht_isGood_103 ?_
        refine ⟨false, rfl, ?_, hP⟩
        refine ⟨fun h => absurd h (by decide), fun h => ?_⟩
        obtain ⟨⟨v0, v7, v1, v5, v8, v3⟩, vt⟩ := h; exfalso; omega
      · have hc_10 := of_decide_eq_true c_10
        refine lv_aload_n hx hb d_Sht_isGood_85 rfl (lv_at hl 1 rfl) ?_
        refine lv_iload_n hx hb d_Sht_isGood_86 rfl (lv_at hl 4 rfl) ?_
        refine x_V (As := [.int xb]) (rest := []) hx hb hml hown hK (k_Sht_isCell l D cA adr N cn x dn h00 hN0 nn hv1 hn10 xb) t_494 t_1 t_491 t_493 ts_9 yk_Sht_isCell ⟨Nat.le_of_ble_eq_true rfl, Nat.le_of_ble_eq_true rfl⟩ (w_rec hK hP hN0 h00 rfl) hP rfl hl.1 rfl (Nat.le_of_ble_eq_true rfl) d_Sht_isGood_87 ⟨Nat.le_of_ble_eq_true rfl, Nat.le_of_ble_eq_true rfl⟩ hS (fun q h => h.elim) (fun r H locs hq _ hS => ?_)
        obtain ⟨rfl, hP⟩ := hq
        refine W.eq (g2 := F0 m 90 ls [.int (bi (decide (0 ≤ xb.toInt ∧ xb.toInt ≤ (nn : Int) - 1)))]) rfl ?_
        refine b_bool_eq (tgt := 102) hx hb d_Sht_isGood_90 (by decide) (fun c_11 => ?_) (fun c_11 => ?_)
        · have hc_11 := of_decide_eq_false c_11
          refine lv_iconst (v := 0) hx hb d_Sht_isGood_102 (by decide) ?_
          refine W.eq (g2 := F0 m 103 ls [.int (bi false)]) rfl ?_
          refine e_z hx hb hr hlk hQ hS d_Sht_isGood_103 ?_
          refine ⟨false, rfl, ?_, hP⟩
          refine ⟨fun h => absurd h (by decide), fun h => ?_⟩
          obtain ⟨⟨v0, v7, v1, v5, v8, v3⟩, vt⟩ := h; exfalso; omega
        · have hc_11 := of_decide_eq_true c_11
          refine lv_iload hx hb d_Sht_isGood_93 (lv_at hl 0 rfl) ?_
          refine b_bool_eq (tgt := 102) hx hb d_Sht_isGood_95 (by decide) (fun c_12 => ?_) (fun c_12 => ?_)
          · have hc_12 := of_decide_eq_false c_12
            refine lv_iconst (v := 0) hx hb d_Sht_isGood_102 (by decide) ?_
            refine W.eq (g2 := F0 m 103 ls [.int (bi false)]) rfl ?_
            refine e_z hx hb hr hlk hQ hS d_Sht_isGood_103 ?_
            refine ⟨false, rfl, ?_, hP⟩
            refine ⟨fun h => absurd h (by decide), fun h => ?_⟩
            obtain ⟨⟨v0, v7, v1, v5, v8, v3⟩, vt⟩ := h; exfalso; omega
          · have hc_12 := of_decide_eq_true c_12
            refine lv_iconst (v := 1) hx hb d_Sht_isGood_98 (by decide) ?_
            refine lv_goto (tgt := 103) hx hb d_Sht_isGood_99 (by decide) ?_
            refine W.eq (g2 := F0 m 103 ls [.int (bi true)]) rfl ?_
            refine e_z hx hb hr hlk hQ hS d_Sht_isGood_103 ?_
            refine ⟨true, rfl, ?_, hP⟩
            exact ⟨fun _ => ⟨⟨by omega, fun h => absurd h (by omega), fun _ => by omega, fun _ => by omega, fun _ => by omega, fun _ _ _ => by omega⟩, fun h => absurd h (by omega)⟩, fun _ => rfl⟩
  · refine lv_iload_n hx hb d_Sht_isGood_6 rfl (lv_at hl 2 rfl) ?_
    refine b_if_le (tgt := 32) hx hb d_Sht_isGood_7 (by decide) rfl (fun c_13 => ?_) (fun c_13 => ?_)
    · refine lv_iconst (v := 0) hx hb d_Sht_isGood_32 (by decide) ?_
      refine W.eq (g2 := F0 m 33 ls [.int (bi false)]) rfl ?_
      refine e_z hx hb hr hlk hQ hS d_Sht_isGood_33 ?_
      refine ⟨false, rfl, ?_, hP⟩
      refine ⟨fun h => absurd h (by decide), fun h => ?_⟩
      obtain ⟨⟨v0, v7, v1, v5, v8, v3⟩, vt⟩ := h
      have v7 := v7 (by omega); have vt := vt (by omega); exfalso; first | omega | exact hTB vt
    · refine lv_iload_n hx hb d_Sht_isGood_10 rfl (lv_at hl 2 rfl) ?_
      refine lv_iconst (v := 1) hx hb d_Sht_isGood_11 (by decide) ?_
      refine lv_aload_n hx hb d_Sht_isGood_12 rfl (lv_at hl 0 rfl) ?_
      refine w_gf hx hb hK i_Sht hown hP hN0 h00 rfl 1 (by decide) t_86 rfl rfl d_Sht_isGood_13 ?_
      refine x_shl1 hx hb d_Sht_isGood_16 (nn) hv1 (by omega) (by omega) (fun z_14 tz_14 => ?_)
      refine b_icmp_ge (tgt := 32) hx hb d_Sht_isGood_17 (by decide) rfl tz_14 (fun c_15 => ?_) (fun c_15 => ?_)
      · refine lv_iconst (v := 0) hx hb d_Sht_isGood_32 (by decide) ?_
        refine W.eq (g2 := F0 m 33 ls [.int (bi false)]) rfl ?_
        refine e_z hx hb hr hlk hQ hS d_Sht_isGood_33 ?_
        refine ⟨false, rfl, ?_, hP⟩
        refine ⟨fun h => absurd h (by decide), fun h => ?_⟩
        obtain ⟨⟨v0, v7, v1, v5, v8, v3⟩, vt⟩ := h
        have v7 := v7 (by omega); have vt := vt (by omega); exfalso; first | omega | exact hTB vt
      · refine lv_iload_n hx hb d_Sht_isGood_20 rfl (lv_at hl 2 rfl) ?_
        refine lv_iload_n hx hb d_Sht_isGood_21 rfl (lv_at hl 2 rfl) ?_
        refine lv_iconst (v := 1) hx hb d_Sht_isGood_22 (by decide) ?_
        refine x_sub hx hb d_Sht_isGood_23 rfl kc_1 (by omega) (fun z_16 tz_16 => ?_)
        have hq1 : z_16.toInt = ((xa.toInt.toNat - 1 : Nat) : Int) := by omega
        have hq2 : xa.toInt = (xa.toInt.toNat : Int) := by omega
        refine x_andN hx hb d_Sht_isGood_24 xa.toInt.toNat (xa.toInt.toNat - 1) hq2 hq1 rfl rfl (fun z_17 tz_17 => ?_)
        refine b_if_eq (tgt := 32) hx hb d_Sht_isGood_25 (by decide) tz_17 (fun c_18 => ?_) (fun c_18 => ?_)
        · have hTB : ¬ TB xa.toInt.toNat := fun h => h (by omega)
          refine lv_iconst (v := 0) hx hb d_Sht_isGood_32 (by decide) ?_
          refine W.eq (g2 := F0 m 33 ls [.int (bi false)]) rfl ?_
          refine e_z hx hb hr hlk hQ hS d_Sht_isGood_33 ?_
          refine ⟨false, rfl, ?_, hP⟩
          refine ⟨fun h => absurd h (by decide), fun h => ?_⟩
          obtain ⟨⟨v0, v7, v1, v5, v8, v3⟩, vt⟩ := h
          have v7 := v7 (by omega); have vt := vt (by omega); exfalso; first | omega | exact hTB vt
        · have hTB : TB xa.toInt.toNat := fun h => by omega
          refine lv_iconst (v := 1) hx hb d_Sht_isGood_28 (by decide) ?_
          refine lv_goto (tgt := 33) hx hb d_Sht_isGood_29 (by decide) ?_
          refine W.eq (g2 := F0 m 33 ls [.int (bi true)]) rfl ?_
          refine e_z hx hb hr hlk hQ hS d_Sht_isGood_33 ?_
          refine ⟨true, rfl, ?_, hP⟩
          exact ⟨fun _ => ⟨⟨by omega, fun _ => ⟨by omega, by omega, by omega⟩, fun h => absurd (by omega) h, fun h => by omega, fun h => by omega, fun _ h => absurd (by omega) h⟩, fun _ => hTB⟩, fun _ => rfl⟩
theorem d_Sht_cell_0 : decode b_Sht_cell 0 = .ok (.iload_n 1, 1) := by decide +kernel
theorem d_Sht_cell_1 : decode b_Sht_cell 1 = .ok (.iload_n 2, 1) := by decide +kernel
theorem d_Sht_cell_2 : decode b_Sht_cell 2 = .ok (.invokestatic 69, 3) := by decide +kernel
theorem d_Sht_cell_5 : decode b_Sht_cell 5 = .ok (.invokestatic 73, 3) := by decide +kernel
set_option maxHeartbeats 4000000 in
set_option maxRecDepth 20000 in
theorem k_Sht_cell_T1 (l : Launch) (htr : l.stackTraces = false) (D : va_G) (cA : Nat → ClassId) (adr : Nat → Nat) (N : List Nat) (cn : Nat → va_E) (x : Nat → Int32) (dn : Bool) (h00 : cn 0 = .inr (1, SF adr x dn)) (hN0 : 0 ∈ N) (nn : Nat) (hv1 : (x 1).toInt = (nn : Int)) (hn10 : nn ≤ 10) (xa xb : Int32) (h0 : ¬ (-100 ≤ xa.toInt ∧ xb.toInt ≤ 100 ∧ xa.toInt ≤ xb.toInt)) : CtT l y_Sht_cell b_Sht_cell 3 (some .int) 9 D cA [.ref (adr 0), .int xa, .int xb] (fun H => va_P D classes (wl N adr cn) H) "java/lang/IllegalArgumentException" := by
  refine CtT.mk (by decide) (Nat.le_of_ble_eq_true rfl) ?_
  intro p e s m args below meth c Q H locs ls hx hb hr hml hlk hown hin hK hTh hex hQ hS hP hl
  have hl : lv_has ls 3 [(0, .ref (adr 0)), (1, .int xa), (2, .int xb)] := hl
  have hown : s.vm.findClass "RangeSheet" = some m.cls := hown
  refine lv_iload_n hx hb d_Sht_cell_0 rfl (lv_at hl 1 rfl) ?_
  refine lv_iload_n hx hb d_Sht_cell_1 rfl (lv_at hl 2 rfl) ?_
  refine r_isR_Sht hx hb hml hown hK hl.1 hS ⟨Nat.le_of_ble_eq_true rfl, Nat.le_of_ble_eq_true rfl⟩ ⟨Nat.le_of_ble_eq_true rfl, Nat.le_of_ble_eq_true rfl⟩ rfl rfl  d_Sht_cell_2 (Nat.le_of_ble_eq_true rfl) (fun locs hS => ?_)
  exact t_S (As := [.int (bi (decide (-100 ≤ xa.toInt ∧ xb.toInt ≤ 100 ∧ xa.toInt ≤ xb.toInt)))]) (rest := []) hx hb hml hown hK hTh (k_Sht_need_T l htr D cA (decide (-100 ≤ xa.toInt ∧ xb.toInt ≤ 100 ∧ xa.toInt ≤ xb.toInt)) (decide_eq_false (by omega))) t_399 t_1 t_397 t_398 yk_Sht_need ⟨Nat.le_of_ble_eq_true rfl, Nat.le_of_ble_eq_true rfl⟩ ⟨Nat.le_of_ble_eq_true rfl, Nat.le_of_ble_eq_true rfl⟩ trivial rfl hl.1 rfl (Nat.le_of_ble_eq_true rfl) d_Sht_cell_5 hS hex hlk hQ
theorem d_Sht_cell_8 : decode b_Sht_cell 8 = .ok (.aload_n 0, 1) := by decide +kernel
theorem d_Sht_cell_9 : decode b_Sht_cell 9 = .ok (.getfield 55, 3) := by decide +kernel
theorem d_Sht_cell_12 : decode b_Sht_cell 12 = .ok (.bipush 10, 2) := by decide +kernel
theorem d_Sht_cell_14 : decode b_Sht_cell 14 = .ok (.if_icmp .ge 7, 3) := by decide +kernel
theorem d_Sht_cell_17 : decode b_Sht_cell 17 = .ok (.iconst 1, 1) := by decide +kernel
theorem d_Sht_cell_18 : decode b_Sht_cell 18 = .ok (.goto 4, 3) := by decide +kernel
theorem d_Sht_cell_21 : decode b_Sht_cell 21 = .ok (.iconst 0, 1) := by decide +kernel
theorem d_Sht_cell_22 : decode b_Sht_cell 22 = .ok (.invokestatic 77, 3) := by decide +kernel
set_option maxHeartbeats 4000000 in
set_option maxRecDepth 20000 in
theorem k_Sht_cell_T2 (l : Launch) (htr : l.stackTraces = false) (D : va_G) (cA : Nat → ClassId) (adr : Nat → Nat) (N : List Nat) (cn : Nat → va_E) (x : Nat → Int32) (dn : Bool) (h00 : cn 0 = .inr (1, SF adr x dn)) (hN0 : 0 ∈ N) (nn : Nat) (hv1 : (x 1).toInt = (nn : Int)) (hn10 : nn ≤ 10) (xa xb : Int32) (h0 : (-100 ≤ xa.toInt ∧ xb.toInt ≤ 100 ∧ xa.toInt ≤ xb.toInt)) (h1 : nn = 10) : CtT l y_Sht_cell b_Sht_cell 3 (some .int) 9 D cA [.ref (adr 0), .int xa, .int xb] (fun H => va_P D classes (wl N adr cn) H) "java/lang/IllegalStateException" := by
  refine CtT.mk (by decide) (Nat.le_of_ble_eq_true rfl) ?_
  intro p e s m args below meth c Q H locs ls hx hb hr hml hlk hown hin hK hTh hex hQ hS hP hl
  have hl : lv_has ls 3 [(0, .ref (adr 0)), (1, .int xa), (2, .int xb)] := hl
  have hown : s.vm.findClass "RangeSheet" = some m.cls := hown
  refine lv_iload_n hx hb d_Sht_cell_0 rfl (lv_at hl 1 rfl) ?_
  refine lv_iload_n hx hb d_Sht_cell_1 rfl (lv_at hl 2 rfl) ?_
  refine r_isR_Sht hx hb hml hown hK hl.1 hS ⟨Nat.le_of_ble_eq_true rfl, Nat.le_of_ble_eq_true rfl⟩ ⟨Nat.le_of_ble_eq_true rfl, Nat.le_of_ble_eq_true rfl⟩ rfl rfl  d_Sht_cell_2 (Nat.le_of_ble_eq_true rfl) (fun locs hS => ?_)
  refine r_Sht_need hx hb hml hown hK hl.1 hS ⟨Nat.le_of_ble_eq_true rfl, Nat.le_of_ble_eq_true rfl⟩ ⟨Nat.le_of_ble_eq_true rfl, Nat.le_of_ble_eq_true rfl⟩ (decide_eq_true (by omega)) d_Sht_cell_5 (Nat.le_of_ble_eq_true rfl) (fun locs hS => ?_)
  refine lv_aload_n hx hb d_Sht_cell_8 rfl (lv_at hl 0 rfl) ?_
  refine w_gf hx hb hK i_Sht hown hP hN0 h00 rfl 1 (by decide) t_86 rfl rfl d_Sht_cell_9 ?_
  refine lv_bipush (v := 10) hx hb d_Sht_cell_12 (by decide) ?_
  refine b_icmp_ge (tgt := 21) hx hb d_Sht_cell_14 (by decide) hv1 kc_10 (fun c_1 => ?_) (fun c_1 => ?_)
  · refine lv_iconst (v := 0) hx hb d_Sht_cell_21 (by decide) ?_
    refine W.eq (g2 := F0 m 22 ls (.int (bi false) :: [])) rfl ?_
    exact t_S (As := [.int (bi false)]) (rest := []) hx hb hml hown hK hTh (k_Sht_needRoom_T l htr D cA false rfl) t_464 t_1 t_462 t_463 yk_Sht_needRoom ⟨Nat.le_of_ble_eq_true rfl, Nat.le_of_ble_eq_true rfl⟩ ⟨Nat.le_of_ble_eq_true rfl, Nat.le_of_ble_eq_true rfl⟩ trivial rfl hl.1 rfl (Nat.le_of_ble_eq_true rfl) d_Sht_cell_22 hS hex hlk hQ
  · refine lv_iconst (v := 1) hx hb d_Sht_cell_17 (by decide) ?_
    refine lv_goto (tgt := 22) hx hb d_Sht_cell_18 (by decide) ?_
    exfalso; omega
theorem d_Sht_cell_25 : decode b_Sht_cell 25 = .ok (.aload_n 0, 1) := by decide +kernel
theorem d_Sht_cell_26 : decode b_Sht_cell 26 = .ok (.getfield 16, 3) := by decide +kernel
theorem d_Sht_cell_29 : decode b_Sht_cell 29 = .ok (.getfield 80, 3) := by decide +kernel
theorem d_Sht_cell_32 : decode b_Sht_cell 32 = .ok (.aload_n 0, 1) := by decide +kernel
theorem d_Sht_cell_33 : decode b_Sht_cell 33 = .ok (.getfield 55, 3) := by decide +kernel
theorem d_Sht_cell_36 : decode b_Sht_cell 36 = .ok (.iload_n 1, 1) := by decide +kernel
theorem d_Sht_cell_37 : decode b_Sht_cell 37 = .ok (.iastore, 1) := by decide +kernel
theorem d_Sht_cell_38 : decode b_Sht_cell 38 = .ok (.aload_n 0, 1) := by decide +kernel
theorem d_Sht_cell_39 : decode b_Sht_cell 39 = .ok (.getfield 16, 3) := by decide +kernel
theorem d_Sht_cell_42 : decode b_Sht_cell 42 = .ok (.getfield 83, 3) := by decide +kernel
theorem d_Sht_cell_45 : decode b_Sht_cell 45 = .ok (.aload_n 0, 1) := by decide +kernel
theorem d_Sht_cell_46 : decode b_Sht_cell 46 = .ok (.getfield 55, 3) := by decide +kernel
theorem d_Sht_cell_49 : decode b_Sht_cell 49 = .ok (.iload_n 2, 1) := by decide +kernel
theorem d_Sht_cell_50 : decode b_Sht_cell 50 = .ok (.iastore, 1) := by decide +kernel
theorem d_Sht_cell_51 : decode b_Sht_cell 51 = .ok (.aload_n 0, 1) := by decide +kernel
theorem d_Sht_cell_52 : decode b_Sht_cell 52 = .ok (.dup, 1) := by decide +kernel
theorem d_Sht_cell_53 : decode b_Sht_cell 53 = .ok (.getfield 55, 3) := by decide +kernel
theorem d_Sht_cell_56 : decode b_Sht_cell 56 = .ok (.dup_x1, 1) := by decide +kernel
theorem d_Sht_cell_57 : decode b_Sht_cell 57 = .ok (.iconst 1, 1) := by decide +kernel
theorem d_Sht_cell_58 : decode b_Sht_cell 58 = .ok (.iadd, 1) := by decide +kernel
theorem d_Sht_cell_59 : decode b_Sht_cell 59 = .ok (.putfield 55, 3) := by decide +kernel
theorem d_Sht_cell_62 : decode b_Sht_cell 62 = .ok (.ireturn, 1) := by decide +kernel
set_option maxHeartbeats 4000000 in
set_option maxRecDepth 20000 in
theorem k_Sht_cell (l : Launch) (D : va_G) (cA : Nat → ClassId) (adr : Nat → Nat) (N : List Nat) (hi : wI N adr) (cn : Nat → va_E) (F : Nat → Nat → Int32) (I : Nat → Int32) (nn mm en mk0 : Nat) (x : Nat → Int32) (dn : Bool) (hCP : CP cA adr cn I F mm x dn) (hNm : ∀ k, k < 56 + mm → k ∈ N) (hWF : WF I F nn mm en mk0) (xa xb : Int32) (h0 : (-100 ≤ xa.toInt ∧ xb.toInt ≤ 100 ∧ xa.toInt ≤ xb.toInt)) (h1 : nn < 10) : Ct l y_Sht_cell b_Sht_cell 3 (some .int) 3 D cA [.ref (adr 0), .int xa, .int xb] (fun H => va_P D classes (wl N adr cn) H) (fun r H => ∃ z : Int32, r = some (.int z) ∧ z.toInt = (nn : Int) ∧ CQ D cA adr N (va_up I 1 (Int32.ofInt ((nn : Int) + 1))) (G_cell F nn xa xb) mm H) (wA N adr) := by
  refine Ct.mk (by decide) (Nat.le_of_ble_eq_true rfl) ?_
  intro p e s m args below meth c Q H locs ls hx hb hr hml hlk hown hin hK hQ hS hP hl
  have hl : lv_has ls 3 [(0, .ref (adr 0)), (1, .int xa), (2, .int xb)] := hl
  have hown : s.vm.findClass "RangeSheet" = some m.cls := hown
  have hWF0 := hWF
  have hCP0 := hCP
  obtain ⟨hW, hE, hen, ⟨hmk, hmke⟩, htd, hsp, hsd, hset, hgd⟩ := hWF
  obtain ⟨hSR, ⟨hx1, hx3, hx8, hx9, hx11, hx14, hx18⟩, ⟨hc2, hc3, hc4, hc5, hc6, hc7⟩, ⟨cf, hBf⟩, ⟨fn0, gn0, cn0, hBn, hBne⟩, hBx⟩ := hCP
  obtain ⟨f, g, ch, hB⟩ := hBx 0 (by omega)
  have hB : BP cA adr cn 14 f g ch := hB
  have hn10 := hW.1
  have hm12 := hW.2.1
  have hen12 := hE.1
  have hv1 : (x 1).toInt = (nn : Int) := by rw [hx1]; exact hW.2.2.1
  have hv8 : (x 8).toInt = (en : Int) := by rw [hx8]; exact hen
  have hv9 : (x 9).toInt = (mk0 : Int) := by rw [hx9]; exact hmk
  have hN0 : 0 ∈ N := hNm 0 (by omega)
  refine lv_iload_n hx hb d_Sht_cell_0 rfl (lv_at hl 1 rfl) ?_
  refine lv_iload_n hx hb d_Sht_cell_1 rfl (lv_at hl 2 rfl) ?_
  refine r_isR_Sht hx hb hml hown hK hl.1 hS ⟨Nat.le_of_ble_eq_true rfl, Nat.le_of_ble_eq_true rfl⟩ ⟨Nat.le_of_ble_eq_true rfl, Nat.le_of_ble_eq_true rfl⟩ rfl rfl  d_Sht_cell_2 (Nat.le_of_ble_eq_true rfl) (fun locs hS => ?_)
  refine r_Sht_need hx hb hml hown hK hl.1 hS ⟨Nat.le_of_ble_eq_true rfl, Nat.le_of_ble_eq_true rfl⟩ ⟨Nat.le_of_ble_eq_true rfl, Nat.le_of_ble_eq_true rfl⟩ (decide_eq_true (by omega)) d_Sht_cell_5 (Nat.le_of_ble_eq_true rfl) (fun locs hS => ?_)
  refine lv_aload_n hx hb d_Sht_cell_8 rfl (lv_at hl 0 rfl) ?_
  refine w_gf hx hb hK i_Sht hown hP (hNm 0 (by omega)) hSR.1 rfl 1 (by decide) t_86 rfl rfl d_Sht_cell_9 ?_
  refine lv_bipush (v := 10) hx hb d_Sht_cell_12 (by decide) ?_
  refine b_icmp_ge (tgt := 21) hx hb d_Sht_cell_14 (by decide) hv1 kc_10 (fun c_1 => ?_) (fun c_1 => ?_)
  · refine lv_iconst (v := 0) hx hb d_Sht_cell_21 (by decide) ?_
    exfalso; omega
  · refine lv_iconst (v := 1) hx hb d_Sht_cell_17 (by decide) ?_
    refine lv_goto (tgt := 22) hx hb d_Sht_cell_18 (by decide) ?_
    refine W.eq (g2 := F0 m 22 ls (.int (bi true) :: [])) rfl ?_
    refine r_Sht_needRoom hx hb hml hown hK hl.1 hS ⟨Nat.le_of_ble_eq_true rfl, Nat.le_of_ble_eq_true rfl⟩ ⟨Nat.le_of_ble_eq_true rfl, Nat.le_of_ble_eq_true rfl⟩ rfl d_Sht_cell_22 (Nat.le_of_ble_eq_true rfl) (fun locs hS => ?_)
    refine lv_aload_n hx hb d_Sht_cell_25 rfl (lv_at hl 0 rfl) ?_
    refine w_gf hx hb hK i_Sht hown hP (hNm 0 (by omega)) hSR.1 rfl 0 (by decide) t_85 rfl rfl d_Sht_cell_26 ?_
    refine w_gfN hx hb hK i_Box hown hP (hNm 8 (by omega)) hBf.1 rfl 0 (by decide) t_42 rfl rfl d_Sht_cell_29 ?_
    refine lv_aload_n hx hb d_Sht_cell_32 rfl (lv_at hl 0 rfl) ?_
    refine w_gf hx hb hK i_Sht hown hP (hNm 0 (by omega)) hSR.1 rfl 1 (by decide) t_86 rfl rfl d_Sht_cell_33 ?_
    refine lv_iload_n hx hb d_Sht_cell_36 rfl (lv_at hl 1 rfl) ?_
    refine w_st hx hb hK hi hP hS wA_mem (hNm (8 + 1) (by omega)) hBf.2.1 (nn) hv1 (by omega) (show nn < 10 by omega) d_Sht_cell_37 (fun H locs hP hS => ?_)
    obtain ⟨cn_2, ecn_2⟩ : ∃ q : Nat → va_E, q = va_up cn (8 + 1) (.inl (cA 0, 10, .inl (upd (F 2) nn xa))) := ⟨_, rfl⟩
    have hP : va_P D classes (wl N adr cn_2) H := by rw [ecn_2]; exact hP
    have ho_2_3 : cn_2 0 = .inr (1, [.ref (adr 8), .int (x 1), .ref (adr 1), .int (x 3), .ref (adr 2), .ref (adr 3), .ref (adr 4), .ref (adr 5), .int (x 8), .int (x 9), .ref (adr 11), .int (x 11), .ref (adr 6), .int (x 13), .int (x 14), .int (x 15), .int (bi dn), .ref (adr 7), .int (x 18)]) := by rw [ecn_2, va_up_ne _ _ (by omega)]; exact hSR.1
    have ho_2_4 : cn_2 1 = .inl (cA 3, 12, .inr (.inr (.inr (.inr (fun k => if k < mm then some (adr (56 + k)) else none))))) := by rw [ecn_2, va_up_ne _ _ (by omega)]; exact hSR.2.1
    have ho_2_5 : cn_2 3 = .inl (cA 0, 12, .inl (F 14)) := by rw [ecn_2, va_up_ne _ _ (by omega)]; exact hc3
    have ho_2_6 : cn_2 4 = .inl (cA 0, 12, .inl (F 15)) := by rw [ecn_2, va_up_ne _ _ (by omega)]; exact hc4
    have ho_2_7 : cn_2 5 = .inl (cA 0, 12, .inl (F 16)) := by rw [ecn_2, va_up_ne _ _ (by omega)]; exact hc5
    have ho_2_8 : cn_2 7 = .inl (cA 0, 10, .inl (F 33)) := by rw [ecn_2, va_up_ne _ _ (by omega)]; exact hc7
    have ho_2_9 : cn_2 6 = .inl (cA 5, 11, .inr (.inr (.inr (.inr (fun k => if k < 11 then some (adr (14 + 3 * k)) else none))))) := by rw [ecn_2, va_up_ne _ _ (by omega)]; exact hc6
    have ho_2_10 : cn_2 8 = .inr (2, [.ref (adr (8 + 1)), .ref (adr (8 + 2)), .int (bi cf)]) := by rw [ecn_2, va_up_ne _ _ (by omega)]; exact hBf.1
    have ho_2_11 : cn_2 (8 + 1) = .inl (cA 0, 10, .inl (upd (F 2) nn xa)) := by rw [ecn_2]; exact va_up_self _ _ _
    have ho_2_12 : cn_2 (8 + 2) = .inl (cA 0, 10, .inl (F 3)) := by rw [ecn_2, va_up_ne _ _ (by omega)]; exact hBf.2.2
    refine lv_aload_n hx hb d_Sht_cell_38 rfl (lv_at hl 0 rfl) ?_
    refine w_gf hx hb hK i_Sht hown hP (hNm 0 (by omega)) ho_2_3 rfl 0 (by decide) t_85 rfl rfl d_Sht_cell_39 ?_
    refine w_gfN hx hb hK i_Box hown hP (hNm 8 (by omega)) ho_2_10 rfl 1 (by decide) t_48 rfl rfl d_Sht_cell_42 ?_
    refine lv_aload_n hx hb d_Sht_cell_45 rfl (lv_at hl 0 rfl) ?_
    refine w_gf hx hb hK i_Sht hown hP (hNm 0 (by omega)) ho_2_3 rfl 1 (by decide) t_86 rfl rfl d_Sht_cell_46 ?_
    refine lv_iload_n hx hb d_Sht_cell_49 rfl (lv_at hl 2 rfl) ?_
    refine w_st hx hb hK hi hP hS wA_mem (hNm (8 + 2) (by omega)) ho_2_12 (nn) hv1 (by omega) (show nn < 10 by omega) d_Sht_cell_50 (fun H locs hP hS => ?_)
    obtain ⟨cn_13, ecn_13⟩ : ∃ q : Nat → va_E, q = va_up cn_2 (8 + 2) (.inl (cA 0, 10, .inl (upd (F 3) nn xb))) := ⟨_, rfl⟩
    have hP : va_P D classes (wl N adr cn_13) H := by rw [ecn_13]; exact hP
    have ho_13_14 : cn_13 0 = .inr (1, [.ref (adr 8), .int (x 1), .ref (adr 1), .int (x 3), .ref (adr 2), .ref (adr 3), .ref (adr 4), .ref (adr 5), .int (x 8), .int (x 9), .ref (adr 11), .int (x 11), .ref (adr 6), .int (x 13), .int (x 14), .int (x 15), .int (bi dn), .ref (adr 7), .int (x 18)]) := by rw [ecn_13, va_up_ne _ _ (by omega)]; exact ho_2_3
    have ho_13_15 : cn_13 1 = .inl (cA 3, 12, .inr (.inr (.inr (.inr (fun k => if k < mm then some (adr (56 + k)) else none))))) := by rw [ecn_13, va_up_ne _ _ (by omega)]; exact ho_2_4
    have ho_13_16 : cn_13 3 = .inl (cA 0, 12, .inl (F 14)) := by rw [ecn_13, va_up_ne _ _ (by omega)]; exact ho_2_5
    have ho_13_17 : cn_13 4 = .inl (cA 0, 12, .inl (F 15)) := by rw [ecn_13, va_up_ne _ _ (by omega)]; exact ho_2_6
    have ho_13_18 : cn_13 5 = .inl (cA 0, 12, .inl (F 16)) := by rw [ecn_13, va_up_ne _ _ (by omega)]; exact ho_2_7
    have ho_13_19 : cn_13 7 = .inl (cA 0, 10, .inl (F 33)) := by rw [ecn_13, va_up_ne _ _ (by omega)]; exact ho_2_8
    have ho_13_20 : cn_13 6 = .inl (cA 5, 11, .inr (.inr (.inr (.inr (fun k => if k < 11 then some (adr (14 + 3 * k)) else none))))) := by rw [ecn_13, va_up_ne _ _ (by omega)]; exact ho_2_9
    have ho_13_21 : cn_13 8 = .inr (2, [.ref (adr (8 + 1)), .ref (adr (8 + 2)), .int (bi cf)]) := by rw [ecn_13, va_up_ne _ _ (by omega)]; exact ho_2_10
    have ho_13_22 : cn_13 (8 + 1) = .inl (cA 0, 10, .inl (upd (F 2) nn xa)) := by rw [ecn_13, va_up_ne _ _ (by omega)]; exact ho_2_11
    have ho_13_23 : cn_13 (8 + 2) = .inl (cA 0, 10, .inl (upd (F 3) nn xb)) := by rw [ecn_13]; exact va_up_self _ _ _
    refine lv_aload_n hx hb d_Sht_cell_51 rfl (lv_at hl 0 rfl) ?_
    refine lv_dup hx hb d_Sht_cell_52 rfl ?_
    refine w_gf hx hb hK i_Sht hown hP (hNm 0 (by omega)) ho_13_14 rfl 1 (by decide) t_86 rfl rfl d_Sht_cell_53 ?_
    refine lv_dup_x1 hx hb d_Sht_cell_56 rfl rfl ?_
    refine lv_iconst (v := 1) hx hb d_Sht_cell_57 (by decide) ?_
    refine x_add hx hb d_Sht_cell_58 hv1 kc_1 (by omega) (fun z_24 tz_24 => ?_)
    refine w_pf hx hb hK i_Sht t_Sht t_Sht_ok n_Sht hown hi hP hS wA_mem (hNm 0 (by omega)) ho_13_14 rfl 1 (by decide) t_86 rfl rfl rfl rfl rfl d_Sht_cell_59 (fun H locs hP hS => ?_)
    obtain ⟨cn_25, ecn_25⟩ : ∃ q : Nat → va_E, q = va_up cn_13 0 (.inr (1, [.ref (adr 8), .int z_24, .ref (adr 1), .int (x 3), .ref (adr 2), .ref (adr 3), .ref (adr 4), .ref (adr 5), .int (x 8), .int (x 9), .ref (adr 11), .int (x 11), .ref (adr 6), .int (x 13), .int (x 14), .int (x 15), .int (bi dn), .ref (adr 7), .int (x 18)])) := ⟨_, rfl⟩
    have hP : va_P D classes (wl N adr cn_25) H := by rw [ecn_25]; exact hP
    have ho_25_26 : cn_25 0 = .inr (1, [.ref (adr 8), .int z_24, .ref (adr 1), .int (x 3), .ref (adr 2), .ref (adr 3), .ref (adr 4), .ref (adr 5), .int (x 8), .int (x 9), .ref (adr 11), .int (x 11), .ref (adr 6), .int (x 13), .int (x 14), .int (x 15), .int (bi dn), .ref (adr 7), .int (x 18)]) := by rw [ecn_25]; exact va_up_self _ _ _
    have ho_25_27 : cn_25 1 = .inl (cA 3, 12, .inr (.inr (.inr (.inr (fun k => if k < mm then some (adr (56 + k)) else none))))) := by rw [ecn_25, va_up_ne _ _ (by omega)]; exact ho_13_15
    have ho_25_28 : cn_25 3 = .inl (cA 0, 12, .inl (F 14)) := by rw [ecn_25, va_up_ne _ _ (by omega)]; exact ho_13_16
    have ho_25_29 : cn_25 4 = .inl (cA 0, 12, .inl (F 15)) := by rw [ecn_25, va_up_ne _ _ (by omega)]; exact ho_13_17
    have ho_25_30 : cn_25 5 = .inl (cA 0, 12, .inl (F 16)) := by rw [ecn_25, va_up_ne _ _ (by omega)]; exact ho_13_18
    have ho_25_31 : cn_25 7 = .inl (cA 0, 10, .inl (F 33)) := by rw [ecn_25, va_up_ne _ _ (by omega)]; exact ho_13_19
    have ho_25_32 : cn_25 6 = .inl (cA 5, 11, .inr (.inr (.inr (.inr (fun k => if k < 11 then some (adr (14 + 3 * k)) else none))))) := by rw [ecn_25, va_up_ne _ _ (by omega)]; exact ho_13_20
    have ho_25_33 : cn_25 8 = .inr (2, [.ref (adr (8 + 1)), .ref (adr (8 + 2)), .int (bi cf)]) := by rw [ecn_25, va_up_ne _ _ (by omega)]; exact ho_13_21
    have ho_25_34 : cn_25 (8 + 1) = .inl (cA 0, 10, .inl (upd (F 2) nn xa)) := by rw [ecn_25, va_up_ne _ _ (by omega)]; exact ho_13_22
    have ho_25_35 : cn_25 (8 + 2) = .inl (cA 0, 10, .inl (upd (F 3) nn xb)) := by rw [ecn_25, va_up_ne _ _ (by omega)]; exact ho_13_23
    refine e_i hx hb hr hlk hQ hS d_Sht_cell_62 ?_
    have ez := i32_of (show z_24.toInt = (nn : Int) + 1 by omega)
    have hC9 := CP.cell (nn := nn) (lo := xa) (hh := xb) (v := z_24) hCP0 ho_25_26 ⟨ho_25_33, ho_25_34, ho_25_35⟩ (fun k a0 a1 a2 a3 => ((congrFun ecn_25 k).trans ((va_up_ne _ _ a0).trans ((congrFun ecn_13 k).trans ((va_up_ne _ _ a3).trans ((congrFun ecn_2 k).trans ((va_up_ne _ _ a2).trans rfl)))))))
    rw [ez] at hC9
    exact ⟨_, rfl, hv1, CQ.of hC9 hP⟩
theorem d_Sht_set_0 : decode b_Sht_set 0 = .ok (.aload_n 0, 1) := by decide +kernel
theorem d_Sht_set_1 : decode b_Sht_set 1 = .ok (.iload_n 1, 1) := by decide +kernel
theorem d_Sht_set_2 : decode b_Sht_set 2 = .ok (.invokevirtual 86, 3) := by decide +kernel
theorem d_Sht_set_5 : decode b_Sht_set 5 = .ok (.ifCond .eq 15, 3) := by decide +kernel
theorem d_Sht_set_8 : decode b_Sht_set 8 = .ok (.iload_n 2, 1) := by decide +kernel
theorem d_Sht_set_9 : decode b_Sht_set 9 = .ok (.iload_n 3, 1) := by decide +kernel
theorem d_Sht_set_10 : decode b_Sht_set 10 = .ok (.invokestatic 69, 3) := by decide +kernel
theorem d_Sht_set_13 : decode b_Sht_set 13 = .ok (.ifCond .eq 7, 3) := by decide +kernel
theorem d_Sht_set_16 : decode b_Sht_set 16 = .ok (.iconst 1, 1) := by decide +kernel
theorem d_Sht_set_17 : decode b_Sht_set 17 = .ok (.goto 4, 3) := by decide +kernel
theorem d_Sht_set_20 : decode b_Sht_set 20 = .ok (.iconst 0, 1) := by decide +kernel
theorem d_Sht_set_21 : decode b_Sht_set 21 = .ok (.invokestatic 73, 3) := by decide +kernel
set_option maxHeartbeats 4000000 in
set_option maxRecDepth 20000 in
theorem k_Sht_set_T1 (l : Launch) (htr : l.stackTraces = false) (D : va_G) (cA : Nat → ClassId) (adr : Nat → Nat) (N : List Nat) (cn : Nat → va_E) (x : Nat → Int32) (dn : Bool) (h00 : cn 0 = .inr (1, SF adr x dn)) (hN0 : 0 ∈ N) (nn : Nat) (hv1 : (x 1).toInt = (nn : Int)) (hn10 : nn ≤ 10) (xk xa xb : Int32) (h0 : ¬ ((0 ≤ xk.toInt ∧ xk.toInt < (nn : Int)) ∧ -100 ≤ xa.toInt ∧ xb.toInt ≤ 100 ∧ xa.toInt ≤ xb.toInt)) : CtT l y_Sht_set b_Sht_set 4 (some .int) 9 D cA [.ref (adr 0), .int xk, .int xa, .int xb] (fun H => va_P D classes (wl N adr cn) H) "java/lang/IllegalArgumentException" := by
  refine CtT.mk (by decide) (Nat.le_of_ble_eq_true rfl) ?_
  intro p e s m args below meth c Q H locs ls hx hb hr hml hlk hown hin hK hTh hex hQ hS hP hl
  have hl : lv_has ls 4 [(0, .ref (adr 0)), (1, .int xk), (2, .int xa), (3, .int xb)] := hl
  have hown : s.vm.findClass "RangeSheet" = some m.cls := hown
  refine lv_aload_n hx hb d_Sht_set_0 rfl (lv_at hl 0 rfl) ?_
  refine lv_iload_n hx hb d_Sht_set_1 rfl (lv_at hl 1 rfl) ?_
  refine x_V (As := [.int xk]) (rest := []) hx hb hml hown hK (k_Sht_isCell l D cA adr N cn x dn h00 hN0 nn hv1 hn10 xk) t_494 t_1 t_491 t_493 ts_9 yk_Sht_isCell ⟨Nat.le_of_ble_eq_true rfl, Nat.le_of_ble_eq_true rfl⟩ (w_rec hK hP hN0 h00 rfl) hP rfl hl.1 rfl (Nat.le_of_ble_eq_true rfl) d_Sht_set_2 ⟨Nat.le_of_ble_eq_true rfl, Nat.le_of_ble_eq_true rfl⟩ hS (fun q h => h.elim) (fun r H locs hq _ hS => ?_)
  obtain ⟨rfl, hP⟩ := hq
  refine W.eq (g2 := F0 m 5 ls [.int (bi (decide (0 ≤ xk.toInt ∧ xk.toInt ≤ (nn : Int) - 1)))]) rfl ?_
  refine b_bool_eq (tgt := 20) hx hb d_Sht_set_5 (by decide) (fun c_1 => ?_) (fun c_1 => ?_)
  · have hc_1 := of_decide_eq_false c_1
    refine lv_iconst (v := 0) hx hb d_Sht_set_20 (by decide) ?_
    refine W.eq (g2 := F0 m 21 ls (.int (bi false) :: [])) rfl ?_
    exact t_S (As := [.int (bi false)]) (rest := []) hx hb hml hown hK hTh (k_Sht_need_T l htr D cA false rfl) t_399 t_1 t_397 t_398 yk_Sht_need ⟨Nat.le_of_ble_eq_true rfl, Nat.le_of_ble_eq_true rfl⟩ ⟨Nat.le_of_ble_eq_true rfl, Nat.le_of_ble_eq_true rfl⟩ trivial rfl hl.1 rfl (Nat.le_of_ble_eq_true rfl) d_Sht_set_21 hS hex hlk hQ
  · have hc_1 := of_decide_eq_true c_1
    refine lv_iload_n hx hb d_Sht_set_8 rfl (lv_at hl 2 rfl) ?_
    refine lv_iload_n hx hb d_Sht_set_9 rfl (lv_at hl 3 rfl) ?_
    refine r_isR_Sht hx hb hml hown hK hl.1 hS ⟨Nat.le_of_ble_eq_true rfl, Nat.le_of_ble_eq_true rfl⟩ ⟨Nat.le_of_ble_eq_true rfl, Nat.le_of_ble_eq_true rfl⟩ rfl rfl  d_Sht_set_10 (Nat.le_of_ble_eq_true rfl) (fun locs hS => ?_)
    refine b_bool_eq (tgt := 20) hx hb d_Sht_set_13 (by decide) (fun c_2 => ?_) (fun c_2 => ?_)
    · have hc_2 := of_decide_eq_false c_2
      refine lv_iconst (v := 0) hx hb d_Sht_set_20 (by decide) ?_
      refine W.eq (g2 := F0 m 21 ls (.int (bi false) :: [])) rfl ?_
      exact t_S (As := [.int (bi false)]) (rest := []) hx hb hml hown hK hTh (k_Sht_need_T l htr D cA false rfl) t_399 t_1 t_397 t_398 yk_Sht_need ⟨Nat.le_of_ble_eq_true rfl, Nat.le_of_ble_eq_true rfl⟩ ⟨Nat.le_of_ble_eq_true rfl, Nat.le_of_ble_eq_true rfl⟩ trivial rfl hl.1 rfl (Nat.le_of_ble_eq_true rfl) d_Sht_set_21 hS hex hlk hQ
    · have hc_2 := of_decide_eq_true c_2
      refine lv_iconst (v := 1) hx hb d_Sht_set_16 (by decide) ?_
      refine lv_goto (tgt := 21) hx hb d_Sht_set_17 (by decide) ?_
      exfalso; omega
theorem d_Sht_set_24 : decode b_Sht_set 24 = .ok (.aload_n 0, 1) := by decide +kernel
theorem d_Sht_set_25 : decode b_Sht_set 25 = .ok (.getfield 147, 3) := by decide +kernel
theorem d_Sht_set_28 : decode b_Sht_set 28 = .ok (.bipush 12, 2) := by decide +kernel
theorem d_Sht_set_30 : decode b_Sht_set 30 = .ok (.if_icmp .ge 7, 3) := by decide +kernel
theorem d_Sht_set_33 : decode b_Sht_set 33 = .ok (.iconst 1, 1) := by decide +kernel
theorem d_Sht_set_34 : decode b_Sht_set 34 = .ok (.goto 4, 3) := by decide +kernel
theorem d_Sht_set_37 : decode b_Sht_set 37 = .ok (.iconst 0, 1) := by decide +kernel
theorem d_Sht_set_38 : decode b_Sht_set 38 = .ok (.invokestatic 77, 3) := by decide +kernel
set_option maxHeartbeats 4000000 in
set_option maxRecDepth 20000 in
theorem k_Sht_set_T2 (l : Launch) (htr : l.stackTraces = false) (D : va_G) (cA : Nat → ClassId) (adr : Nat → Nat) (N : List Nat) (cn : Nat → va_E) (x : Nat → Int32) (dn : Bool) (h00 : cn 0 = .inr (1, SF adr x dn)) (hN0 : 0 ∈ N) (nn : Nat) (hv1 : (x 1).toInt = (nn : Int)) (hn10 : nn ≤ 10) (en : Nat) (hv8 : (x 8).toInt = (en : Int)) (xk xa xb : Int32) (h0 : (0 ≤ xk.toInt ∧ xk.toInt < (nn : Int)) ∧ -100 ≤ xa.toInt ∧ xb.toInt ≤ 100 ∧ xa.toInt ≤ xb.toInt) (h1 : en = 12) : CtT l y_Sht_set b_Sht_set 4 (some .int) 9 D cA [.ref (adr 0), .int xk, .int xa, .int xb] (fun H => va_P D classes (wl N adr cn) H) "java/lang/IllegalStateException" := by
  refine CtT.mk (by decide) (Nat.le_of_ble_eq_true rfl) ?_
  intro p e s m args below meth c Q H locs ls hx hb hr hml hlk hown hin hK hTh hex hQ hS hP hl
  have hl : lv_has ls 4 [(0, .ref (adr 0)), (1, .int xk), (2, .int xa), (3, .int xb)] := hl
  have hown : s.vm.findClass "RangeSheet" = some m.cls := hown
  refine lv_aload_n hx hb d_Sht_set_0 rfl (lv_at hl 0 rfl) ?_
  refine lv_iload_n hx hb d_Sht_set_1 rfl (lv_at hl 1 rfl) ?_
  refine x_V (As := [.int xk]) (rest := []) hx hb hml hown hK (k_Sht_isCell l D cA adr N cn x dn h00 hN0 nn hv1 hn10 xk) t_494 t_1 t_491 t_493 ts_9 yk_Sht_isCell ⟨Nat.le_of_ble_eq_true rfl, Nat.le_of_ble_eq_true rfl⟩ (w_rec hK hP hN0 h00 rfl) hP rfl hl.1 rfl (Nat.le_of_ble_eq_true rfl) d_Sht_set_2 ⟨Nat.le_of_ble_eq_true rfl, Nat.le_of_ble_eq_true rfl⟩ hS (fun q h => h.elim) (fun r H locs hq _ hS => ?_)
  obtain ⟨rfl, hP⟩ := hq
  refine W.eq (g2 := F0 m 5 ls [.int (bi (decide (0 ≤ xk.toInt ∧ xk.toInt ≤ (nn : Int) - 1)))]) rfl ?_
  refine b_bool_eq (tgt := 20) hx hb d_Sht_set_5 (by decide) (fun c_1 => ?_) (fun c_1 => ?_)
  · have hc_1 := of_decide_eq_false c_1
    refine lv_iconst (v := 0) hx hb d_Sht_set_20 (by decide) ?_
    exfalso; omega
  · have hc_1 := of_decide_eq_true c_1
    refine lv_iload_n hx hb d_Sht_set_8 rfl (lv_at hl 2 rfl) ?_
    refine lv_iload_n hx hb d_Sht_set_9 rfl (lv_at hl 3 rfl) ?_
    refine r_isR_Sht hx hb hml hown hK hl.1 hS ⟨Nat.le_of_ble_eq_true rfl, Nat.le_of_ble_eq_true rfl⟩ ⟨Nat.le_of_ble_eq_true rfl, Nat.le_of_ble_eq_true rfl⟩ rfl rfl  d_Sht_set_10 (Nat.le_of_ble_eq_true rfl) (fun locs hS => ?_)
    refine b_bool_eq (tgt := 20) hx hb d_Sht_set_13 (by decide) (fun c_2 => ?_) (fun c_2 => ?_)
    · have hc_2 := of_decide_eq_false c_2
      refine lv_iconst (v := 0) hx hb d_Sht_set_20 (by decide) ?_
      exfalso; omega
    · have hc_2 := of_decide_eq_true c_2
      refine lv_iconst (v := 1) hx hb d_Sht_set_16 (by decide) ?_
      refine lv_goto (tgt := 21) hx hb d_Sht_set_17 (by decide) ?_
      refine W.eq (g2 := F0 m 21 ls (.int (bi true) :: [])) rfl ?_
      refine r_Sht_need hx hb hml hown hK hl.1 hS ⟨Nat.le_of_ble_eq_true rfl, Nat.le_of_ble_eq_true rfl⟩ ⟨Nat.le_of_ble_eq_true rfl, Nat.le_of_ble_eq_true rfl⟩ rfl d_Sht_set_21 (Nat.le_of_ble_eq_true rfl) (fun locs hS => ?_)
      refine lv_aload_n hx hb d_Sht_set_24 rfl (lv_at hl 0 rfl) ?_
      refine w_gf hx hb hK i_Sht hown hP hN0 h00 rfl 8 (by decide) t_93 rfl rfl d_Sht_set_25 ?_
      refine lv_bipush (v := 12) hx hb d_Sht_set_28 (by decide) ?_
      refine b_icmp_ge (tgt := 37) hx hb d_Sht_set_30 (by decide) hv8 kc_12 (fun c_3 => ?_) (fun c_3 => ?_)
      · refine lv_iconst (v := 0) hx hb d_Sht_set_37 (by decide) ?_
        refine W.eq (g2 := F0 m 38 ls (.int (bi false) :: [])) rfl ?_
        exact t_S (As := [.int (bi false)]) (rest := []) hx hb hml hown hK hTh (k_Sht_needRoom_T l htr D cA false rfl) t_464 t_1 t_462 t_463 yk_Sht_needRoom ⟨Nat.le_of_ble_eq_true rfl, Nat.le_of_ble_eq_true rfl⟩ ⟨Nat.le_of_ble_eq_true rfl, Nat.le_of_ble_eq_true rfl⟩ trivial rfl hl.1 rfl (Nat.le_of_ble_eq_true rfl) d_Sht_set_38 hS hex hlk hQ
      · refine lv_iconst (v := 1) hx hb d_Sht_set_33 (by decide) ?_
        refine lv_goto (tgt := 38) hx hb d_Sht_set_34 (by decide) ?_
        exfalso; omega
theorem d_Sht_set_41 : decode b_Sht_set 41 = .ok (.aload_n 0, 1) := by decide +kernel
theorem d_Sht_set_42 : decode b_Sht_set 42 = .ok (.getfield 35, 3) := by decide +kernel
theorem d_Sht_set_45 : decode b_Sht_set 45 = .ok (.aload_n 0, 1) := by decide +kernel
theorem d_Sht_set_46 : decode b_Sht_set 46 = .ok (.getfield 147, 3) := by decide +kernel
theorem d_Sht_set_49 : decode b_Sht_set 49 = .ok (.iload_n 1, 1) := by decide +kernel
theorem d_Sht_set_50 : decode b_Sht_set 50 = .ok (.iastore, 1) := by decide +kernel
theorem d_Sht_set_51 : decode b_Sht_set 51 = .ok (.aload_n 0, 1) := by decide +kernel
theorem d_Sht_set_52 : decode b_Sht_set 52 = .ok (.getfield 39, 3) := by decide +kernel
theorem d_Sht_set_55 : decode b_Sht_set 55 = .ok (.aload_n 0, 1) := by decide +kernel
theorem d_Sht_set_56 : decode b_Sht_set 56 = .ok (.getfield 147, 3) := by decide +kernel
theorem d_Sht_set_59 : decode b_Sht_set 59 = .ok (.iload_n 2, 1) := by decide +kernel
theorem d_Sht_set_60 : decode b_Sht_set 60 = .ok (.iastore, 1) := by decide +kernel
theorem d_Sht_set_61 : decode b_Sht_set 61 = .ok (.aload_n 0, 1) := by decide +kernel
theorem d_Sht_set_62 : decode b_Sht_set 62 = .ok (.getfield 42, 3) := by decide +kernel
theorem d_Sht_set_65 : decode b_Sht_set 65 = .ok (.aload_n 0, 1) := by decide +kernel
theorem d_Sht_set_66 : decode b_Sht_set 66 = .ok (.getfield 147, 3) := by decide +kernel
theorem d_Sht_set_69 : decode b_Sht_set 69 = .ok (.iload_n 3, 1) := by decide +kernel
theorem d_Sht_set_70 : decode b_Sht_set 70 = .ok (.iastore, 1) := by decide +kernel
theorem d_Sht_set_71 : decode b_Sht_set 71 = .ok (.aload_n 0, 1) := by decide +kernel
theorem d_Sht_set_72 : decode b_Sht_set 72 = .ok (.dup, 1) := by decide +kernel
theorem d_Sht_set_73 : decode b_Sht_set 73 = .ok (.getfield 150, 3) := by decide +kernel
theorem d_Sht_set_76 : decode b_Sht_set 76 = .ok (.iconst 1, 1) := by decide +kernel
theorem d_Sht_set_77 : decode b_Sht_set 77 = .ok (.aload_n 0, 1) := by decide +kernel
theorem d_Sht_set_78 : decode b_Sht_set 78 = .ok (.getfield 147, 3) := by decide +kernel
theorem d_Sht_set_81 : decode b_Sht_set 81 = .ok (.ishl, 1) := by decide +kernel
theorem d_Sht_set_82 : decode b_Sht_set 82 = .ok (.ior, 1) := by decide +kernel
theorem d_Sht_set_83 : decode b_Sht_set 83 = .ok (.putfield 150, 3) := by decide +kernel
theorem d_Sht_set_86 : decode b_Sht_set 86 = .ok (.aload_n 0, 1) := by decide +kernel
theorem d_Sht_set_87 : decode b_Sht_set 87 = .ok (.dup, 1) := by decide +kernel
theorem d_Sht_set_88 : decode b_Sht_set 88 = .ok (.getfield 147, 3) := by decide +kernel
theorem d_Sht_set_91 : decode b_Sht_set 91 = .ok (.dup_x1, 1) := by decide +kernel
theorem d_Sht_set_92 : decode b_Sht_set 92 = .ok (.iconst 1, 1) := by decide +kernel
theorem d_Sht_set_93 : decode b_Sht_set 93 = .ok (.iadd, 1) := by decide +kernel
theorem d_Sht_set_94 : decode b_Sht_set 94 = .ok (.putfield 147, 3) := by decide +kernel
theorem d_Sht_set_97 : decode b_Sht_set 97 = .ok (.ireturn, 1) := by decide +kernel
set_option maxHeartbeats 4000000 in
set_option maxRecDepth 20000 in
theorem k_Sht_set (l : Launch) (D : va_G) (cA : Nat → ClassId) (adr : Nat → Nat) (N : List Nat) (hi : wI N adr) (cn : Nat → va_E) (F : Nat → Nat → Int32) (I : Nat → Int32) (nn mm en mk0 : Nat) (x : Nat → Int32) (dn : Bool) (hCP : CP cA adr cn I F mm x dn) (hNm : ∀ k, k < 56 + mm → k ∈ N) (hWF : WF I F nn mm en mk0) (xk xa xb : Int32) (h0 : (0 ≤ xk.toInt ∧ xk.toInt < (nn : Int)) ∧ -100 ≤ xa.toInt ∧ xb.toInt ≤ 100 ∧ xa.toInt ≤ xb.toInt) (h1 : en < 12) : Ct l y_Sht_set b_Sht_set 4 (some .int) 3 D cA [.ref (adr 0), .int xk, .int xa, .int xb] (fun H => va_P D classes (wl N adr cn) H) (fun r H => ∃ z : Int32, r = some (.int z) ∧ z.toInt = (en : Int) ∧ CQ D cA adr N (J_set I en mk0) (G_set F en xk xa xb) mm H) (wA N adr) := by
  refine Ct.mk (by decide) (Nat.le_of_ble_eq_true rfl) ?_
  intro p e s m args below meth c Q H locs ls hx hb hr hml hlk hown hin hK hQ hS hP hl
  have hl : lv_has ls 4 [(0, .ref (adr 0)), (1, .int xk), (2, .int xa), (3, .int xb)] := hl
  have hown : s.vm.findClass "RangeSheet" = some m.cls := hown
  have hWF0 := hWF
  have hCP0 := hCP
  obtain ⟨hW, hE, hen, ⟨hmk, hmke⟩, htd, hsp, hsd, hset, hgd⟩ := hWF
  obtain ⟨hSR, ⟨hx1, hx3, hx8, hx9, hx11, hx14, hx18⟩, ⟨hc2, hc3, hc4, hc5, hc6, hc7⟩, ⟨cf, hBf⟩, ⟨fn0, gn0, cn0, hBn, hBne⟩, hBx⟩ := hCP
  obtain ⟨f, g, ch, hB⟩ := hBx 0 (by omega)
  have hB : BP cA adr cn 14 f g ch := hB
  have hn10 := hW.1
  have hm12 := hW.2.1
  have hen12 := hE.1
  have hv1 : (x 1).toInt = (nn : Int) := by rw [hx1]; exact hW.2.2.1
  have hv8 : (x 8).toInt = (en : Int) := by rw [hx8]; exact hen
  have hv9 : (x 9).toInt = (mk0 : Int) := by rw [hx9]; exact hmk
  have hN0 : 0 ∈ N := hNm 0 (by omega)
  have hpe := Nat.pow_le_pow_right (n := 2) (by decide) hen12
  refine lv_aload_n hx hb d_Sht_set_0 rfl (lv_at hl 0 rfl) ?_
  refine lv_iload_n hx hb d_Sht_set_1 rfl (lv_at hl 1 rfl) ?_
  refine x_V (As := [.int xk]) (rest := []) hx hb hml hown hK (k_Sht_isCell l D cA adr N cn x dn hSR.1 (hNm 0 (by omega)) nn hv1 hn10 xk) t_494 t_1 t_491 t_493 ts_9 yk_Sht_isCell ⟨Nat.le_of_ble_eq_true rfl, Nat.le_of_ble_eq_true rfl⟩ (w_rec hK hP (hNm 0 (by omega)) hSR.1 rfl) hP rfl hl.1 rfl (Nat.le_of_ble_eq_true rfl) d_Sht_set_2 ⟨Nat.le_of_ble_eq_true rfl, Nat.le_of_ble_eq_true rfl⟩ hS (fun q h => h.elim) (fun r H locs hq _ hS => ?_)
  obtain ⟨rfl, hP⟩ := hq
  refine W.eq (g2 := F0 m 5 ls [.int (bi (decide (0 ≤ xk.toInt ∧ xk.toInt ≤ (nn : Int) - 1)))]) rfl ?_
  refine b_bool_eq (tgt := 20) hx hb d_Sht_set_5 (by decide) (fun c_1 => ?_) (fun c_1 => ?_)
  · have hc_1 := of_decide_eq_false c_1
    refine lv_iconst (v := 0) hx hb d_Sht_set_20 (by decide) ?_
    exfalso; omega
  · have hc_1 := of_decide_eq_true c_1
    refine lv_iload_n hx hb d_Sht_set_8 rfl (lv_at hl 2 rfl) ?_
    refine lv_iload_n hx hb d_Sht_set_9 rfl (lv_at hl 3 rfl) ?_
    refine r_isR_Sht hx hb hml hown hK hl.1 hS ⟨Nat.le_of_ble_eq_true rfl, Nat.le_of_ble_eq_true rfl⟩ ⟨Nat.le_of_ble_eq_true rfl, Nat.le_of_ble_eq_true rfl⟩ rfl rfl  d_Sht_set_10 (Nat.le_of_ble_eq_true rfl) (fun locs hS => ?_)
    refine b_bool_eq (tgt := 20) hx hb d_Sht_set_13 (by decide) (fun c_2 => ?_) (fun c_2 => ?_)
    · have hc_2 := of_decide_eq_false c_2
      refine lv_iconst (v := 0) hx hb d_Sht_set_20 (by decide) ?_
      exfalso; omega
    · have hc_2 := of_decide_eq_true c_2
      refine lv_iconst (v := 1) hx hb d_Sht_set_16 (by decide) ?_
      refine lv_goto (tgt := 21) hx hb d_Sht_set_17 (by decide) ?_
      refine W.eq (g2 := F0 m 21 ls (.int (bi true) :: [])) rfl ?_
      refine r_Sht_need hx hb hml hown hK hl.1 hS ⟨Nat.le_of_ble_eq_true rfl, Nat.le_of_ble_eq_true rfl⟩ ⟨Nat.le_of_ble_eq_true rfl, Nat.le_of_ble_eq_true rfl⟩ rfl d_Sht_set_21 (Nat.le_of_ble_eq_true rfl) (fun locs hS => ?_)
      refine lv_aload_n hx hb d_Sht_set_24 rfl (lv_at hl 0 rfl) ?_
      refine w_gf hx hb hK i_Sht hown hP (hNm 0 (by omega)) hSR.1 rfl 8 (by decide) t_93 rfl rfl d_Sht_set_25 ?_
      refine lv_bipush (v := 12) hx hb d_Sht_set_28 (by decide) ?_
      refine b_icmp_ge (tgt := 37) hx hb d_Sht_set_30 (by decide) hv8 kc_12 (fun c_3 => ?_) (fun c_3 => ?_)
      · refine lv_iconst (v := 0) hx hb d_Sht_set_37 (by decide) ?_
        exfalso; omega
      · refine lv_iconst (v := 1) hx hb d_Sht_set_33 (by decide) ?_
        refine lv_goto (tgt := 38) hx hb d_Sht_set_34 (by decide) ?_
        refine W.eq (g2 := F0 m 38 ls (.int (bi true) :: [])) rfl ?_
        refine r_Sht_needRoom hx hb hml hown hK hl.1 hS ⟨Nat.le_of_ble_eq_true rfl, Nat.le_of_ble_eq_true rfl⟩ ⟨Nat.le_of_ble_eq_true rfl, Nat.le_of_ble_eq_true rfl⟩ rfl d_Sht_set_38 (Nat.le_of_ble_eq_true rfl) (fun locs hS => ?_)
        refine lv_aload_n hx hb d_Sht_set_41 rfl (lv_at hl 0 rfl) ?_
        refine w_gf hx hb hK i_Sht hown hP (hNm 0 (by omega)) hSR.1 rfl 5 (by decide) t_90 rfl rfl d_Sht_set_42 ?_
        refine lv_aload_n hx hb d_Sht_set_45 rfl (lv_at hl 0 rfl) ?_
        refine w_gf hx hb hK i_Sht hown hP (hNm 0 (by omega)) hSR.1 rfl 8 (by decide) t_93 rfl rfl d_Sht_set_46 ?_
        refine lv_iload_n hx hb d_Sht_set_49 rfl (lv_at hl 1 rfl) ?_
        refine w_st hx hb hK hi hP hS wA_mem (hNm 3 (by omega)) hc3 (en) hv8 (by omega) (show en < 12 by omega) d_Sht_set_50 (fun H locs hP hS => ?_)
        obtain ⟨cn_4, ecn_4⟩ : ∃ q : Nat → va_E, q = va_up cn 3 (.inl (cA 0, 12, .inl (upd (F 14) en xk))) := ⟨_, rfl⟩
        have hP : va_P D classes (wl N adr cn_4) H := by rw [ecn_4]; exact hP
        have ho_4_5 : cn_4 0 = .inr (1, [.ref (adr 8), .int (x 1), .ref (adr 1), .int (x 3), .ref (adr 2), .ref (adr 3), .ref (adr 4), .ref (adr 5), .int (x 8), .int (x 9), .ref (adr 11), .int (x 11), .ref (adr 6), .int (x 13), .int (x 14), .int (x 15), .int (bi dn), .ref (adr 7), .int (x 18)]) := by rw [ecn_4, va_up_ne _ _ (by omega)]; exact hSR.1
        have ho_4_6 : cn_4 1 = .inl (cA 3, 12, .inr (.inr (.inr (.inr (fun k => if k < mm then some (adr (56 + k)) else none))))) := by rw [ecn_4, va_up_ne _ _ (by omega)]; exact hSR.2.1
        have ho_4_7 : cn_4 3 = .inl (cA 0, 12, .inl (upd (F 14) en xk)) := by rw [ecn_4]; exact va_up_self _ _ _
        have ho_4_8 : cn_4 4 = .inl (cA 0, 12, .inl (F 15)) := by rw [ecn_4, va_up_ne _ _ (by omega)]; exact hc4
        have ho_4_9 : cn_4 5 = .inl (cA 0, 12, .inl (F 16)) := by rw [ecn_4, va_up_ne _ _ (by omega)]; exact hc5
        have ho_4_10 : cn_4 7 = .inl (cA 0, 10, .inl (F 33)) := by rw [ecn_4, va_up_ne _ _ (by omega)]; exact hc7
        have ho_4_11 : cn_4 6 = .inl (cA 5, 11, .inr (.inr (.inr (.inr (fun k => if k < 11 then some (adr (14 + 3 * k)) else none))))) := by rw [ecn_4, va_up_ne _ _ (by omega)]; exact hc6
        refine lv_aload_n hx hb d_Sht_set_51 rfl (lv_at hl 0 rfl) ?_
        refine w_gf hx hb hK i_Sht hown hP (hNm 0 (by omega)) ho_4_5 rfl 6 (by decide) t_91 rfl rfl d_Sht_set_52 ?_
        refine lv_aload_n hx hb d_Sht_set_55 rfl (lv_at hl 0 rfl) ?_
        refine w_gf hx hb hK i_Sht hown hP (hNm 0 (by omega)) ho_4_5 rfl 8 (by decide) t_93 rfl rfl d_Sht_set_56 ?_
        refine lv_iload_n hx hb d_Sht_set_59 rfl (lv_at hl 2 rfl) ?_
        refine w_st hx hb hK hi hP hS wA_mem (hNm 4 (by omega)) ho_4_8 (en) hv8 (by omega) (show en < 12 by omega) d_Sht_set_60 (fun H locs hP hS => ?_)
        obtain ⟨cn_12, ecn_12⟩ : ∃ q : Nat → va_E, q = va_up cn_4 4 (.inl (cA 0, 12, .inl (upd (F 15) en xa))) := ⟨_, rfl⟩
        have hP : va_P D classes (wl N adr cn_12) H := by rw [ecn_12]; exact hP
        have ho_12_13 : cn_12 0 = .inr (1, [.ref (adr 8), .int (x 1), .ref (adr 1), .int (x 3), .ref (adr 2), .ref (adr 3), .ref (adr 4), .ref (adr 5), .int (x 8), .int (x 9), .ref (adr 11), .int (x 11), .ref (adr 6), .int (x 13), .int (x 14), .int (x 15), .int (bi dn), .ref (adr 7), .int (x 18)]) := by rw [ecn_12, va_up_ne _ _ (by omega)]; exact ho_4_5
        have ho_12_14 : cn_12 1 = .inl (cA 3, 12, .inr (.inr (.inr (.inr (fun k => if k < mm then some (adr (56 + k)) else none))))) := by rw [ecn_12, va_up_ne _ _ (by omega)]; exact ho_4_6
        have ho_12_15 : cn_12 3 = .inl (cA 0, 12, .inl (upd (F 14) en xk)) := by rw [ecn_12, va_up_ne _ _ (by omega)]; exact ho_4_7
        have ho_12_16 : cn_12 4 = .inl (cA 0, 12, .inl (upd (F 15) en xa)) := by rw [ecn_12]; exact va_up_self _ _ _
        have ho_12_17 : cn_12 5 = .inl (cA 0, 12, .inl (F 16)) := by rw [ecn_12, va_up_ne _ _ (by omega)]; exact ho_4_9
        have ho_12_18 : cn_12 7 = .inl (cA 0, 10, .inl (F 33)) := by rw [ecn_12, va_up_ne _ _ (by omega)]; exact ho_4_10
        have ho_12_19 : cn_12 6 = .inl (cA 5, 11, .inr (.inr (.inr (.inr (fun k => if k < 11 then some (adr (14 + 3 * k)) else none))))) := by rw [ecn_12, va_up_ne _ _ (by omega)]; exact ho_4_11
        refine lv_aload_n hx hb d_Sht_set_61 rfl (lv_at hl 0 rfl) ?_
        refine w_gf hx hb hK i_Sht hown hP (hNm 0 (by omega)) ho_12_13 rfl 7 (by decide) t_92 rfl rfl d_Sht_set_62 ?_
        refine lv_aload_n hx hb d_Sht_set_65 rfl (lv_at hl 0 rfl) ?_
        refine w_gf hx hb hK i_Sht hown hP (hNm 0 (by omega)) ho_12_13 rfl 8 (by decide) t_93 rfl rfl d_Sht_set_66 ?_
        refine lv_iload_n hx hb d_Sht_set_69 rfl (lv_at hl 3 rfl) ?_
        refine w_st hx hb hK hi hP hS wA_mem (hNm 5 (by omega)) ho_12_17 (en) hv8 (by omega) (show en < 12 by omega) d_Sht_set_70 (fun H locs hP hS => ?_)
        obtain ⟨cn_20, ecn_20⟩ : ∃ q : Nat → va_E, q = va_up cn_12 5 (.inl (cA 0, 12, .inl (upd (F 16) en xb))) := ⟨_, rfl⟩
        have hP : va_P D classes (wl N adr cn_20) H := by rw [ecn_20]; exact hP
        have ho_20_21 : cn_20 0 = .inr (1, [.ref (adr 8), .int (x 1), .ref (adr 1), .int (x 3), .ref (adr 2), .ref (adr 3), .ref (adr 4), .ref (adr 5), .int (x 8), .int (x 9), .ref (adr 11), .int (x 11), .ref (adr 6), .int (x 13), .int (x 14), .int (x 15), .int (bi dn), .ref (adr 7), .int (x 18)]) := by rw [ecn_20, va_up_ne _ _ (by omega)]; exact ho_12_13
        have ho_20_22 : cn_20 1 = .inl (cA 3, 12, .inr (.inr (.inr (.inr (fun k => if k < mm then some (adr (56 + k)) else none))))) := by rw [ecn_20, va_up_ne _ _ (by omega)]; exact ho_12_14
        have ho_20_23 : cn_20 3 = .inl (cA 0, 12, .inl (upd (F 14) en xk)) := by rw [ecn_20, va_up_ne _ _ (by omega)]; exact ho_12_15
        have ho_20_24 : cn_20 4 = .inl (cA 0, 12, .inl (upd (F 15) en xa)) := by rw [ecn_20, va_up_ne _ _ (by omega)]; exact ho_12_16
        have ho_20_25 : cn_20 5 = .inl (cA 0, 12, .inl (upd (F 16) en xb)) := by rw [ecn_20]; exact va_up_self _ _ _
        have ho_20_26 : cn_20 7 = .inl (cA 0, 10, .inl (F 33)) := by rw [ecn_20, va_up_ne _ _ (by omega)]; exact ho_12_18
        have ho_20_27 : cn_20 6 = .inl (cA 5, 11, .inr (.inr (.inr (.inr (fun k => if k < 11 then some (adr (14 + 3 * k)) else none))))) := by rw [ecn_20, va_up_ne _ _ (by omega)]; exact ho_12_19
        refine lv_aload_n hx hb d_Sht_set_71 rfl (lv_at hl 0 rfl) ?_
        refine lv_dup hx hb d_Sht_set_72 rfl ?_
        refine w_gf hx hb hK i_Sht hown hP (hNm 0 (by omega)) ho_20_21 rfl 9 (by decide) t_94 rfl rfl d_Sht_set_73 ?_
        refine lv_iconst (v := 1) hx hb d_Sht_set_76 (by decide) ?_
        refine lv_aload_n hx hb d_Sht_set_77 rfl (lv_at hl 0 rfl) ?_
        refine w_gf hx hb hK i_Sht hown hP (hNm 0 (by omega)) ho_20_21 rfl 8 (by decide) t_93 rfl rfl d_Sht_set_78 ?_
        refine x_shl1 hx hb d_Sht_set_81 (en) hv8 (by omega) (by omega) (fun z_28 tz_28 => ?_)
        refine x_orN hx hb d_Sht_set_82 (mk0) ((2 ^ en)) hv9 tz_28 (by omega) (by omega) (fun z_29 tz_29 => ?_)
        refine w_pf hx hb hK i_Sht t_Sht t_Sht_ok n_Sht hown hi hP hS wA_mem (hNm 0 (by omega)) ho_20_21 rfl 9 (by decide) t_94 rfl rfl rfl rfl rfl d_Sht_set_83 (fun H locs hP hS => ?_)
        obtain ⟨cn_30, ecn_30⟩ : ∃ q : Nat → va_E, q = va_up cn_20 0 (.inr (1, [.ref (adr 8), .int (x 1), .ref (adr 1), .int (x 3), .ref (adr 2), .ref (adr 3), .ref (adr 4), .ref (adr 5), .int (x 8), .int z_29, .ref (adr 11), .int (x 11), .ref (adr 6), .int (x 13), .int (x 14), .int (x 15), .int (bi dn), .ref (adr 7), .int (x 18)])) := ⟨_, rfl⟩
        have hP : va_P D classes (wl N adr cn_30) H := by rw [ecn_30]; exact hP
        have ho_30_31 : cn_30 0 = .inr (1, [.ref (adr 8), .int (x 1), .ref (adr 1), .int (x 3), .ref (adr 2), .ref (adr 3), .ref (adr 4), .ref (adr 5), .int (x 8), .int z_29, .ref (adr 11), .int (x 11), .ref (adr 6), .int (x 13), .int (x 14), .int (x 15), .int (bi dn), .ref (adr 7), .int (x 18)]) := by rw [ecn_30]; exact va_up_self _ _ _
        have ho_30_32 : cn_30 1 = .inl (cA 3, 12, .inr (.inr (.inr (.inr (fun k => if k < mm then some (adr (56 + k)) else none))))) := by rw [ecn_30, va_up_ne _ _ (by omega)]; exact ho_20_22
        have ho_30_33 : cn_30 3 = .inl (cA 0, 12, .inl (upd (F 14) en xk)) := by rw [ecn_30, va_up_ne _ _ (by omega)]; exact ho_20_23
        have ho_30_34 : cn_30 4 = .inl (cA 0, 12, .inl (upd (F 15) en xa)) := by rw [ecn_30, va_up_ne _ _ (by omega)]; exact ho_20_24
        have ho_30_35 : cn_30 5 = .inl (cA 0, 12, .inl (upd (F 16) en xb)) := by rw [ecn_30, va_up_ne _ _ (by omega)]; exact ho_20_25
        have ho_30_36 : cn_30 7 = .inl (cA 0, 10, .inl (F 33)) := by rw [ecn_30, va_up_ne _ _ (by omega)]; exact ho_20_26
        have ho_30_37 : cn_30 6 = .inl (cA 5, 11, .inr (.inr (.inr (.inr (fun k => if k < 11 then some (adr (14 + 3 * k)) else none))))) := by rw [ecn_30, va_up_ne _ _ (by omega)]; exact ho_20_27
        refine lv_aload_n hx hb d_Sht_set_86 rfl (lv_at hl 0 rfl) ?_
        refine lv_dup hx hb d_Sht_set_87 rfl ?_
        refine w_gf hx hb hK i_Sht hown hP (hNm 0 (by omega)) ho_30_31 rfl 8 (by decide) t_93 rfl rfl d_Sht_set_88 ?_
        refine lv_dup_x1 hx hb d_Sht_set_91 rfl rfl ?_
        refine lv_iconst (v := 1) hx hb d_Sht_set_92 (by decide) ?_
        refine x_add hx hb d_Sht_set_93 hv8 kc_1 (by omega) (fun z_38 tz_38 => ?_)
        refine w_pf hx hb hK i_Sht t_Sht t_Sht_ok n_Sht hown hi hP hS wA_mem (hNm 0 (by omega)) ho_30_31 rfl 8 (by decide) t_93 rfl rfl rfl rfl rfl d_Sht_set_94 (fun H locs hP hS => ?_)
        obtain ⟨cn_39, ecn_39⟩ : ∃ q : Nat → va_E, q = va_up cn_30 0 (.inr (1, [.ref (adr 8), .int (x 1), .ref (adr 1), .int (x 3), .ref (adr 2), .ref (adr 3), .ref (adr 4), .ref (adr 5), .int z_38, .int z_29, .ref (adr 11), .int (x 11), .ref (adr 6), .int (x 13), .int (x 14), .int (x 15), .int (bi dn), .ref (adr 7), .int (x 18)])) := ⟨_, rfl⟩
        have hP : va_P D classes (wl N adr cn_39) H := by rw [ecn_39]; exact hP
        have ho_39_40 : cn_39 0 = .inr (1, [.ref (adr 8), .int (x 1), .ref (adr 1), .int (x 3), .ref (adr 2), .ref (adr 3), .ref (adr 4), .ref (adr 5), .int z_38, .int z_29, .ref (adr 11), .int (x 11), .ref (adr 6), .int (x 13), .int (x 14), .int (x 15), .int (bi dn), .ref (adr 7), .int (x 18)]) := by rw [ecn_39]; exact va_up_self _ _ _
        have ho_39_41 : cn_39 1 = .inl (cA 3, 12, .inr (.inr (.inr (.inr (fun k => if k < mm then some (adr (56 + k)) else none))))) := by rw [ecn_39, va_up_ne _ _ (by omega)]; exact ho_30_32
        have ho_39_42 : cn_39 3 = .inl (cA 0, 12, .inl (upd (F 14) en xk)) := by rw [ecn_39, va_up_ne _ _ (by omega)]; exact ho_30_33
        have ho_39_43 : cn_39 4 = .inl (cA 0, 12, .inl (upd (F 15) en xa)) := by rw [ecn_39, va_up_ne _ _ (by omega)]; exact ho_30_34
        have ho_39_44 : cn_39 5 = .inl (cA 0, 12, .inl (upd (F 16) en xb)) := by rw [ecn_39, va_up_ne _ _ (by omega)]; exact ho_30_35
        have ho_39_45 : cn_39 7 = .inl (cA 0, 10, .inl (F 33)) := by rw [ecn_39, va_up_ne _ _ (by omega)]; exact ho_30_36
        have ho_39_46 : cn_39 6 = .inl (cA 5, 11, .inr (.inr (.inr (.inr (fun k => if k < 11 then some (adr (14 + 3 * k)) else none))))) := by rw [ecn_39, va_up_ne _ _ (by omega)]; exact ho_30_37
        refine e_i hx hb hr hlk hQ hS d_Sht_set_97 ?_
        have e8 := i32_of (show z_38.toInt = (en : Int) + 1 by omega); have e9 := i32_of tz_29
        have hkk := (show ∀ k, k ≠ 0 → k ≠ 3 → k ≠ 4 → k ≠ 5 → cn_39 k = cn k from (fun k a0 a1 a2 a3 => ((congrFun ecn_39 k).trans ((va_up_ne _ _ a0).trans ((congrFun ecn_30 k).trans ((va_up_ne _ _ a0).trans ((congrFun ecn_20 k).trans ((va_up_ne _ _ a3).trans ((congrFun ecn_12 k).trans ((va_up_ne _ _ a2).trans ((congrFun ecn_4 k).trans ((va_up_ne _ _ a1).trans rfl))))))))))))
        refine ⟨_, rfl, hv8, CQ.of (CP.set (y := (va_up (va_up x 9 z_29) 8 z_38)) (J := J_set I en mk0) (G := G_set F en xk xa xb) hCP0 ho_39_40 ⟨hx1, hx3, e8, e9, hx11, hx14, hx18⟩ ho_39_42 ho_39_43 ho_39_44 ((hkk 7 (by omega) (by omega) (by omega) (by omega)).trans hc7) rfl rfl (fun k a b c d _ => hkk k a b c d) (fun n a b c _ => by show va_up _ 16 _ n = _; rw [va_up_ne _ _ c, va_up_ne _ _ b, va_up_ne _ _ a])) hP⟩
