theorem mul_bd {x y : Int} (h1 : -1000 ≤ x ∧ x ≤ 1000) (h2 : -1000 ≤ y ∧ y ≤ 1000) : -1000000 ≤ x * y ∧ x * y ≤ 1000000 := by
  have e := Int.natAbs_mul x y
  have : x.natAbs * y.natAbs ≤ 1000 * 1000 := Nat.mul_le_mul (by omega) (by omega)
  omega
theorem d_Mod_thirdOf_0 : decode b_Mod_thirdOf 0 = .ok (.iload_n 0, 1) := by decide +kernel
theorem d_Mod_thirdOf_1 : decode b_Mod_thirdOf 1 = .ok (.tableswitch 70 0 4 #[35, 39, 43, 58, 64], 35) := by decide +kernel
theorem d_Mod_thirdOf_36 : decode b_Mod_thirdOf 36 = .ok (.iload_n 1, 1) := by decide +kernel
theorem d_Mod_thirdOf_37 : decode b_Mod_thirdOf 37 = .ok (.iload_n 2, 1) := by decide +kernel
theorem d_Mod_thirdOf_38 : decode b_Mod_thirdOf 38 = .ok (.iadd, 1) := by decide +kernel
theorem d_Mod_thirdOf_39 : decode b_Mod_thirdOf 39 = .ok (.ireturn, 1) := by decide +kernel
theorem d_Mod_thirdOf_40 : decode b_Mod_thirdOf 40 = .ok (.iload_n 1, 1) := by decide +kernel
theorem d_Mod_thirdOf_41 : decode b_Mod_thirdOf 41 = .ok (.iload_n 2, 1) := by decide +kernel
theorem d_Mod_thirdOf_42 : decode b_Mod_thirdOf 42 = .ok (.imul, 1) := by decide +kernel
theorem d_Mod_thirdOf_43 : decode b_Mod_thirdOf 43 = .ok (.ireturn, 1) := by decide +kernel
theorem d_Mod_thirdOf_44 : decode b_Mod_thirdOf 44 = .ok (.iload_n 2, 1) := by decide +kernel
theorem d_Mod_thirdOf_45 : decode b_Mod_thirdOf 45 = .ok (.ifCond .ne 8, 3) := by decide +kernel
theorem d_Mod_thirdOf_48 : decode b_Mod_thirdOf 48 = .ok (.ldc 145, 2) := by decide +kernel
theorem d_Mod_thirdOf_50 : decode b_Mod_thirdOf 50 = .ok (.goto 8, 3) := by decide +kernel
theorem d_Mod_thirdOf_53 : decode b_Mod_thirdOf 53 = .ok (.iload_n 1, 1) := by decide +kernel
theorem d_Mod_thirdOf_54 : decode b_Mod_thirdOf 54 = .ok (.iload_n 2, 1) := by decide +kernel
theorem d_Mod_thirdOf_55 : decode b_Mod_thirdOf 55 = .ok (.invokestatic 146, 3) := by decide +kernel
theorem d_Mod_thirdOf_58 : decode b_Mod_thirdOf 58 = .ok (.ireturn, 1) := by decide +kernel
theorem d_Mod_thirdOf_59 : decode b_Mod_thirdOf 59 = .ok (.iload_n 1, 1) := by decide +kernel
theorem d_Mod_thirdOf_60 : decode b_Mod_thirdOf 60 = .ok (.iload_n 2, 1) := by decide +kernel
theorem d_Mod_thirdOf_61 : decode b_Mod_thirdOf 61 = .ok (.invokestatic 124, 3) := by decide +kernel
theorem d_Mod_thirdOf_64 : decode b_Mod_thirdOf 64 = .ok (.ireturn, 1) := by decide +kernel
theorem d_Mod_thirdOf_65 : decode b_Mod_thirdOf 65 = .ok (.iload_n 1, 1) := by decide +kernel
theorem d_Mod_thirdOf_66 : decode b_Mod_thirdOf 66 = .ok (.iload_n 2, 1) := by decide +kernel
theorem d_Mod_thirdOf_67 : decode b_Mod_thirdOf 67 = .ok (.invokestatic 120, 3) := by decide +kernel
theorem d_Mod_thirdOf_70 : decode b_Mod_thirdOf 70 = .ok (.ireturn, 1) := by decide +kernel
theorem d_Mod_thirdOf_71 : decode b_Mod_thirdOf 71 = .ok (.iload_n 1, 1) := by decide +kernel
theorem d_Mod_thirdOf_72 : decode b_Mod_thirdOf 72 = .ok (.iconst 1, 1) := by decide +kernel
theorem d_Mod_thirdOf_73 : decode b_Mod_thirdOf 73 = .ok (.if_icmp .ge 9, 3) := by decide +kernel
theorem d_Mod_thirdOf_76 : decode b_Mod_thirdOf 76 = .ok (.sipush (-400), 3) := by decide +kernel
theorem d_Mod_thirdOf_79 : decode b_Mod_thirdOf 79 = .ok (.goto 4, 3) := by decide +kernel
theorem d_Mod_thirdOf_82 : decode b_Mod_thirdOf 82 = .ok (.iload_n 2, 1) := by decide +kernel
theorem d_Mod_thirdOf_83 : decode b_Mod_thirdOf 83 = .ok (.ireturn, 1) := by decide +kernel
set_option maxHeartbeats 4000000 in
theorem k_Mod_thirdOf (l : Launch) (D : va_G) (cA : Nat → ClassId) (H0 : Heap) (k : Int32) (x : Int32) (y : Int32) (h0 : -100 ≤ x.toInt ∧ x.toInt ≤ 100) (h1 : -100 ≤ y.toInt ∧ y.toInt ≤ 100) : Ct l y_Mod_thirdOf b_Mod_thirdOf 3 (some .int) 3 D cA [.int k, .int x, .int y] (fun H => H = H0) (fun r H => H = H0 ∧ ∃ z : Int32, r = some (.int z) ∧ z.toInt = thirdI k.toInt x.toInt y.toInt) (fun _ => False) := by
  refine Ct.mk (by decide) (Nat.le_of_ble_eq_true rfl) ?_
  intro p e s m args below meth c Q H locs ls hx hb hr hml hlk hown hin hK hQ hS hP hl
  have hl : lv_has ls 3 [(0, .int k), (1, .int x), (2, .int y)] := hl
  refine lv_iload_n hx hb d_Mod_thirdOf_0 rfl (lv_at hl 0 rfl) ?_
  by_cases c_1 : k.toInt = 0
  · have e_1 : k.toInt = 0 := (rfl).trans c_1
    refine lv_tableIn (off := 35) (tgt := 36) hx hb d_Mod_thirdOf_1 (by rw [e_1]; decide) (by rw [e_1]; decide) (by rw [e_1]; rfl) (by decide) ?_
    refine lv_iload_n hx hb d_Mod_thirdOf_36 rfl (lv_at hl 1 rfl) ?_
    refine lv_iload_n hx hb d_Mod_thirdOf_37 rfl (lv_at hl 2 rfl) ?_
    refine x_add hx hb d_Mod_thirdOf_38 rfl rfl (by omega) (fun z_2 tz_2 => ?_)
    refine e_i hx hb hr hlk hQ hS d_Mod_thirdOf_39 ?_
    refine ⟨hP, _, rfl, ?_⟩
    unfold thirdI
    rw [tz_2]
    first | (simp [c_1]; done) | (simp [c_1]; omega) | (repeat (split <;> try omega))
  by_cases c_3 : k.toInt = 1
  · have e_3 : k.toInt = 1 := (rfl).trans c_3
    refine lv_tableIn (off := 39) (tgt := 40) hx hb d_Mod_thirdOf_1 (by rw [e_3]; decide) (by rw [e_3]; decide) (by rw [e_3]; rfl) (by decide) ?_
    refine lv_iload_n hx hb d_Mod_thirdOf_40 rfl (lv_at hl 1 rfl) ?_
    refine lv_iload_n hx hb d_Mod_thirdOf_41 rfl (lv_at hl 2 rfl) ?_
    refine x_mul hx hb d_Mod_thirdOf_42 rfl rfl (by have := mul_bd (x := x.toInt) (y := y.toInt) (by omega) (by omega); omega) (fun z_4 tz_4 => ?_)
    refine e_i hx hb hr hlk hQ hS d_Mod_thirdOf_43 ?_
    refine ⟨hP, _, rfl, ?_⟩
    unfold thirdI
    rw [tz_4]
    first | (simp [c_3]; done) | (simp [c_3]; omega) | (repeat (split <;> try omega))
  by_cases c_5 : k.toInt = 2
  · have e_5 : k.toInt = 2 := (rfl).trans c_5
    refine lv_tableIn (off := 43) (tgt := 44) hx hb d_Mod_thirdOf_1 (by rw [e_5]; decide) (by rw [e_5]; decide) (by rw [e_5]; rfl) (by decide) ?_
    refine lv_iload_n hx hb d_Mod_thirdOf_44 rfl (lv_at hl 2 rfl) ?_
    refine b_if_ne (tgt := 53) hx hb d_Mod_thirdOf_45 (by decide) rfl (fun c_6 => ?_) (fun c_6 => ?_)
    · refine lv_iload_n hx hb d_Mod_thirdOf_53 rfl (lv_at hl 1 rfl) ?_
      refine lv_iload_n hx hb d_Mod_thirdOf_54 rfl (lv_at hl 2 rfl) ?_
      refine r_Mod_divided hx hb hml hown hK hl.1 hS ⟨Nat.le_of_ble_eq_true rfl, Nat.le_of_ble_eq_true rfl⟩ ⟨Nat.le_of_ble_eq_true rfl, Nat.le_of_ble_eq_true rfl⟩ rfl rfl (by omega) (by omega) d_Mod_thirdOf_55 (Nat.le_of_ble_eq_true rfl) (fun z_7 locs tz_7 hS => ?_)
      refine e_i hx hb hr hlk hQ hS d_Mod_thirdOf_58 ?_
      refine ⟨hP, _, rfl, ?_⟩
      unfold thirdI
      rw [tz_7]
      first | (simp [c_5, c_6]; done) | (simp [c_5, c_6]; omega) | (repeat (split <;> try omega))
    · refine lv_ldc (v := 40000) hx hb hown (hK.w t_956) d_Mod_thirdOf_48 ?_
      refine lv_goto (tgt := 58) hx hb d_Mod_thirdOf_50 (by decide) ?_
      refine e_i hx hb hr hlk hQ hS d_Mod_thirdOf_58 ?_
      refine ⟨hP, _, rfl, ?_⟩
      unfold thirdI
      rw [kc_40000]
      first | (simp [c_5, c_6]; done) | (simp [c_5, c_6]; omega) | (repeat (split <;> try omega))
  by_cases c_8 : k.toInt = 3
  · have e_8 : k.toInt = 3 := (rfl).trans c_8
    refine lv_tableIn (off := 58) (tgt := 59) hx hb d_Mod_thirdOf_1 (by rw [e_8]; decide) (by rw [e_8]; decide) (by rw [e_8]; rfl) (by decide) ?_
    refine lv_iload_n hx hb d_Mod_thirdOf_59 rfl (lv_at hl 1 rfl) ?_
    refine lv_iload_n hx hb d_Mod_thirdOf_60 rfl (lv_at hl 2 rfl) ?_
    refine r_Mod_lesser hx hb hml hown hK hl.1 hS ⟨Nat.le_of_ble_eq_true rfl, Nat.le_of_ble_eq_true rfl⟩ ⟨Nat.le_of_ble_eq_true rfl, Nat.le_of_ble_eq_true rfl⟩ rfl rfl  d_Mod_thirdOf_61 (Nat.le_of_ble_eq_true rfl) (fun z_9 locs tz_9 hS => ?_)
    refine e_i hx hb hr hlk hQ hS d_Mod_thirdOf_64 ?_
    refine ⟨hP, _, rfl, ?_⟩
    unfold thirdI
    rw [tz_9]
    first | (simp [c_8]; done) | (simp [c_8]; omega) | (repeat (split <;> try omega))
  by_cases c_10 : k.toInt = 4
  · have e_10 : k.toInt = 4 := (rfl).trans c_10
    refine lv_tableIn (off := 64) (tgt := 65) hx hb d_Mod_thirdOf_1 (by rw [e_10]; decide) (by rw [e_10]; decide) (by rw [e_10]; rfl) (by decide) ?_
    refine lv_iload_n hx hb d_Mod_thirdOf_65 rfl (lv_at hl 1 rfl) ?_
    refine lv_iload_n hx hb d_Mod_thirdOf_66 rfl (lv_at hl 2 rfl) ?_
    refine r_Mod_greater hx hb hml hown hK hl.1 hS ⟨Nat.le_of_ble_eq_true rfl, Nat.le_of_ble_eq_true rfl⟩ ⟨Nat.le_of_ble_eq_true rfl, Nat.le_of_ble_eq_true rfl⟩ rfl rfl  d_Mod_thirdOf_67 (Nat.le_of_ble_eq_true rfl) (fun z_11 locs tz_11 hS => ?_)
    refine e_i hx hb hr hlk hQ hS d_Mod_thirdOf_70 ?_
    refine ⟨hP, _, rfl, ?_⟩
    unfold thirdI
    rw [tz_11]
    first | (simp [c_10]; done) | (simp [c_10]; omega) | (repeat (split <;> try omega))
  have e_sw : k.toInt = k.toInt := rfl
  refine lv_tableOut (tgt := 71) hx hb d_Mod_thirdOf_1 (by rw [e_sw]; omega) (by decide) ?_
  refine lv_iload_n hx hb d_Mod_thirdOf_71 rfl (lv_at hl 1 rfl) ?_
  refine lv_iconst (v := 1) hx hb d_Mod_thirdOf_72 (by decide) ?_
  have K_212 : ∀ (z_212_0 : Int32), z_212_0.toInt = (if 1 ≤ x.toInt then y.toInt else (-400)) → W p l e (rl 3) s m args below meth c H locs 0 0 Q (F0 m 83 ls [.int z_212_0]) := by
    intro z_212_0 hz_212_0
    refine e_i hx hb hr hlk hQ hS d_Mod_thirdOf_83 ?_
    refine ⟨hP, _, rfl, ?_⟩
    unfold thirdI
    first | (simp []; done) | (simp []; omega) | (repeat (split <;> try omega))
  refine b_icmp_ge (tgt := 82) hx hb d_Mod_thirdOf_73 (by decide) rfl kc_1 (fun c_213 => ?_) (fun c_213 => ?_)
  · refine lv_iload_n hx hb d_Mod_thirdOf_82 rfl (lv_at hl 2 rfl) ?_
    exact K_212 y (by omega)
  · refine lv_sipush (v := (-400)) hx hb d_Mod_thirdOf_76 (by decide) ?_
    refine lv_goto (tgt := 83) hx hb d_Mod_thirdOf_79 (by decide) ?_
    exact K_212 (-400 : Int32) (by have := kc_m400; omega)
theorem r_Mod_thirdOf {p : Program} {l : Launch} {e : Env} {R : Room} {s : State} {m : MethodId} {args : Array Value} {below : List Frame} {meth : Method} {c : Code} {H : Heap} {locs : List Loc} {cells slots : Nat} {Q : State → Prop} {cc : ByteArray} {pc : Nat} {ls : Array Slot} {rest : List Value} {D : va_G} {cA : Nat → ClassId} {A0 : Nat → Prop} {H0 : Heap} {nL : Nat} (hexec : p.tables.exec = Jvm.exec) (hb : c.code = cc) (hml : c.maxLocals = nL) (hown : s.vm.findClass "RangeSheetModel" = some m.cls) (hK : KE D cA s) (hsize : ls.size = nL) (hS : va_S A0 H0 H locs) (hR : 4 ≤ R.frames ∧ 202 ≤ R.locals) (hc : cells ≤ R.cells ∧ slots ≤ R.slots) {k : Int32} {x : Int32} {y : Int32} {k_i : Int} (h_k : k.toInt = k_i) {x_i : Int} (h_x : x.toInt = x_i) {y_i : Int} (h_y : y.toInt = y_i) (h0 : -100 ≤ x_i ∧ x_i ≤ 100) (h1 : -100 ≤ y_i ∧ y_i ≤ 100) (hdg : decode cc pc = .ok (.invokestatic 152, 3)) (hW : (rest.map fun v => v.category).sum ≤ 8) (kk : ∀ (z : Int32) (locs1 : List Loc), z.toInt = thirdI k_i x_i y_i → va_S A0 H0 H locs1 → W p l e R s m args below meth c H locs1 cells slots Q (F0 m (pc + 3) ls (.int z :: rest))) : W p l e R s m args below meth c H locs cells slots Q (F0 m pc ls (.int y :: .int x :: .int k :: rest)) := by
  subst h_k
  subst h_x
  subst h_y
  refine x_S hexec hb hml hown hK (k_Mod_thirdOf l D cA H k x y h0 h1) t_955 t_4 t_953 t_954 yk_Mod_thirdOf hR rfl rfl hsize rfl hW hdg hc hS (fun q h => h.elim) (fun r H1 locs1 hq _ hS1 => ?_)
  obtain ⟨rfl, z, rfl, hz⟩ := hq
  exact kk z locs1 hz hS1
