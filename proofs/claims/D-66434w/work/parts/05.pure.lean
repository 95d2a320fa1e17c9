theorem b_iff {b : Bool} {P P' : Prop} [Decidable P'] (h : b = true ↔ P) (h2 : P ↔ P') : b = decide P' := by
  cases b
  · exact (decide_eq_false (fun z => absurd (h.mpr (h2.mpr z)) (by decide))).symm
  · exact (decide_eq_true (h2.mp (h.mp rfl))).symm
theorem fin_b {b : Bool} {P P' : Prop} [Decidable P'] (h : b = true ↔ P) (h2 : P ↔ P') : some (Value.int (bi b)) = some (Value.int (bi (decide P'))) := by rw [b_iff h h2]
theorem kc_m1000 : (-1000 : Int32).toInt = -1000 := by decide
theorem kc_m400 : (-400 : Int32).toInt = -400 := by decide
theorem kc_m200 : (-200 : Int32).toInt = -200 := by decide
theorem kc_m100 : (-100 : Int32).toInt = -100 := by decide
theorem kc_m1 : (-1 : Int32).toInt = -1 := by decide
theorem kc_0 : (0 : Int32).toInt = 0 := by decide
theorem kc_1 : (1 : Int32).toInt = 1 := by decide
theorem kc_2 : (2 : Int32).toInt = 2 := by decide
theorem kc_3 : (3 : Int32).toInt = 3 := by decide
theorem kc_5 : (5 : Int32).toInt = 5 := by decide
theorem kc_6 : (6 : Int32).toInt = 6 := by decide
theorem kc_7 : (7 : Int32).toInt = 7 := by decide
theorem kc_8 : (8 : Int32).toInt = 8 := by decide
theorem kc_9 : (9 : Int32).toInt = 9 := by decide
theorem kc_10 : (10 : Int32).toInt = 10 := by decide
theorem kc_11 : (11 : Int32).toInt = 11 := by decide
theorem kc_12 : (12 : Int32).toInt = 12 := by decide
theorem kc_30 : (30 : Int32).toInt = 30 := by decide
theorem kc_31 : (31 : Int32).toInt = 31 := by decide
theorem kc_100 : (100 : Int32).toInt = 100 := by decide
theorem kc_120 : (120 : Int32).toInt = 120 := by decide
theorem kc_200 : (200 : Int32).toInt = 200 := by decide
theorem kc_300 : (300 : Int32).toInt = 300 := by decide
theorem kc_400 : (400 : Int32).toInt = 400 := by decide
theorem kc_40000 : (40000 : Int32).toInt = 40000 := by decide
theorem d_Mod_within_0 : decode b_Mod_within 0 = .ok (.iload_n 0, 1) := by decide +kernel
theorem d_Mod_within_1 : decode b_Mod_within 1 = .ok (.iload_n 1, 1) := by decide +kernel
theorem d_Mod_within_2 : decode b_Mod_within 2 = .ok (.if_icmp .lt 12, 3) := by decide +kernel
theorem d_Mod_within_5 : decode b_Mod_within 5 = .ok (.iload_n 0, 1) := by decide +kernel
theorem d_Mod_within_6 : decode b_Mod_within 6 = .ok (.iload_n 2, 1) := by decide +kernel
theorem d_Mod_within_7 : decode b_Mod_within 7 = .ok (.if_icmp .gt 7, 3) := by decide +kernel
theorem d_Mod_within_10 : decode b_Mod_within 10 = .ok (.iconst 1, 1) := by decide +kernel
theorem d_Mod_within_11 : decode b_Mod_within 11 = .ok (.goto 4, 3) := by decide +kernel
theorem d_Mod_within_14 : decode b_Mod_within 14 = .ok (.iconst 0, 1) := by decide +kernel
theorem d_Mod_within_15 : decode b_Mod_within 15 = .ok (.ireturn, 1) := by decide +kernel
set_option maxHeartbeats 4000000 in
theorem k_Mod_within (l : Launch) (D : va_G) (cA : Nat → ClassId) (H0 : Heap) (v : Int32) (f : Int32) (t : Int32)  : Ct l y_Mod_within b_Mod_within 3 (some .boolean) 1 D cA [.int v, .int f, .int t] (fun H => H = H0) (fun r H => H = H0 ∧ r = some (.int (bi (decide (f.toInt ≤ v.toInt ∧ v.toInt ≤ t.toInt))))) (fun _ => False) := by
  refine Ct.mk (by decide) (Nat.le_of_ble_eq_true rfl) ?_
  intro p e s m args below meth c Q H locs ls hx hb hr hml hlk hown hin hK hQ hS hP hl
  have hl : lv_has ls 3 [(0, .int v), (1, .int f), (2, .int t)] := hl
  refine lv_iload_n hx hb d_Mod_within_0 rfl (lv_at hl 0 rfl) ?_
  refine lv_iload_n hx hb d_Mod_within_1 rfl (lv_at hl 1 rfl) ?_
  have K_201 : ∀ (b_201_0 : Bool), (b_201_0 = true ↔ (f.toInt ≤ v.toInt ∧ v.toInt ≤ t.toInt)) → W p l e (rl 1) s m args below meth c H locs 0 0 Q (F0 m 15 ls [.int (bi b_201_0)]) := by
    intro b_201_0 hb_201_0
    refine e_z hx hb hr hlk hQ hS d_Mod_within_15 ?_
    exact ⟨hP, fin_b hb_201_0 (by omega)⟩
  refine b_icmp_lt (tgt := 14) hx hb d_Mod_within_2 (by decide) rfl rfl (fun c_202 => ?_) (fun c_202 => ?_)
  · refine lv_iconst (v := 0) hx hb d_Mod_within_14 (by decide) ?_
    exact K_201 false ⟨fun h => absurd h (by decide), fun h => absurd h (by omega)⟩
  · refine lv_iload_n hx hb d_Mod_within_5 rfl (lv_at hl 0 rfl) ?_
    refine lv_iload_n hx hb d_Mod_within_6 rfl (lv_at hl 2 rfl) ?_
    refine b_icmp_gt (tgt := 14) hx hb d_Mod_within_7 (by decide) rfl rfl (fun c_203 => ?_) (fun c_203 => ?_)
    · refine lv_iconst (v := 0) hx hb d_Mod_within_14 (by decide) ?_
      exact K_201 false ⟨fun h => absurd h (by decide), fun h => absurd h (by omega)⟩
    · refine lv_iconst (v := 1) hx hb d_Mod_within_10 (by decide) ?_
      refine lv_goto (tgt := 15) hx hb d_Mod_within_11 (by decide) ?_
      exact K_201 true ⟨fun _ => by omega, fun _ => rfl⟩
theorem r_Mod_within {p : Program} {l : Launch} {e : Env} {R : Room} {s : State} {m : MethodId} {args : Array Value} {below : List Frame} {meth : Method} {c : Code} {H : Heap} {locs : List Loc} {cells slots : Nat} {Q : State → Prop} {cc : ByteArray} {pc : Nat} {ls : Array Slot} {rest : List Value} {D : va_G} {cA : Nat → ClassId} {A0 : Nat → Prop} {H0 : Heap} {nL : Nat} (hexec : p.tables.exec = Jvm.exec) (hb : c.code = cc) (hml : c.maxLocals = nL) (hown : s.vm.findClass "RangeSheetModel" = some m.cls) (hK : KE D cA s) (hsize : ls.size = nL) (hS : va_S A0 H0 H locs) (hR : 2 ≤ R.frames ∧ 82 ≤ R.locals) (hc : cells ≤ R.cells ∧ slots ≤ R.slots) {v : Int32} {f : Int32} {t : Int32} {v_i : Int} (h_v : v.toInt = v_i) {f_i : Int} (h_f : f.toInt = f_i) {t_i : Int} (h_t : t.toInt = t_i)  (hdg : decode cc pc = .ok (.invokestatic 89, 3)) (hW : (rest.map fun v => v.category).sum ≤ 8) (kk : ∀ locs1 : List Loc, va_S A0 H0 H locs1 → W p l e R s m args below meth c H locs1 cells slots Q (F0 m (pc + 3) ls (.int (bi (decide (f_i ≤ v_i ∧ v_i ≤ t_i))) :: rest))) : W p l e R s m args below meth c H locs cells slots Q (F0 m pc ls (.int t :: .int f :: .int v :: rest)) := by
  subst h_v
  subst h_f
  subst h_t
  refine x_S hexec hb hml hown hK (k_Mod_within l D cA H v f t ) t_872 t_4 t_870 t_871 yk_Mod_within hR rfl rfl hsize rfl hW hdg hc hS (fun q h => h.elim) (fun r H1 locs1 hq _ hS1 => ?_)
  obtain ⟨rfl, rfl⟩ := hq
  exact kk locs1 hS1
theorem d_Mod_isRange_0 : decode b_Mod_isRange 0 = .ok (.iload_n 0, 1) := by decide +kernel
theorem d_Mod_isRange_1 : decode b_Mod_isRange 1 = .ok (.bipush (-100), 2) := by decide +kernel
theorem d_Mod_isRange_3 : decode b_Mod_isRange 3 = .ok (.if_icmp .lt 18, 3) := by decide +kernel
theorem d_Mod_isRange_6 : decode b_Mod_isRange 6 = .ok (.iload_n 1, 1) := by decide +kernel
theorem d_Mod_isRange_7 : decode b_Mod_isRange 7 = .ok (.bipush 100, 2) := by decide +kernel
theorem d_Mod_isRange_9 : decode b_Mod_isRange 9 = .ok (.if_icmp .gt 12, 3) := by decide +kernel
theorem d_Mod_isRange_12 : decode b_Mod_isRange 12 = .ok (.iload_n 0, 1) := by decide +kernel
theorem d_Mod_isRange_13 : decode b_Mod_isRange 13 = .ok (.iload_n 1, 1) := by decide +kernel
theorem d_Mod_isRange_14 : decode b_Mod_isRange 14 = .ok (.if_icmp .gt 7, 3) := by decide +kernel
theorem d_Mod_isRange_17 : decode b_Mod_isRange 17 = .ok (.iconst 1, 1) := by decide +kernel
theorem d_Mod_isRange_18 : decode b_Mod_isRange 18 = .ok (.goto 4, 3) := by decide +kernel
theorem d_Mod_isRange_21 : decode b_Mod_isRange 21 = .ok (.iconst 0, 1) := by decide +kernel
theorem d_Mod_isRange_22 : decode b_Mod_isRange 22 = .ok (.ireturn, 1) := by decide +kernel
set_option maxHeartbeats 4000000 in
theorem k_Mod_isRange (l : Launch) (D : va_G) (cA : Nat → ClassId) (H0 : Heap) (f : Int32) (t : Int32)  : Ct l y_Mod_isRange b_Mod_isRange 2 (some .boolean) 1 D cA [.int f, .int t] (fun H => H = H0) (fun r H => H = H0 ∧ r = some (.int (bi (decide (-100 ≤ f.toInt ∧ t.toInt ≤ 100 ∧ f.toInt ≤ t.toInt))))) (fun _ => False) := by
  refine Ct.mk (by decide) (Nat.le_of_ble_eq_true rfl) ?_
  intro p e s m args below meth c Q H locs ls hx hb hr hml hlk hown hin hK hQ hS hP hl
  have hl : lv_has ls 2 [(0, .int f), (1, .int t)] := hl
  refine lv_iload_n hx hb d_Mod_isRange_0 rfl (lv_at hl 0 rfl) ?_
  refine lv_bipush (v := (-100)) hx hb d_Mod_isRange_1 (by decide) ?_
  have K_201 : ∀ (b_201_0 : Bool), (b_201_0 = true ↔ ((-100) ≤ f.toInt ∧ (t.toInt ≤ 100 ∧ f.toInt ≤ t.toInt))) → W p l e (rl 1) s m args below meth c H locs 0 0 Q (F0 m 22 ls [.int (bi b_201_0)]) := by
    intro b_201_0 hb_201_0
    refine e_z hx hb hr hlk hQ hS d_Mod_isRange_22 ?_
    exact ⟨hP, fin_b hb_201_0 (by omega)⟩
  refine b_icmp_lt (tgt := 21) hx hb d_Mod_isRange_3 (by decide) rfl kc_m100 (fun c_202 => ?_) (fun c_202 => ?_)
  · refine lv_iconst (v := 0) hx hb d_Mod_isRange_21 (by decide) ?_
    exact K_201 false ⟨fun h => absurd h (by decide), fun h => absurd h (by omega)⟩
  · refine lv_iload_n hx hb d_Mod_isRange_6 rfl (lv_at hl 1 rfl) ?_
    refine lv_bipush (v := 100) hx hb d_Mod_isRange_7 (by decide) ?_
    refine b_icmp_gt (tgt := 21) hx hb d_Mod_isRange_9 (by decide) rfl kc_100 (fun c_203 => ?_) (fun c_203 => ?_)
    · refine lv_iconst (v := 0) hx hb d_Mod_isRange_21 (by decide) ?_
      exact K_201 false ⟨fun h => absurd h (by decide), fun h => absurd h (by omega)⟩
    · refine lv_iload_n hx hb d_Mod_isRange_12 rfl (lv_at hl 0 rfl) ?_
      refine lv_iload_n hx hb d_Mod_isRange_13 rfl (lv_at hl 1 rfl) ?_
      refine b_icmp_gt (tgt := 21) hx hb d_Mod_isRange_14 (by decide) rfl rfl (fun c_204 => ?_) (fun c_204 => ?_)
      · refine lv_iconst (v := 0) hx hb d_Mod_isRange_21 (by decide) ?_
        exact K_201 false ⟨fun h => absurd h (by decide), fun h => absurd h (by omega)⟩
      · refine lv_iconst (v := 1) hx hb d_Mod_isRange_17 (by decide) ?_
        refine lv_goto (tgt := 22) hx hb d_Mod_isRange_18 (by decide) ?_
        exact K_201 true ⟨fun _ => by omega, fun _ => rfl⟩
theorem r_Mod_isRange {p : Program} {l : Launch} {e : Env} {R : Room} {s : State} {m : MethodId} {args : Array Value} {below : List Frame} {meth : Method} {c : Code} {H : Heap} {locs : List Loc} {cells slots : Nat} {Q : State → Prop} {cc : ByteArray} {pc : Nat} {ls : Array Slot} {rest : List Value} {D : va_G} {cA : Nat → ClassId} {A0 : Nat → Prop} {H0 : Heap} {nL : Nat} (hexec : p.tables.exec = Jvm.exec) (hb : c.code = cc) (hml : c.maxLocals = nL) (hown : s.vm.findClass "RangeSheetModel" = some m.cls) (hK : KE D cA s) (hsize : ls.size = nL) (hS : va_S A0 H0 H locs) (hR : 2 ≤ R.frames ∧ 81 ≤ R.locals) (hc : cells ≤ R.cells ∧ slots ≤ R.slots) {f : Int32} {t : Int32} {f_i : Int} (h_f : f.toInt = f_i) {t_i : Int} (h_t : t.toInt = t_i)  (hdg : decode cc pc = .ok (.invokestatic 78, 3)) (hW : (rest.map fun v => v.category).sum ≤ 8) (kk : ∀ locs1 : List Loc, va_S A0 H0 H locs1 → W p l e R s m args below meth c H locs1 cells slots Q (F0 m (pc + 3) ls (.int (bi (decide (-100 ≤ f_i ∧ t_i ≤ 100 ∧ f_i ≤ t_i))) :: rest))) : W p l e R s m args below meth c H locs cells slots Q (F0 m pc ls (.int t :: .int f :: rest)) := by
  subst h_f
  subst h_t
  refine x_S hexec hb hml hown hK (k_Mod_isRange l D cA H f t ) t_857 t_4 t_855 t_856 yk_Mod_isRange hR rfl rfl hsize rfl hW hdg hc hS (fun q h => h.elim) (fun r H1 locs1 hq _ hS1 => ?_)
  obtain ⟨rfl, rfl⟩ := hq
  exact kk locs1 hS1
theorem d_Mod_lesser_0 : decode b_Mod_lesser 0 = .ok (.iload_n 0, 1) := by decide +kernel
theorem d_Mod_lesser_1 : decode b_Mod_lesser 1 = .ok (.iload_n 1, 1) := by decide +kernel
theorem d_Mod_lesser_2 : decode b_Mod_lesser 2 = .ok (.if_icmp .ge 7, 3) := by decide +kernel
theorem d_Mod_lesser_5 : decode b_Mod_lesser 5 = .ok (.iload_n 0, 1) := by decide +kernel
theorem d_Mod_lesser_6 : decode b_Mod_lesser 6 = .ok (.goto 4, 3) := by decide +kernel
theorem d_Mod_lesser_9 : decode b_Mod_lesser 9 = .ok (.iload_n 1, 1) := by decide +kernel
theorem d_Mod_lesser_10 : decode b_Mod_lesser 10 = .ok (.ireturn, 1) := by decide +kernel
set_option maxHeartbeats 4000000 in
theorem k_Mod_lesser (l : Launch) (D : va_G) (cA : Nat → ClassId) (H0 : Heap) (a : Int32) (b : Int32)  : Ct l y_Mod_lesser b_Mod_lesser 2 (some .int) 1 D cA [.int a, .int b] (fun H => H = H0) (fun r H => H = H0 ∧ ∃ z : Int32, r = some (.int z) ∧ z.toInt = min a.toInt b.toInt) (fun _ => False) := by
  refine Ct.mk (by decide) (Nat.le_of_ble_eq_true rfl) ?_
  intro p e s m args below meth c Q H locs ls hx hb hr hml hlk hown hin hK hQ hS hP hl
  have hl : lv_has ls 2 [(0, .int a), (1, .int b)] := hl
  refine lv_iload_n hx hb d_Mod_lesser_0 rfl (lv_at hl 0 rfl) ?_
  refine lv_iload_n hx hb d_Mod_lesser_1 rfl (lv_at hl 1 rfl) ?_
  have K_201 : ∀ (z_201_0 : Int32), z_201_0.toInt = (if b.toInt ≤ a.toInt then b.toInt else a.toInt) → W p l e (rl 1) s m args below meth c H locs 0 0 Q (F0 m 10 ls [.int z_201_0]) := by
    intro z_201_0 hz_201_0
    refine e_i hx hb hr hlk hQ hS d_Mod_lesser_10 ?_
    exact ⟨hP, _, rfl, by omega⟩
  refine b_icmp_ge (tgt := 9) hx hb d_Mod_lesser_2 (by decide) rfl rfl (fun c_202 => ?_) (fun c_202 => ?_)
  · refine lv_iload_n hx hb d_Mod_lesser_9 rfl (lv_at hl 1 rfl) ?_
    exact K_201 b (by omega)
  · refine lv_iload_n hx hb d_Mod_lesser_5 rfl (lv_at hl 0 rfl) ?_
    refine lv_goto (tgt := 10) hx hb d_Mod_lesser_6 (by decide) ?_
    exact K_201 a (by omega)
theorem r_Mod_lesser {p : Program} {l : Launch} {e : Env} {R : Room} {s : State} {m : MethodId} {args : Array Value} {below : List Frame} {meth : Method} {c : Code} {H : Heap} {locs : List Loc} {cells slots : Nat} {Q : State → Prop} {cc : ByteArray} {pc : Nat} {ls : Array Slot} {rest : List Value} {D : va_G} {cA : Nat → ClassId} {A0 : Nat → Prop} {H0 : Heap} {nL : Nat} (hexec : p.tables.exec = Jvm.exec) (hb : c.code = cc) (hml : c.maxLocals = nL) (hown : s.vm.findClass "RangeSheetModel" = some m.cls) (hK : KE D cA s) (hsize : ls.size = nL) (hS : va_S A0 H0 H locs) (hR : 2 ≤ R.frames ∧ 81 ≤ R.locals) (hc : cells ≤ R.cells ∧ slots ≤ R.slots) {a : Int32} {b : Int32} {a_i : Int} (h_a : a.toInt = a_i) {b_i : Int} (h_b : b.toInt = b_i)  (hdg : decode cc pc = .ok (.invokestatic 124, 3)) (hW : (rest.map fun v => v.category).sum ≤ 8) (kk : ∀ (z : Int32) (locs1 : List Loc), z.toInt = min a_i b_i → va_S A0 H0 H locs1 → W p l e R s m args below meth c H locs1 cells slots Q (F0 m (pc + 3) ls (.int z :: rest))) : W p l e R s m args below meth c H locs cells slots Q (F0 m pc ls (.int b :: .int a :: rest)) := by
  subst h_a
  subst h_b
  refine x_S hexec hb hml hown hK (k_Mod_lesser l D cA H a b ) t_916 t_4 t_914 t_915 yk_Mod_lesser hR rfl rfl hsize rfl hW hdg hc hS (fun q h => h.elim) (fun r H1 locs1 hq _ hS1 => ?_)
  obtain ⟨rfl, z, rfl, hz⟩ := hq
  exact kk z locs1 hz hS1
theorem d_Mod_greater_0 : decode b_Mod_greater 0 = .ok (.iload_n 0, 1) := by decide +kernel
theorem d_Mod_greater_1 : decode b_Mod_greater 1 = .ok (.iload_n 1, 1) := by decide +kernel
theorem d_Mod_greater_2 : decode b_Mod_greater 2 = .ok (.if_icmp .le 7, 3) := by decide +kernel
theorem d_Mod_greater_5 : decode b_Mod_greater 5 = .ok (.iload_n 0, 1) := by decide +kernel
theorem d_Mod_greater_6 : decode b_Mod_greater 6 = .ok (.goto 4, 3) := by decide +kernel
theorem d_Mod_greater_9 : decode b_Mod_greater 9 = .ok (.iload_n 1, 1) := by decide +kernel
theorem d_Mod_greater_10 : decode b_Mod_greater 10 = .ok (.ireturn, 1) := by decide +kernel
set_option maxHeartbeats 4000000 in
theorem k_Mod_greater (l : Launch) (D : va_G) (cA : Nat → ClassId) (H0 : Heap) (a : Int32) (b : Int32)  : Ct l y_Mod_greater b_Mod_greater 2 (some .int) 1 D cA [.int a, .int b] (fun H => H = H0) (fun r H => H = H0 ∧ ∃ z : Int32, r = some (.int z) ∧ z.toInt = max a.toInt b.toInt) (fun _ => False) := by
  refine Ct.mk (by decide) (Nat.le_of_ble_eq_true rfl) ?_
  intro p e s m args below meth c Q H locs ls hx hb hr hml hlk hown hin hK hQ hS hP hl
  have hl : lv_has ls 2 [(0, .int a), (1, .int b)] := hl
  refine lv_iload_n hx hb d_Mod_greater_0 rfl (lv_at hl 0 rfl) ?_
  refine lv_iload_n hx hb d_Mod_greater_1 rfl (lv_at hl 1 rfl) ?_
  have K_201 : ∀ (z_201_0 : Int32), z_201_0.toInt = (if a.toInt ≤ b.toInt then b.toInt else a.toInt) → W p l e (rl 1) s m args below meth c H locs 0 0 Q (F0 m 10 ls [.int z_201_0]) := by
    intro z_201_0 hz_201_0
    refine e_i hx hb hr hlk hQ hS d_Mod_greater_10 ?_
    exact ⟨hP, _, rfl, by omega⟩
  refine b_icmp_le (tgt := 9) hx hb d_Mod_greater_2 (by decide) rfl rfl (fun c_202 => ?_) (fun c_202 => ?_)
  · refine lv_iload_n hx hb d_Mod_greater_9 rfl (lv_at hl 1 rfl) ?_
    exact K_201 b (by omega)
  · refine lv_iload_n hx hb d_Mod_greater_5 rfl (lv_at hl 0 rfl) ?_
    refine lv_goto (tgt := 10) hx hb d_Mod_greater_6 (by decide) ?_
    exact K_201 a (by omega)
theorem r_Mod_greater {p : Program} {l : Launch} {e : Env} {R : Room} {s : State} {m : MethodId} {args : Array Value} {below : List Frame} {meth : Method} {c : Code} {H : Heap} {locs : List Loc} {cells slots : Nat} {Q : State → Prop} {cc : ByteArray} {pc : Nat} {ls : Array Slot} {rest : List Value} {D : va_G} {cA : Nat → ClassId} {A0 : Nat → Prop} {H0 : Heap} {nL : Nat} (hexec : p.tables.exec = Jvm.exec) (hb : c.code = cc) (hml : c.maxLocals = nL) (hown : s.vm.findClass "RangeSheetModel" = some m.cls) (hK : KE D cA s) (hsize : ls.size = nL) (hS : va_S A0 H0 H locs) (hR : 2 ≤ R.frames ∧ 81 ≤ R.locals) (hc : cells ≤ R.cells ∧ slots ≤ R.slots) {a : Int32} {b : Int32} {a_i : Int} (h_a : a.toInt = a_i) {b_i : Int} (h_b : b.toInt = b_i)  (hdg : decode cc pc = .ok (.invokestatic 120, 3)) (hW : (rest.map fun v => v.category).sum ≤ 8) (kk : ∀ (z : Int32) (locs1 : List Loc), z.toInt = max a_i b_i → va_S A0 H0 H locs1 → W p l e R s m args below meth c H locs1 cells slots Q (F0 m (pc + 3) ls (.int z :: rest))) : W p l e R s m args below meth c H locs cells slots Q (F0 m pc ls (.int b :: .int a :: rest)) := by
  subst h_a
  subst h_b
  refine x_S hexec hb hml hown hK (k_Mod_greater l D cA H a b ) t_913 t_4 t_911 t_912 yk_Mod_greater hR rfl rfl hsize rfl hW hdg hc hS (fun q h => h.elim) (fun r H1 locs1 hq _ hS1 => ?_)
  obtain ⟨rfl, z, rfl, hz⟩ := hq
  exact kk z locs1 hz hS1
