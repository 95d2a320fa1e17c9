theorem bi_int (b : Bool) : (bi b).toInt = (b.toNat : Int) := by cases b <;> rfl
theorem pcN_tb : ∀ a, a < 1024 → (1 < pcN a 31 ↔ ¬ a &&& (a - 1) = 0) := by decide +kernel
theorem p2_le {n : Nat} (h : n ≤ 10) : 2 ^ n ≤ 1024 := Nat.pow_le_pow_right (n := 2) (by decide) h
noncomputable def b_rel (n m : Nat) (k a b c : Int) : Int := @ite _ (RO n k a b c) (Classical.propDecidable _) (if m = 12 then 2 else 0) 1
theorem b_rel_1 {n m : Nat} {k a b c : Int} (h : ¬ RO n k a b c) : b_rel n m k a b c = 1 := by unfold b_rel; rw [if_neg h]
theorem b_rel_2 {n m : Nat} {k a b c : Int} (h : RO n k a b c) (hm : m = 12) : b_rel n m k a b c = 2 := by unfold b_rel; rw [if_pos h, if_pos hm]
theorem b_rel_0 {n m : Nat} {k a b c : Int} (h : RO n k a b c) (hm : ¬ m = 12) : b_rel n m k a b c = 0 := by unfold b_rel; rw [if_pos h, if_neg hm]
def G_rel (F : Nat → Nat → Int32) (m : Nat) (k a b c : Int32) : Nat → Nat → Int32 := va_up (va_up (va_up (va_up (va_up F 5 (upd (F 5) m k)) 6 (upd (F 6) m a)) 7 (upd (F 7) m b)) 8 (upd (F 8) m c)) 9 (upd (F 9) m (bi true))
/-- hold -/
def q_hold (F : Nat → Nat → Int32) (m : Nat) (r : Int) (g : Bool) : Bool := decide (0 ≤ r ∧ r < m ∧ ¬ gB F r.toNat = g)
def G_hold (F : Nat → Nat → Int32) (m : Nat) (r : Int) (g : Bool) : Nat → Nat → Int32 := if q_hold F m r g = true then va_up F 9 (upd (F 9) r.toNat (bi g)) else F
/-- row -/
def q_row (F : Nat → Nat → Int32) (t x y : Int) : Prop := (0 ≤ t ∧ t ≤ 2) ∧ (-100 ≤ x ∧ x ≤ 100) ∧ (-100 ≤ y ∧ y ≤ 100) ∧ ¬ (F 10 t.toNat).toInt = 10
def G_row (F : Nat → Nat → Int32) (t : Int) (x y : Int32) : Nat → Nat → Int32 := va_up (va_up (va_up F 11 (upd (F 11) (10 * t.toNat + (F 10 t.toNat).toInt.toNat) x)) 12 (upd (F 12) (10 * t.toNat + (F 10 t.toNat).toInt.toNat) y)) 10 (upd (F 10) t.toNat (Int32.ofInt ((F 10 t.toNat).toInt + 1)))
/-- set -/
def b_set (n en : Nat) (k lo hh : Int) : Int := if ¬ ((0 ≤ k ∧ k < n) ∧ -100 ≤ lo ∧ hh ≤ 100 ∧ lo ≤ hh) then 1 else if en = 12 then 2 else 0
def J_set (I : Nat → Int32) (en mk : Nat) : Nat → Int32 := va_up (va_up I 17 (Int32.ofInt ((mk ||| 2 ^ en : Nat) : Int))) 13 (Int32.ofInt ((en : Int) + 1))
def G_set (F : Nat → Nat → Int32) (en : Nat) (k lo hh : Int32) : Nat → Nat → Int32 := va_up (va_up (va_up F 14 (upd (F 14) en k)) 15 (upd (F 15) en lo)) 16 (upd (F 16) en hh)
/-- force -/
def q_force (en mk : Nat) (e : Int) (on : Bool) : Bool := decide (0 ≤ e ∧ e < en ∧ ¬ mk.testBit e.toNat = on)
def J_force (I : Nat → Int32) (en mk : Nat) (e : Int) (on : Bool) : Nat → Int32 := if q_force en mk e on = true then va_up I 17 (Int32.ofInt ((mk ^^^ 2 ^ e.toNat : Nat) : Int)) else I
theorem d_Mod_bits_0 : decode b_Mod_bits 0 = .ok (.iconst 0, 1) := by decide +kernel
theorem d_Mod_bits_1 : decode b_Mod_bits 1 = .ok (.istore_n 1, 1) := by decide +kernel
theorem d_Mod_bits_2 : decode b_Mod_bits 2 = .ok (.iconst 0, 1) := by decide +kernel
theorem d_Mod_bits_3 : decode b_Mod_bits 3 = .ok (.istore_n 2, 1) := by decide +kernel
theorem d_Mod_bits_4 : decode b_Mod_bits 4 = .ok (.iload_n 2, 1) := by decide +kernel
theorem d_Mod_bits_5 : decode b_Mod_bits 5 = .ok (.bipush 31, 2) := by decide +kernel
theorem d_Mod_bits_7 : decode b_Mod_bits 7 = .ok (.if_icmp .ge 17, 3) := by decide +kernel
theorem d_Mod_bits_10 : decode b_Mod_bits 10 = .ok (.iload_n 1, 1) := by decide +kernel
theorem d_Mod_bits_11 : decode b_Mod_bits 11 = .ok (.iload_n 0, 1) := by decide +kernel
theorem d_Mod_bits_12 : decode b_Mod_bits 12 = .ok (.iload_n 2, 1) := by decide +kernel
theorem d_Mod_bits_13 : decode b_Mod_bits 13 = .ok (.ishr, 1) := by decide +kernel
theorem d_Mod_bits_14 : decode b_Mod_bits 14 = .ok (.iconst 1, 1) := by decide +kernel
theorem d_Mod_bits_15 : decode b_Mod_bits 15 = .ok (.iand, 1) := by decide +kernel
theorem d_Mod_bits_16 : decode b_Mod_bits 16 = .ok (.iadd, 1) := by decide +kernel
theorem d_Mod_bits_17 : decode b_Mod_bits 17 = .ok (.istore_n 1, 1) := by decide +kernel
theorem d_Mod_bits_18 : decode b_Mod_bits 18 = .ok (.iinc 2 1, 3) := by decide +kernel
theorem d_Mod_bits_21 : decode b_Mod_bits 21 = .ok (.goto (-17), 3) := by decide +kernel
theorem d_Mod_bits_24 : decode b_Mod_bits 24 = .ok (.iload_n 1, 1) := by decide +kernel
theorem d_Mod_bits_25 : decode b_Mod_bits 25 = .ok (.ireturn, 1) := by decide +kernel
set_option maxHeartbeats 4000000 in
theorem k_Mod_bits (l : Launch) (D : va_G) (cA : Nat → ClassId) (H0 : Heap) (va : Int32) (h0 : 0 ≤ va.toInt) : Ct l y_Mod_bits b_Mod_bits 3 (some .int) 1 D cA [.int va] (fun H => H = H0) (fun r H => H = H0 ∧ ∃ z : Int32, r = some (.int z) ∧ z.toInt = (pcN va.toInt.toNat 31 : Int)) (fun _ => False) := by
  refine Ct.mk (by decide) (Nat.le_of_ble_eq_true rfl) ?_
  intro p e s m args below meth c Q H locs ls hx hb hr hml hlk hown hin hK hQ hS hP hl
  have hl : lv_has ls 3 [(0, .int va)] := hl
  have hva : va.toInt = (va.toInt.toNat : Int) := by omega
  refine lv_iconst (v := 0) hx hb d_Mod_bits_0 (by decide) ?_
  refine lv_istore_n (lv' := [(1, .int (0 : Int32)), (0, .int va)]) hx hb d_Mod_bits_1 rfl hl (by decide) rfl (fun ls hl => ?_)
  refine lv_iconst (v := 0) hx hb d_Mod_bits_2 (by decide) ?_
  refine lv_istore_n (lv' := [(2, .int (0 : Int32)), (1, .int (0 : Int32)), (0, .int va)]) hx hb d_Mod_bits_3 rfl hl (by decide) rfl (fun ls hl => ?_)
  have L_1 : ∀ (n : Nat) (kx : Nat) (x1 : Int32) (x2 : Int32) (H : Heap) (locs : List Loc) (ls : Array Slot), (31 - kx) < n → (kx ≤ 31) → (x1.toInt = (pcN va.toInt.toNat kx : Int)) → (x2.toInt = (kx : Int)) → H = H0 → va_S (fun _ => False) s.heap H locs → lv_has ls 3 [(0, .int va), (1, .int x1), (2, .int x2)] → W p l e (rl 1) s m args below meth c H locs 0 0 Q (F0 m 4 ls []) := by
    intro n
    induction n with
    | zero => intro kx x1 x2 H locs ls hmu; exact absurd hmu (Nat.not_lt_zero _)
    | succ n ih_1 =>
      intro kx x1 x2 H locs ls hmu hkx h1 h2 hP hS hl
      have hpl := pcN_le va.toInt.toNat kx
      have hva : va.toInt = (va.toInt.toNat : Int) := by omega
      refine lv_iload_n hx hb d_Mod_bits_4 rfl (lv_at hl 2 rfl) ?_
      refine lv_bipush (v := 31) hx hb d_Mod_bits_5 (by decide) ?_
      refine b_icmp_ge (tgt := 24) hx hb d_Mod_bits_7 (by decide) h2 kc_31 (fun c_2 => ?_) (fun c_2 => ?_)
      · refine lv_iload_n hx hb d_Mod_bits_24 rfl (lv_at hl 1 rfl) ?_
        refine e_i hx hb hr hlk hQ hS d_Mod_bits_25 ?_
        exact ⟨hP, _, rfl, by rw [h1, show kx = 31 by omega]⟩
      · refine lv_iload_n hx hb d_Mod_bits_10 rfl (lv_at hl 1 rfl) ?_
        refine lv_iload_n hx hb d_Mod_bits_11 rfl (lv_at hl 0 rfl) ?_
        refine lv_iload_n hx hb d_Mod_bits_12 rfl (lv_at hl 2 rfl) ?_
        refine lv_ishr hx hb d_Mod_bits_13 ?_
        refine lv_iconst (v := 1) hx hb d_Mod_bits_14 (by decide) ?_
        refine x_bit hx hb d_Mod_bits_15 hva h2 (by omega) (by omega) ?_
        refine x_add hx hb d_Mod_bits_16 h1 (bi_int _) (by have := Bool.toNat_le (hasN (va.toInt.toNat : Int) (kx : Int)); omega) (fun z_3 tz_3 => ?_)
        refine lv_istore_n (lv' := [(1, .int z_3), (0, .int va), (2, .int x2)]) hx hb d_Mod_bits_17 rfl hl (by decide) rfl (fun ls hl => ?_)
        refine x_iinc (k := 2) (lv' := fun v_ => [(2, .int v_), (1, .int z_3), (0, .int va)]) hx hb d_Mod_bits_18 hl rfl h2 (by decide) (by omega) (by decide) (fun v_ => rfl) (fun z_4 tz_4 ls hl => ?_)
        refine lv_goto (tgt := 4) hx hb d_Mod_bits_21 (by decide) ?_
        exact ih_1 (kx + 1) z_3 z_4 _ _ _ (by omega) (by omega) (by rw [tz_3, hasN_nat]; simp only [pcN]; omega) (by omega) hP hS (lv_sub hl [2, 1, 0] rfl)
  exact L_1 (_ + 1) 0 (0 : Int32) (0 : Int32) _ _ _ (Nat.lt_succ_self _) (by omega) kc_0 kc_0 hP hS (lv_sub hl [2, 1, 0] rfl)
theorem r_Mod_bits {p : Program} {l : Launch} {e : Env} {R : Room} {s : State} {m : MethodId} {args : Array Value} {below : List Frame} {meth : Method} {c : Code} {H : Heap} {locs : List Loc} {cells slots : Nat} {Q : State → Prop} {cc : ByteArray} {pc : Nat} {ls : Array Slot} {rest : List Value} {D : va_G} {cA : Nat → ClassId} {A0 : Nat → Prop} {H0 : Heap} {nL : Nat} (hexec : p.tables.exec = Jvm.exec) (hb : c.code = cc) (hml : c.maxLocals = nL) (hown : s.vm.findClass "RangeSheetModel" = some m.cls) (hK : KE D cA s) (hsize : ls.size = nL) (hS : va_S A0 H0 H locs) (hR : 2 ≤ R.frames ∧ 82 ≤ R.locals) (hc : cells ≤ R.cells ∧ slots ≤ R.slots) {va : Int32} {va_i : Int} (h_va : va.toInt = va_i) (h0 : 0 ≤ va_i) (hdg : decode cc pc = .ok (.invokestatic 93, 3)) (hW : (rest.map fun v => v.category).sum ≤ 8) (kk : ∀ (z : Int32) (locs1 : List Loc), z.toInt = (pcN va_i.toNat 31 : Int) → va_S A0 H0 H locs1 → W p l e R s m args below meth c H locs1 cells slots Q (F0 m (pc + 3) ls (.int z :: rest))) : W p l e R s m args below meth c H locs cells slots Q (F0 m pc ls (.int va :: rest)) := by
  subst h_va
  refine x_S hexec hb hml hown hK (k_Mod_bits l D cA H va h0) t_875 t_4 t_873 t_874 yk_Mod_bits hR rfl rfl hsize rfl hW hdg hc hS (fun q h => h.elim) (fun r H1 locs1 hq _ hS1 => ?_)
  obtain ⟨rfl, z, rfl, hz⟩ := hq
  exact kk z locs1 hz hS1
theorem d_Mod_isRelation_0 : decode b_Mod_isRelation 0 = .ok (.iload_n 1, 1) := by decide +kernel
theorem d_Mod_isRelation_1 : decode b_Mod_isRelation 1 = .ok (.iconst 0, 1) := by decide +kernel
theorem d_Mod_isRelation_2 : decode b_Mod_isRelation 2 = .ok (.bipush 8, 2) := by decide +kernel
theorem d_Mod_isRelation_4 : decode b_Mod_isRelation 4 = .ok (.invokestatic 89, 3) := by decide +kernel
theorem d_Mod_isRelation_7 : decode b_Mod_isRelation 7 = .ok (.ifCond .ne 5, 3) := by decide +kernel
theorem d_Mod_isRelation_10 : decode b_Mod_isRelation 10 = .ok (.iconst 0, 1) := by decide +kernel
theorem d_Mod_isRelation_11 : decode b_Mod_isRelation 11 = .ok (.ireturn, 1) := by decide +kernel
theorem d_Mod_isRelation_12 : decode b_Mod_isRelation 12 = .ok (.iload_n 1, 1) := by decide +kernel
theorem d_Mod_isRelation_13 : decode b_Mod_isRelation 13 = .ok (.bipush 7, 2) := by decide +kernel
theorem d_Mod_isRelation_15 : decode b_Mod_isRelation 15 = .ok (.if_icmp .ne 33, 3) := by decide +kernel
theorem d_Mod_isRelation_18 : decode b_Mod_isRelation 18 = .ok (.iload_n 2, 1) := by decide +kernel
theorem d_Mod_isRelation_19 : decode b_Mod_isRelation 19 = .ok (.iconst 1, 1) := by decide +kernel
theorem d_Mod_isRelation_20 : decode b_Mod_isRelation 20 = .ok (.iconst 1, 1) := by decide +kernel
theorem d_Mod_isRelation_21 : decode b_Mod_isRelation 21 = .ok (.aload_n 0, 1) := by decide +kernel
theorem d_Mod_isRelation_22 : decode b_Mod_isRelation 22 = .ok (.getfield 86, 3) := by decide +kernel
theorem d_Mod_isRelation_25 : decode b_Mod_isRelation 25 = .ok (.ishl, 1) := by decide +kernel
theorem d_Mod_isRelation_26 : decode b_Mod_isRelation 26 = .ok (.iconst 1, 1) := by decide +kernel
theorem d_Mod_isRelation_27 : decode b_Mod_isRelation 27 = .ok (.isub, 1) := by decide +kernel
theorem d_Mod_isRelation_28 : decode b_Mod_isRelation 28 = .ok (.invokestatic 89, 3) := by decide +kernel
theorem d_Mod_isRelation_31 : decode b_Mod_isRelation 31 = .ok (.ifCond .eq 15, 3) := by decide +kernel
theorem d_Mod_isRelation_34 : decode b_Mod_isRelation 34 = .ok (.iload_n 2, 1) := by decide +kernel
theorem d_Mod_isRelation_35 : decode b_Mod_isRelation 35 = .ok (.invokestatic 93, 3) := by decide +kernel
theorem d_Mod_isRelation_38 : decode b_Mod_isRelation 38 = .ok (.iconst 1, 1) := by decide +kernel
theorem d_Mod_isRelation_39 : decode b_Mod_isRelation 39 = .ok (.if_icmp .le 7, 3) := by decide +kernel
theorem d_Mod_isRelation_42 : decode b_Mod_isRelation 42 = .ok (.iconst 1, 1) := by decide +kernel
theorem d_Mod_isRelation_43 : decode b_Mod_isRelation 43 = .ok (.goto 4, 3) := by decide +kernel
theorem d_Mod_isRelation_46 : decode b_Mod_isRelation 46 = .ok (.iconst 0, 1) := by decide +kernel
theorem d_Mod_isRelation_47 : decode b_Mod_isRelation 47 = .ok (.ireturn, 1) := by decide +kernel
theorem d_Mod_isRelation_48 : decode b_Mod_isRelation 48 = .ok (.iload_n 1, 1) := by decide +kernel
theorem d_Mod_isRelation_49 : decode b_Mod_isRelation 49 = .ok (.iconst 5, 1) := by decide +kernel
theorem d_Mod_isRelation_50 : decode b_Mod_isRelation 50 = .ok (.if_icmp .ne 17, 3) := by decide +kernel
theorem d_Mod_isRelation_53 : decode b_Mod_isRelation 53 = .ok (.iload 4, 2) := by decide +kernel
theorem d_Mod_isRelation_55 : decode b_Mod_isRelation 55 = .ok (.sipush (-200), 3) := by decide +kernel
theorem d_Mod_isRelation_58 : decode b_Mod_isRelation 58 = .ok (.sipush 200, 3) := by decide +kernel
theorem d_Mod_isRelation_61 : decode b_Mod_isRelation 61 = .ok (.invokestatic 89, 3) := by decide +kernel
theorem d_Mod_isRelation_64 : decode b_Mod_isRelation 64 = .ok (.goto 25, 3) := by decide +kernel
theorem d_Mod_isRelation_67 : decode b_Mod_isRelation 67 = .ok (.iload_n 1, 1) := by decide +kernel
theorem d_Mod_isRelation_68 : decode b_Mod_isRelation 68 = .ok (.bipush 7, 2) := by decide +kernel
theorem d_Mod_isRelation_70 : decode b_Mod_isRelation 70 = .ok (.if_icmp .le 13, 3) := by decide +kernel
theorem d_Mod_isRelation_73 : decode b_Mod_isRelation 73 = .ok (.iload 4, 2) := by decide +kernel
theorem d_Mod_isRelation_75 : decode b_Mod_isRelation 75 = .ok (.iconst 0, 1) := by decide +kernel
theorem d_Mod_isRelation_76 : decode b_Mod_isRelation 76 = .ok (.iconst 2, 1) := by decide +kernel
theorem d_Mod_isRelation_77 : decode b_Mod_isRelation 77 = .ok (.invokestatic 89, 3) := by decide +kernel
theorem d_Mod_isRelation_80 : decode b_Mod_isRelation 80 = .ok (.goto 9, 3) := by decide +kernel
theorem d_Mod_isRelation_83 : decode b_Mod_isRelation 83 = .ok (.aload_n 0, 1) := by decide +kernel
theorem d_Mod_isRelation_84 : decode b_Mod_isRelation 84 = .ok (.iload 4, 2) := by decide +kernel
theorem d_Mod_isRelation_86 : decode b_Mod_isRelation 86 = .ok (.invokevirtual 96, 3) := by decide +kernel
theorem d_Mod_isRelation_89 : decode b_Mod_isRelation 89 = .ok (.istore 5, 2) := by decide +kernel
theorem d_Mod_isRelation_91 : decode b_Mod_isRelation 91 = .ok (.iload 5, 2) := by decide +kernel
theorem d_Mod_isRelation_93 : decode b_Mod_isRelation 93 = .ok (.ifCond .eq 23, 3) := by decide +kernel
theorem d_Mod_isRelation_96 : decode b_Mod_isRelation 96 = .ok (.aload_n 0, 1) := by decide +kernel
theorem d_Mod_isRelation_97 : decode b_Mod_isRelation 97 = .ok (.iload_n 2, 1) := by decide +kernel
theorem d_Mod_isRelation_98 : decode b_Mod_isRelation 98 = .ok (.invokevirtual 96, 3) := by decide +kernel
theorem d_Mod_isRelation_101 : decode b_Mod_isRelation 101 = .ok (.ifCond .eq 15, 3) := by decide +kernel
theorem d_Mod_isRelation_104 : decode b_Mod_isRelation 104 = .ok (.aload_n 0, 1) := by decide +kernel
theorem d_Mod_isRelation_105 : decode b_Mod_isRelation 105 = .ok (.iload_n 3, 1) := by decide +kernel
theorem d_Mod_isRelation_106 : decode b_Mod_isRelation 106 = .ok (.invokevirtual 96, 3) := by decide +kernel
theorem d_Mod_isRelation_109 : decode b_Mod_isRelation 109 = .ok (.ifCond .eq 7, 3) := by decide +kernel
theorem d_Mod_isRelation_112 : decode b_Mod_isRelation 112 = .ok (.iconst 1, 1) := by decide +kernel
theorem d_Mod_isRelation_113 : decode b_Mod_isRelation 113 = .ok (.goto 4, 3) := by decide +kernel
theorem d_Mod_isRelation_116 : decode b_Mod_isRelation 116 = .ok (.iconst 0, 1) := by decide +kernel
theorem d_Mod_isRelation_117 : decode b_Mod_isRelation 117 = .ok (.ireturn, 1) := by decide +kernel
set_option maxHeartbeats 4000000 in
set_option maxRecDepth 20000 in
theorem k_Mod_isRelation (l : Launch) (D : va_G) (cA : Nat → ClassId) (adr : Nat → Nat) (hi : wI mN adr) (I : Nat → Int32) (F : Nat → Nat → Int32) (nn : Nat) (xk xa xb xc : Int32) (hn10 : nn ≤ 10) (hn1 : (I 1).toInt = (nn : Int)) : Ct l y_Mod_isRelation b_Mod_isRelation 6 (some .boolean) 3 D cA [.ref (adr 0), .int xk, .int xa, .int xb, .int xc] (fun H => MP D cA adr I F H) (fun r H => ∃ q : Bool, r = some (.int (bi q)) ∧ (q = true ↔ RO nn xk.toInt xa.toInt xb.toInt xc.toInt) ∧ MP D cA adr I F H) (wA mN adr) := by
  refine Ct.mk (by decide) (Nat.le_of_ble_eq_true rfl) ?_
  intro p e s m args below meth c Q H locs ls hx hb hr hml hlk hown hin hK hQ hS hP hl
  have hl : lv_has ls 6 [(0, .ref (adr 0)), (1, .int xk), (2, .int xa), (3, .int xb), (4, .int xc)] := hl
  have hown : s.vm.findClass "RangeSheetModel" = some m.cls := hown
  have hp2 := p2_le hn10
  have hp3 := Nat.one_le_two_pow (n := nn)
  refine lv_iload_n hx hb d_Mod_isRelation_0 rfl (lv_at hl 1 rfl) ?_
  refine lv_iconst (v := 0) hx hb d_Mod_isRelation_1 (by decide) ?_
  refine lv_bipush (v := 8) hx hb d_Mod_isRelation_2 (by decide) ?_
  refine r_Mod_within hx hb hml hown hK hl.1 hS ⟨Nat.le_of_ble_eq_true rfl, Nat.le_of_ble_eq_true rfl⟩ ⟨Nat.le_of_ble_eq_true rfl, Nat.le_of_ble_eq_true rfl⟩ rfl kc_0 kc_8  d_Mod_isRelation_4 (Nat.le_of_ble_eq_true rfl) (fun locs hS => ?_)
  refine b_bool_ne (tgt := 12) hx hb d_Mod_isRelation_7 (by decide) (fun c_1 => ?_) (fun c_1 => ?_)
  · have hc_1 := of_decide_eq_true c_1
    refine lv_iload_n hx hb d_Mod_isRelation_12 rfl (lv_at hl 1 rfl) ?_
    refine lv_bipush (v := 7) hx hb d_Mod_isRelation_13 (by decide) ?_
    refine b_icmp_ne (tgt := 48) hx hb d_Mod_isRelation_15 (by decide) rfl kc_7 (fun c_2 => ?_) (fun c_2 => ?_)
    · refine lv_iload_n hx hb d_Mod_isRelation_48 rfl (lv_at hl 1 rfl) ?_
      refine lv_iconst (v := 5) hx hb d_Mod_isRelation_49 (by decide) ?_
      refine b_icmp_ne (tgt := 67) hx hb d_Mod_isRelation_50 (by decide) rfl kc_5 (fun c_3 => ?_) (fun c_3 => ?_)
      · refine lv_iload_n hx hb d_Mod_isRelation_67 rfl (lv_at hl 1 rfl) ?_
        refine lv_bipush (v := 7) hx hb d_Mod_isRelation_68 (by decide) ?_
        refine b_icmp_le (tgt := 83) hx hb d_Mod_isRelation_70 (by decide) rfl kc_7 (fun c_4 => ?_) (fun c_4 => ?_)
        · refine lv_aload_n hx hb d_Mod_isRelation_83 rfl (lv_at hl 0 rfl) ?_
          refine lv_iload hx hb d_Mod_isRelation_84 (lv_at hl 4 rfl) ?_
          refine x_V (As := [.int xc]) (rest := []) hx hb hml hown hK (k_Mod_isCell l D cA adr hi I F nn xc hn10 hn1) t_879 t_4 t_876 t_878 ts_18 yk_Mod_isCell ⟨Nat.le_of_ble_eq_true rfl, Nat.le_of_ble_eq_true rfl⟩ (m_rec hK hP) hP rfl hl.1 rfl (Nat.le_of_ble_eq_true rfl) d_Mod_isRelation_86 ⟨Nat.le_of_ble_eq_true rfl, Nat.le_of_ble_eq_true rfl⟩ hS (fun q h => h) (fun r H locs hq _ hS => ?_)
          obtain ⟨rfl, hP⟩ := hq
          refine W.eq (g2 := F0 m 89 ls [.int (bi (decide (0 ≤ xc.toInt ∧ xc.toInt ≤ (nn : Int) - 1)))]) rfl ?_
          refine lv_istore (lv' := [(5, .int (bi (decide (0 ≤ xc.toInt ∧ xc.toInt ≤ (nn : Int) - 1)))), (0, .ref (adr 0)), (1, .int xk), (2, .int xa), (3, .int xb), (4, .int xc)]) hx hb d_Mod_isRelation_89 hl (by decide) rfl (fun ls hl => ?_)
          refine lv_iload hx hb d_Mod_isRelation_91 (lv_at hl 0 rfl) ?_
          refine b_bool_eq (tgt := 116) hx hb d_Mod_isRelation_93 (by decide) (fun c_5 => ?_) (fun c_5 => ?_)
          · have hc_5 := of_decide_eq_false c_5
            refine lv_iconst (v := 0) hx hb d_Mod_isRelation_116 (by decide) ?_
            refine W.eq (g2 := F0 m 117 ls [.int (bi false)]) rfl ?_
            refine e_z hx hb hr hlk hQ hS d_Mod_isRelation_117 ?_
            refine ⟨false, rfl, ?_, hP⟩
            refine ⟨fun h => absurd h (by decide), fun h => ?_⟩
            obtain ⟨⟨v0, v7, v1, v5, v8, v3⟩, vt⟩ := h; exfalso; omega
          · have hc_5 := of_decide_eq_true c_5
            refine lv_aload_n hx hb d_Mod_isRelation_96 rfl (lv_at hl 1 rfl) ?_
            refine lv_iload_n hx hb d_Mod_isRelation_97 rfl (lv_at hl 3 rfl) ?_
            refine x_V (As := [.int xa]) (rest := []) hx hb hml hown hK (k_Mod_isCell l D cA adr hi I F nn xa hn10 hn1) t_879 t_4 t_876 t_878 ts_18 yk_Mod_isCell ⟨Nat.le_of_ble_eq_true rfl, Nat.le_of_ble_eq_true rfl⟩ (m_rec hK hP) hP rfl hl.1 rfl (Nat.le_of_ble_eq_true rfl) d_Mod_isRelation_98 ⟨Nat.le_of_ble_eq_true rfl, Nat.le_of_ble_eq_true rfl⟩ hS (fun q h => h) (fun r H locs hq _ hS => ?_)
            obtain ⟨rfl, hP⟩ := hq
            refine W.eq (g2 := F0 m 101 ls [.int (bi (decide (0 ≤ xa.toInt ∧ xa.toInt ≤ (nn : Int) - 1)))]) rfl ?_
            refine b_bool_eq (tgt := 116) hx hb d_Mod_isRelation_101 (by decide) (fun c_6 => ?_) (fun c_6 => ?_)
            · have hc_6 := of_decide_eq_false c_6
              refine lv_iconst (v := 0) hx hb d_Mod_isRelation_116 (by decide) ?_
              refine W.eq (g2 := F0 m 117 ls [.int (bi false)]) rfl ?_
              refine e_z hx hb hr hlk hQ hS d_Mod_isRelation_117 ?_
              refine ⟨false, rfl, ?_, hP⟩
              refine ⟨fun h => absurd h (by decide), fun h => ?_⟩
              obtain ⟨⟨v0, v7, v1, v5, v8, v3⟩, vt⟩ := h; exfalso; omega
            · have hc_6 := of_decide_eq_true c_6
              refine lv_aload_n hx hb d_Mod_isRelation_104 rfl (lv_at hl 1 rfl) ?_
              refine lv_iload_n hx hb d_Mod_isRelation_105 rfl (lv_at hl 4 rfl) ?_
              refine x_V (As := [.int xb]) (rest := []) hx hb hml hown hK (k_Mod_isCell l D cA adr hi I F nn xb hn10 hn1) t_879 t_4 t_876 t_878 ts_18 yk_Mod_isCell ⟨Nat.le_of_ble_eq_true rfl, Nat.le_of_ble_eq_true rfl⟩ (m_rec hK hP) hP rfl hl.1 rfl (Nat.le_of_ble_eq_true rfl) d_Mod_isRelation_106 ⟨Nat.le_of_ble_eq_true rfl, Nat.le_of_ble_eq_true rfl⟩ hS (fun q h => h) (fun r H locs hq _ hS => ?_)
              obtain ⟨rfl, hP⟩ := hq
              refine W.eq (g2 := F0 m 109 ls [.int (bi (decide (0 ≤ xb.toInt ∧ xb.toInt ≤ (nn : Int) - 1)))]) rfl ?_
              refine b_bool_eq (tgt := 116) hx hb d_Mod_isRelation_109 (by decide) (fun c_7 => ?_) (fun c_7 => ?_)
              · have hc_7 := of_decide_eq_false c_7
                refine lv_iconst (v := 0) hx hb d_Mod_isRelation_116 (by decide) ?_
                refine W.eq (g2 := F0 m 117 ls [.int (bi false)]) rfl ?_
                refine e_z hx hb hr hlk hQ hS d_Mod_isRelation_117 ?_
                refine ⟨false, rfl, ?_, hP⟩
                refine ⟨fun h => absurd h (by decide), fun h => ?_⟩
                obtain ⟨⟨v0, v7, v1, v5, v8, v3⟩, vt⟩ := h; exfalso; omega
              · have hc_7 := of_decide_eq_true c_7
                refine lv_iconst (v := 1) hx hb d_Mod_isRelation_112 (by decide) ?_
                refine lv_goto (tgt := 117) hx hb d_Mod_isRelation_113 (by decide) ?_
                refine W.eq (g2 := F0 m 117 ls [.int (bi true)]) rfl ?_
                refine e_z hx hb hr hlk hQ hS d_Mod_isRelation_117 ?_
                refine ⟨true, rfl, ?_, hP⟩
                exact ⟨fun _ => ⟨⟨by omega, fun h => absurd h (by omega), fun _ => by omega, fun _ => by omega, fun _ => by omega, fun _ _ _ => by omega⟩, fun h => absurd h (by omega)⟩, fun _ => rfl⟩
        · refine lv_iload hx hb d_Mod_isRelation_73 (lv_at hl 4 rfl) ?_
          refine lv_iconst (v := 0) hx hb d_Mod_isRelation_75 (by decide) ?_
          refine lv_iconst (v := 2) hx hb d_Mod_isRelation_76 (by decide) ?_
          refine r_Mod_within hx hb hml hown hK hl.1 hS ⟨Nat.le_of_ble_eq_true rfl, Nat.le_of_ble_eq_true rfl⟩ ⟨Nat.le_of_ble_eq_true rfl, Nat.le_of_ble_eq_true rfl⟩ rfl kc_0 kc_2  d_Mod_isRelation_77 (Nat.le_of_ble_eq_true rfl) (fun locs hS => ?_)
          refine lv_goto (tgt := 89) hx hb d_Mod_isRelation_80 (by decide) ?_
          refine lv_istore (lv' := [(5, .int (bi (decide (0 ≤ xc.toInt ∧ xc.toInt ≤ 2)))), (0, .ref (adr 0)), (1, .int xk), (2, .int xa), (3, .int xb), (4, .int xc)]) hx hb d_Mod_isRelation_89 hl (by decide) rfl (fun ls hl => ?_)
          refine lv_iload hx hb d_Mod_isRelation_91 (lv_at hl 0 rfl) ?_
          refine b_bool_eq (tgt := 116) hx hb d_Mod_isRelation_93 (by decide) (fun c_8 => ?_) (fun c_8 => ?_)
          · have hc_8 := of_decide_eq_false c_8
            refine lv_iconst (v := 0) hx hb d_Mod_isRelation_116 (by decide) ?_
            refine W.eq (g2 := F0 m 117 ls [.int (bi false)]) rfl ?_
            refine e_z hx hb hr hlk hQ hS d_Mod_isRelation_117 ?_
            refine ⟨false, rfl, ?_, hP⟩
            refine ⟨fun h => absurd h (by decide), fun h => ?_⟩
            obtain ⟨⟨v0, v7, v1, v5, v8, v3⟩, vt⟩ := h; exfalso; omega
          · have hc_8 := of_decide_eq_true c_8
            refine lv_aload_n hx hb d_Mod_isRelation_96 rfl (lv_at hl 1 rfl) ?_
            refine lv_iload_n hx hb d_Mod_isRelation_97 rfl (lv_at hl 3 rfl) ?_
            refine x_V (As := [.int xa]) (rest := []) hx hb hml hown hK (k_Mod_isCell l D cA adr hi I F nn xa hn10 hn1) t_879 t_4 t_876 t_878 ts_18 yk_Mod_isCell ⟨Nat.le_of_ble_eq_true rfl, Nat.le_of_ble_eq_true rfl⟩ (m_rec hK hP) hP rfl hl.1 rfl (Nat.le_of_ble_eq_true rfl) d_Mod_isRelation_98 ⟨Nat.le_of_ble_eq_true rfl, Nat.le_of_ble_eq_true rfl⟩ hS (fun q h => h) (fun r H locs hq _ hS => ?_)
            obtain ⟨rfl, hP⟩ := hq
            refine W.eq (g2 := F0 m 101 ls [.int (bi (decide (0 ≤ xa.toInt ∧ xa.toInt ≤ (nn : Int) - 1)))]) rfl ?_
            refine b_bool_eq (tgt := 116) hx hb d_Mod_isRelation_101 (by decide) (fun c_9 => ?_) (fun c_9 => ?_)
            · have hc_9 := of_decide_eq_false c_9
              refine lv_iconst (v := 0) hx hb d_Mod_isRelation_116 (by decide) ?_
              refine W.eq (g2 := F0 m 117 ls [.int (bi false)]) rfl ?_
              refine e_z hx hb hr hlk hQ hS d_Mod_isRelation_117 ?_
              refine ⟨false, rfl, ?_, hP⟩
              refine ⟨fun h => absurd h (by decide), fun h => ?_⟩
              obtain ⟨⟨v0, v7, v1, v5, v8, v3⟩, vt⟩ := h; exfalso; omega
            · have hc_9 := of_decide_eq_true c_9
              refine lv_aload_n hx hb d_Mod_isRelation_104 rfl (lv_at hl 1 rfl) ?_
              refine lv_iload_n hx hb d_Mod_isRelation_105 rfl (lv_at hl 4 rfl) ?_
              refine x_V (As := [.int xb]) (rest := []) hx hb hml hown hK (k_Mod_isCell l D cA adr hi I F nn xb hn10 hn1) t_879 t_4 t_876 t_878 ts_18 yk_Mod_isCell ⟨Nat.le_of_ble_eq_true rfl, Nat.le_of_ble_eq_true rfl⟩ (m_rec hK hP) hP rfl hl.1 rfl (Nat.le_of_ble_eq_true rfl) d_Mod_isRelation_106 ⟨Nat.le_of_ble_eq_true rfl, Nat.le_of_ble_eq_true rfl⟩ hS (fun q h => h) (fun r H locs hq _ hS => ?_)
              obtain ⟨rfl, hP⟩ := hq
              refine W.eq (g2 := F0 m 109 ls [.int (bi (decide (0 ≤ xb.toInt ∧ xb.toInt ≤ (nn : Int) - 1)))]) rfl ?_
              refine b_bool_eq (tgt := 116) hx hb d_Mod_isRelation_109 (by decide) (fun c_10 => ?_) (fun c_10 => ?_)
              · have hc_10 := of_decide_eq_false c_10
                refine lv_iconst (v := 0) hx hb d_Mod_isRelation_116 (by decide) ?_
                refine W.eq (g2 := F0 m 117 ls [.int (bi false)]) rfl ?_
                refine e_z hx hb hr hlk hQ hS d_Mod_isRelation_117 ?_
                refine ⟨false, rfl, ?_, hP⟩
                refine ⟨fun h => absurd h (by decide), fun h => ?_⟩
                obtain ⟨⟨v0, v7, v1, v5, v8, v3⟩, vt⟩ := h; exfalso; omega
              · have hc_10 := of_decide_eq_true c_10
                refine lv_iconst (v := 1) hx hb d_Mod_isRelation_112 (by decide) ?_
                refine lv_goto (tgt := 117) hx hb d_Mod_isRelation_113 (by decide) ?_
                refine W.eq (g2 := F0 m 117 ls [.int (bi true)]) rfl ?_
                refine e_z hx hb hr hlk hQ hS d_Mod_isRelation_117 ?_
                refine ⟨true, rfl, ?_, hP⟩
                exact ⟨fun _ => ⟨⟨by omega, fun h => absurd h (by omega), fun _ => by omega, fun _ => by omega, fun _ => by omega, fun _ _ _ => by omega⟩, fun h => absurd h (by omega)⟩, fun _ => rfl⟩
      · refine lv_iload hx hb d_Mod_isRelation_53 (lv_at hl 4 rfl) ?_
        refine lv_sipush (v := (-200)) hx hb d_Mod_isRelation_55 (by decide) ?_
        refine lv_sipush (v := 200) hx hb d_Mod_isRelation_58 (by decide) ?_
        refine r_Mod_within hx hb hml hown hK hl.1 hS ⟨Nat.le_of_ble_eq_true rfl, Nat.le_of_ble_eq_true rfl⟩ ⟨Nat.le_of_ble_eq_true rfl, Nat.le_of_ble_eq_true rfl⟩ rfl kc_m200 kc_200  d_Mod_isRelation_61 (Nat.le_of_ble_eq_true rfl) (fun locs hS => ?_)
        refine lv_goto (tgt := 89) hx hb d_Mod_isRelation_64 (by decide) ?_
        refine lv_istore (lv' := [(5, .int (bi (decide ((-200) ≤ xc.toInt ∧ xc.toInt ≤ 200)))), (0, .ref (adr 0)), (1, .int xk), (2, .int xa), (3, .int xb), (4, .int xc)]) hx hb d_Mod_isRelation_89 hl (by decide) rfl (fun ls hl => ?_)
        refine lv_iload hx hb d_Mod_isRelation_91 (lv_at hl 0 rfl) ?_
        refine b_bool_eq (tgt := 116) hx hb d_Mod_isRelation_93 (by decide) (fun c_11 => ?_) (fun c_11 => ?_)
        · have hc_11 := of_decide_eq_false c_11
          refine lv_iconst (v := 0) hx hb d_Mod_isRelation_116 (by decide) ?_
          refine W.eq (g2 := F0 m 117 ls [.int (bi false)]) rfl ?_
          refine e_z hx hb hr hlk hQ hS d_Mod_isRelation_117 ?_
          refine ⟨false, rfl, ?_, hP⟩
          refine ⟨fun h => absurd h (by decide), fun h => ?_⟩
          obtain ⟨⟨v0, v7, v1, v5, v8, v3⟩, vt⟩ := h; exfalso; omega
        · have hc_11 := of_decide_eq_true c_11
          refine lv_aload_n hx hb d_Mod_isRelation_96 rfl (lv_at hl 1 rfl) ?_
          refine lv_iload_n hx hb d_Mod_isRelation_97 rfl (lv_at hl 3 rfl) ?_
          refine x_V (As := [.int xa]) (rest := []) hx hb hml hown hK (k_Mod_isCell l D cA adr hi I F nn xa hn10 hn1) t_879 t_4 t_876 t_878 ts_18 yk_Mod_isCell ⟨Nat.le_of_ble_eq_true rfl, Nat.le_of_ble_eq_true rfl⟩ (m_rec hK hP) hP rfl hl.1 rfl (Nat.le_of_ble_eq_true rfl) d_Mod_isRelation_98 ⟨Nat.le_of_ble_eq_true rfl, Nat.le_of_ble_eq_true rfl⟩ hS (fun q h => h) (fun r H locs hq _ hS => ?_)
          obtain ⟨rfl, hP⟩ := hq
          refine W.eq (g2 := F0 m 101 ls [.int (bi (decide (0 ≤ xa.toInt ∧ xa.toInt ≤ (nn : Int) - 1)))]) rfl ?_
          refine b_bool_eq (tgt := 116) hx hb d_Mod_isRelation_101 (by decide) (fun c_12 => ?_) (fun c_12 => ?_)
          · have hc_12 := of_decide_eq_false c_12
            refine lv_iconst (v := 0) hx hb d_Mod_isRelation_116 (by decide) ?_
            refine W.eq (g2 := F0 m 117 ls [.int (bi false)]) rfl ?_
            refine e_z hx hb hr hlk hQ hS d_Mod_isRelation_117 ?_
            refine ⟨false, rfl, ?_, hP⟩
            refine ⟨fun h => absurd h (by decide), fun h => ?_⟩
            obtain ⟨⟨v0, v7, v1, v5, v8, v3⟩, vt⟩ := h; exfalso; omega
          · have hc_12 := of_decide_eq_true c_12
            refine lv_aload_n hx hb d_Mod_isRelation_104 rfl (lv_at hl 1 rfl) ?_
            refine lv_iload_n hx hb d_Mod_isRelation_105 rfl (lv_at hl 4 rfl) ?_
            refine x_V (As := [.int xb]) (rest := []) hx hb hml hown hK (k_Mod_isCell l D cA adr hi I F nn xb hn10 hn1) t_879 t_4 t_876 t_878 ts_18 yk_Mod_isCell ⟨Nat.le_of_ble_eq_true rfl, Nat.le_of_ble_eq_true rfl⟩ (m_rec hK hP) hP rfl hl.1 rfl (Nat.le_of_ble_eq_true rfl) d_Mod_isRelation_106 ⟨Nat.le_of_ble_eq_true rfl, Nat.le_of_ble_eq_true rfl⟩ hS (fun q h => h) (fun r H locs hq _ hS => ?_)
            obtain ⟨rfl, hP⟩ := hq
            refine W.eq (g2 := F0 m 109 ls [.int (bi (decide (0 ≤ xb.toInt ∧ xb.toInt ≤ (nn : Int) - 1)))]) rfl ?_
            refine b_bool_eq (tgt := 116) hx hb d_Mod_isRelation_109 (by decide) (fun c_13 => ?_) (fun c_13 => ?_)
            · have hc_13 := of_decide_eq_false c_13
              refine lv_iconst (v := 0) hx hb d_Mod_isRelation_116 (by decide) ?_
              refine W.eq (g2 := F0 m 117 ls [.int (bi false)]) rfl ?_
              refine e_z hx hb hr hlk hQ hS d_Mod_isRelation_117 ?_
              refine ⟨false, rfl, ?_, hP⟩
              refine ⟨fun h => absurd h (by decide), fun h => ?_⟩
              obtain ⟨⟨v0, v7, v1, v5, v8, v3⟩, vt⟩ := h; exfalso; omega
            · have hc_13 := of_decide_eq_true c_13
              refine lv_iconst (v := 1) hx hb d_Mod_isRelation_112 (by decide) ?_
              refine lv_goto (tgt := 117) hx hb d_Mod_isRelation_113 (by decide) ?_
              refine W.eq (g2 := F0 m 117 ls [.int (bi true)]) rfl ?_
              refine e_z hx hb hr hlk hQ hS d_Mod_isRelation_117 ?_
              refine ⟨true, rfl, ?_, hP⟩
              exact ⟨fun _ => ⟨⟨by omega, fun h => absurd h (by omega), fun _ => by omega, fun _ => by omega, fun _ => by omega, fun _ _ _ => by omega⟩, fun h => absurd h (by omega)⟩, fun _ => rfl⟩
    · refine lv_iload_n hx hb d_Mod_isRelation_18 rfl (lv_at hl 2 rfl) ?_
      refine lv_iconst (v := 1) hx hb d_Mod_isRelation_19 (by decide) ?_
      refine lv_iconst (v := 1) hx hb d_Mod_isRelation_20 (by decide) ?_
      refine lv_aload_n hx hb d_Mod_isRelation_21 rfl (lv_at hl 0 rfl) ?_
      refine m_gi (v := (I 1)) hx hb hK hown hP 1 (by decide) t_738 rfl d_Mod_isRelation_22 ?_
      refine x_shl1 hx hb d_Mod_isRelation_25 (nn) hn1 (by omega) (by omega) (fun z_14 tz_14 => ?_)
      refine lv_iconst (v := 1) hx hb d_Mod_isRelation_26 (by decide) ?_
      refine x_sub hx hb d_Mod_isRelation_27 tz_14 kc_1 (by omega) (fun z_15 tz_15 => ?_)
      refine r_Mod_within hx hb hml hown hK hl.1 hS ⟨Nat.le_of_ble_eq_true rfl, Nat.le_of_ble_eq_true rfl⟩ ⟨Nat.le_of_ble_eq_true rfl, Nat.le_of_ble_eq_true rfl⟩ rfl kc_1 tz_15  d_Mod_isRelation_28 (Nat.le_of_ble_eq_true rfl) (fun locs hS => ?_)
      refine b_bool_eq (tgt := 46) hx hb d_Mod_isRelation_31 (by decide) (fun c_16 => ?_) (fun c_16 => ?_)
      · have hc_16 := of_decide_eq_false c_16
        refine lv_iconst (v := 0) hx hb d_Mod_isRelation_46 (by decide) ?_
        refine W.eq (g2 := F0 m 47 ls [.int (bi false)]) rfl ?_
        refine e_z hx hb hr hlk hQ hS d_Mod_isRelation_47 ?_
        refine ⟨false, rfl, ?_, hP⟩
        refine ⟨fun h => absurd h (by decide), fun h => ?_⟩
        obtain ⟨⟨v0, v7, v1, v5, v8, v3⟩, vt⟩ := h; exfalso; omega
      · have hc_16 := of_decide_eq_true c_16
        refine lv_iload_n hx hb d_Mod_isRelation_34 rfl (lv_at hl 2 rfl) ?_
        refine r_Mod_bits hx hb hml hown hK hl.1 hS ⟨Nat.le_of_ble_eq_true rfl, Nat.le_of_ble_eq_true rfl⟩ ⟨Nat.le_of_ble_eq_true rfl, Nat.le_of_ble_eq_true rfl⟩ rfl (by omega) d_Mod_isRelation_35 (Nat.le_of_ble_eq_true rfl) (fun z_17 locs tz_17 hS => ?_)
        refine lv_iconst (v := 1) hx hb d_Mod_isRelation_38 (by decide) ?_
        refine b_icmp_le (tgt := 46) hx hb d_Mod_isRelation_39 (by decide) tz_17 kc_1 (fun c_18 => ?_) (fun c_18 => ?_)
        · refine lv_iconst (v := 0) hx hb d_Mod_isRelation_46 (by decide) ?_
          refine W.eq (g2 := F0 m 47 ls [.int (bi false)]) rfl ?_
          refine e_z hx hb hr hlk hQ hS d_Mod_isRelation_47 ?_
          refine ⟨false, rfl, ?_, hP⟩
          have ht := mt (pcN_tb xa.toInt.toNat (by omega)).mpr (by omega)
          exact ⟨fun h => absurd h (by decide), fun h => absurd (h.2 (by omega)) ht⟩
        · refine lv_iconst (v := 1) hx hb d_Mod_isRelation_42 (by decide) ?_
          refine lv_goto (tgt := 47) hx hb d_Mod_isRelation_43 (by decide) ?_
          refine W.eq (g2 := F0 m 47 ls [.int (bi true)]) rfl ?_
          refine e_z hx hb hr hlk hQ hS d_Mod_isRelation_47 ?_
          refine ⟨true, rfl, ?_, hP⟩
          have ht := (pcN_tb xa.toInt.toNat (by omega)).mp (by omega)
          exact ⟨fun _ => ⟨⟨by omega, fun _ => ⟨by omega, by omega, by omega⟩, fun h => absurd (by omega) h, fun h => by omega, fun h => by omega, fun _ h => absurd (by omega) h⟩, fun _ => ht⟩, fun _ => rfl⟩
  · have hc_1 := of_decide_eq_false c_1
    refine lv_iconst (v := 0) hx hb d_Mod_isRelation_10 (by decide) ?_
    refine W.eq (g2 := F0 m 11 ls [.int (bi false)]) rfl ?_
    refine e_z hx hb hr hlk hQ hS d_Mod_isRelation_11 ?_
    refine ⟨false, rfl, ?_, hP⟩
    refine ⟨fun h => absurd h (by decide), fun h => ?_⟩
    obtain ⟨⟨v0, v7, v1, v5, v8, v3⟩, vt⟩ := h; exfalso; omega
theorem d_Mod_relate_0 : decode b_Mod_relate 0 = .ok (.aload_n 0, 1) := by decide +kernel
theorem d_Mod_relate_1 : decode b_Mod_relate 1 = .ok (.iconst 0, 1) := by decide +kernel
theorem d_Mod_relate_2 : decode b_Mod_relate 2 = .ok (.putfield 74, 3) := by decide +kernel
theorem d_Mod_relate_5 : decode b_Mod_relate 5 = .ok (.aload_n 0, 1) := by decide +kernel
theorem d_Mod_relate_6 : decode b_Mod_relate 6 = .ok (.iload_n 1, 1) := by decide +kernel
theorem d_Mod_relate_7 : decode b_Mod_relate 7 = .ok (.iload_n 2, 1) := by decide +kernel
theorem d_Mod_relate_8 : decode b_Mod_relate 8 = .ok (.iload_n 3, 1) := by decide +kernel
theorem d_Mod_relate_9 : decode b_Mod_relate 9 = .ok (.iload 4, 2) := by decide +kernel
theorem d_Mod_relate_11 : decode b_Mod_relate 11 = .ok (.invokevirtual 100, 3) := by decide +kernel
theorem d_Mod_relate_14 : decode b_Mod_relate 14 = .ok (.ifCond .ne 9, 3) := by decide +kernel
theorem d_Mod_relate_17 : decode b_Mod_relate 17 = .ok (.aload_n 0, 1) := by decide +kernel
theorem d_Mod_relate_18 : decode b_Mod_relate 18 = .ok (.iconst 1, 1) := by decide +kernel
theorem d_Mod_relate_19 : decode b_Mod_relate 19 = .ok (.invokevirtual 82, 3) := by decide +kernel
theorem d_Mod_relate_22 : decode b_Mod_relate 22 = .ok (.ireturn, 1) := by decide +kernel
theorem d_Mod_relate_23 : decode b_Mod_relate 23 = .ok (.aload_n 0, 1) := by decide +kernel
theorem d_Mod_relate_24 : decode b_Mod_relate 24 = .ok (.getfield 104, 3) := by decide +kernel
theorem d_Mod_relate_27 : decode b_Mod_relate 27 = .ok (.bipush 12, 2) := by decide +kernel
theorem d_Mod_relate_29 : decode b_Mod_relate 29 = .ok (.if_icmp .ne 9, 3) := by decide +kernel
theorem d_Mod_relate_32 : decode b_Mod_relate 32 = .ok (.aload_n 0, 1) := by decide +kernel
theorem d_Mod_relate_33 : decode b_Mod_relate 33 = .ok (.iconst 2, 1) := by decide +kernel
theorem d_Mod_relate_34 : decode b_Mod_relate 34 = .ok (.invokevirtual 82, 3) := by decide +kernel
theorem d_Mod_relate_37 : decode b_Mod_relate 37 = .ok (.ireturn, 1) := by decide +kernel
theorem d_Mod_relate_38 : decode b_Mod_relate 38 = .ok (.aload_n 0, 1) := by decide +kernel
theorem d_Mod_relate_39 : decode b_Mod_relate 39 = .ok (.getfield 16, 3) := by decide +kernel
theorem d_Mod_relate_42 : decode b_Mod_relate 42 = .ok (.aload_n 0, 1) := by decide +kernel
theorem d_Mod_relate_43 : decode b_Mod_relate 43 = .ok (.getfield 104, 3) := by decide +kernel
theorem d_Mod_relate_46 : decode b_Mod_relate 46 = .ok (.iload_n 1, 1) := by decide +kernel
theorem d_Mod_relate_47 : decode b_Mod_relate 47 = .ok (.iastore, 1) := by decide +kernel
theorem d_Mod_relate_48 : decode b_Mod_relate 48 = .ok (.aload_n 0, 1) := by decide +kernel
theorem d_Mod_relate_49 : decode b_Mod_relate 49 = .ok (.getfield 19, 3) := by decide +kernel
theorem d_Mod_relate_52 : decode b_Mod_relate 52 = .ok (.aload_n 0, 1) := by decide +kernel
theorem d_Mod_relate_53 : decode b_Mod_relate 53 = .ok (.getfield 104, 3) := by decide +kernel
theorem d_Mod_relate_56 : decode b_Mod_relate 56 = .ok (.iload_n 2, 1) := by decide +kernel
theorem d_Mod_relate_57 : decode b_Mod_relate 57 = .ok (.iastore, 1) := by decide +kernel
theorem d_Mod_relate_58 : decode b_Mod_relate 58 = .ok (.aload_n 0, 1) := by decide +kernel
theorem d_Mod_relate_59 : decode b_Mod_relate 59 = .ok (.getfield 22, 3) := by decide +kernel
theorem d_Mod_relate_62 : decode b_Mod_relate 62 = .ok (.aload_n 0, 1) := by decide +kernel
theorem d_Mod_relate_63 : decode b_Mod_relate 63 = .ok (.getfield 104, 3) := by decide +kernel
theorem d_Mod_relate_66 : decode b_Mod_relate 66 = .ok (.iload_n 3, 1) := by decide +kernel
theorem d_Mod_relate_67 : decode b_Mod_relate 67 = .ok (.iastore, 1) := by decide +kernel
theorem d_Mod_relate_68 : decode b_Mod_relate 68 = .ok (.aload_n 0, 1) := by decide +kernel
theorem d_Mod_relate_69 : decode b_Mod_relate 69 = .ok (.getfield 25, 3) := by decide +kernel
theorem d_Mod_relate_72 : decode b_Mod_relate 72 = .ok (.aload_n 0, 1) := by decide +kernel
theorem d_Mod_relate_73 : decode b_Mod_relate 73 = .ok (.getfield 104, 3) := by decide +kernel
theorem d_Mod_relate_76 : decode b_Mod_relate 76 = .ok (.iload 4, 2) := by decide +kernel
theorem d_Mod_relate_78 : decode b_Mod_relate 78 = .ok (.iastore, 1) := by decide +kernel
theorem d_Mod_relate_79 : decode b_Mod_relate 79 = .ok (.aload_n 0, 1) := by decide +kernel
theorem d_Mod_relate_80 : decode b_Mod_relate 80 = .ok (.getfield 28, 3) := by decide +kernel
theorem d_Mod_relate_83 : decode b_Mod_relate 83 = .ok (.aload_n 0, 1) := by decide +kernel
theorem d_Mod_relate_84 : decode b_Mod_relate 84 = .ok (.getfield 104, 3) := by decide +kernel
theorem d_Mod_relate_87 : decode b_Mod_relate 87 = .ok (.iconst 1, 1) := by decide +kernel
theorem d_Mod_relate_88 : decode b_Mod_relate 88 = .ok (.bastore, 1) := by decide +kernel
theorem d_Mod_relate_89 : decode b_Mod_relate 89 = .ok (.aload_n 0, 1) := by decide +kernel
theorem d_Mod_relate_90 : decode b_Mod_relate 90 = .ok (.dup, 1) := by decide +kernel
theorem d_Mod_relate_91 : decode b_Mod_relate 91 = .ok (.getfield 104, 3) := by decide +kernel
theorem d_Mod_relate_94 : decode b_Mod_relate 94 = .ok (.iconst 1, 1) := by decide +kernel
theorem d_Mod_relate_95 : decode b_Mod_relate 95 = .ok (.iadd, 1) := by decide +kernel
theorem d_Mod_relate_96 : decode b_Mod_relate 96 = .ok (.putfield 104, 3) := by decide +kernel
theorem d_Mod_relate_99 : decode b_Mod_relate 99 = .ok (.aload_n 0, 1) := by decide +kernel
theorem d_Mod_relate_100 : decode b_Mod_relate 100 = .ok (.getfield 104, 3) := by decide +kernel
theorem d_Mod_relate_103 : decode b_Mod_relate 103 = .ok (.iconst 1, 1) := by decide +kernel
theorem d_Mod_relate_104 : decode b_Mod_relate 104 = .ok (.isub, 1) := by decide +kernel
theorem d_Mod_relate_105 : decode b_Mod_relate 105 = .ok (.ireturn, 1) := by decide +kernel
set_option maxHeartbeats 4000000 in
set_option maxRecDepth 20000 in
theorem k_Mod_relate (l : Launch) (D : va_G) (cA : Nat → ClassId) (adr : Nat → Nat) (hi : wI mN adr) (I : Nat → Int32) (F : Nat → Nat → Int32) (nn mm en mk : Nat) (ch : Bool) (hch : I 20 = bi ch) (hWF : WF I F nn mm en mk) (xk xa xb xc : Int32) : Ct l y_Mod_relate b_Mod_relate 5 (some .int) 5 D cA [.ref (adr 0), .int xk, .int xa, .int xb, .int xc] (fun H => MP D cA adr I F H) (fun r H => ∃ z : Int32, r = some (.int z) ∧ (b_rel nn mm xk.toInt xa.toInt xb.toInt xc.toInt = 0 → z.toInt = (mm : Int)) ∧ ∃ (I2 : Nat → Int32) (F2 : Nat → Nat → Int32) (c2 : Bool), I2 0 = Int32.ofInt (b_rel nn mm xk.toInt xa.toInt xb.toInt xc.toInt) ∧ I2 20 = bi c2 ∧ (if b_rel nn mm xk.toInt xa.toInt xb.toInt xc.toInt = 0 then Sm (va_up I 4 (Int32.ofInt ((mm : Int) + 1))) (G_rel F mm xk xa xb xc) I2 F2 else Sm I F I2 F2) ∧ MP D cA adr I2 F2 H) (wA mN adr) := by
  refine Ct.mk (by decide) (Nat.le_of_ble_eq_true rfl) ?_
  intro p e s m args below meth c Q H locs ls hx hb hr hml hlk hown hin hK hQ hS hP hl
  have hl : lv_has ls 5 [(0, .ref (adr 0)), (1, .int xk), (2, .int xa), (3, .int xb), (4, .int xc)] := hl
  have hown : s.vm.findClass "RangeSheetModel" = some m.cls := hown
  obtain ⟨hW, hE, hen, ⟨hmk, hmke⟩, htd, hsp, hsd, hset, hgd⟩ := hWF
  have hn1 : (I 1).toInt = (nn : Int) := hW.2.2.1
  have hm1 : (I 4).toInt = (mm : Int) := hW.2.2.2.1
  have hn10 := hW.1
  have hm12 := hW.2.1
  have hen12 := hE.1
  refine lv_aload_n hx hb d_Mod_relate_0 rfl (lv_at hl 0 rfl) ?_
  refine lv_iconst (v := 0) hx hb d_Mod_relate_1 (by decide) ?_
  refine m_pi hx hb hK hown hi hP hS wA_mem 0 (by decide) t_737 rfl rfl d_Mod_relate_2 (fun H locs hP hS => ?_)
  refine lv_aload_n hx hb d_Mod_relate_5 rfl (lv_at hl 0 rfl) ?_
  refine lv_iload_n hx hb d_Mod_relate_6 rfl (lv_at hl 1 rfl) ?_
  refine lv_iload_n hx hb d_Mod_relate_7 rfl (lv_at hl 2 rfl) ?_
  refine lv_iload_n hx hb d_Mod_relate_8 rfl (lv_at hl 3 rfl) ?_
  refine lv_iload hx hb d_Mod_relate_9 (lv_at hl 4 rfl) ?_
  refine x_V (As := [.int xk, .int xa, .int xb, .int xc]) (rest := []) hx hb hml hown hK (k_Mod_isRelation l D cA adr hi (va_up I 0 (0 : Int32)) F nn xk xa xb xc hn10 hn1) t_869 t_4 t_866 t_868 ts_17 yk_Mod_isRelation ⟨Nat.le_of_ble_eq_true rfl, Nat.le_of_ble_eq_true rfl⟩ (m_rec hK hP) hP rfl hl.1 rfl (Nat.le_of_ble_eq_true rfl) d_Mod_relate_11 ⟨Nat.le_of_ble_eq_true rfl, Nat.le_of_ble_eq_true rfl⟩ hS (fun q h => h) (fun r H locs hq _ hS => ?_)
  obtain ⟨q_1, rfl, hq_1, hP⟩ := hq
  refine W.eq (g2 := F0 m 14 ls [.int (bi q_1)]) rfl ?_
  refine b_bool_ne (tgt := 23) hx hb d_Mod_relate_14 (by decide) (fun c_2 => ?_) (fun c_2 => ?_)
  · refine lv_aload_n hx hb d_Mod_relate_23 rfl (lv_at hl 0 rfl) ?_
    refine m_gi (v := (I 4)) hx hb hK hown hP 4 (by decide) t_741 rfl d_Mod_relate_24 ?_
    refine lv_bipush (v := 12) hx hb d_Mod_relate_27 (by decide) ?_
    refine b_icmp_ne (tgt := 38) hx hb d_Mod_relate_29 (by decide) hm1 kc_12 (fun c_3 => ?_) (fun c_3 => ?_)
    · refine lv_aload_n hx hb d_Mod_relate_38 rfl (lv_at hl 0 rfl) ?_
      refine m_gr hx hb hK hown hP 5 (by decide) t_742 d_Mod_relate_39 ?_
      refine lv_aload_n hx hb d_Mod_relate_42 rfl (lv_at hl 0 rfl) ?_
      refine m_gi (v := (I 4)) hx hb hK hown hP 4 (by decide) t_741 rfl d_Mod_relate_43 ?_
      refine lv_iload_n hx hb d_Mod_relate_46 rfl (lv_at hl 1 rfl) ?_
      refine m_st hx hb hK hi hP hS wA_mem 5 (by decide) (mm) hm1 (by omega) (show mm < 12 by omega) d_Mod_relate_47 (fun H locs hP hS => ?_)
      refine lv_aload_n hx hb d_Mod_relate_48 rfl (lv_at hl 0 rfl) ?_
      refine m_gr hx hb hK hown hP 6 (by decide) t_743 d_Mod_relate_49 ?_
      refine lv_aload_n hx hb d_Mod_relate_52 rfl (lv_at hl 0 rfl) ?_
      refine m_gi (v := (I 4)) hx hb hK hown hP 4 (by decide) t_741 rfl d_Mod_relate_53 ?_
      refine lv_iload_n hx hb d_Mod_relate_56 rfl (lv_at hl 2 rfl) ?_
      refine m_st hx hb hK hi hP hS wA_mem 6 (by decide) (mm) hm1 (by omega) (show mm < 12 by omega) d_Mod_relate_57 (fun H locs hP hS => ?_)
      refine lv_aload_n hx hb d_Mod_relate_58 rfl (lv_at hl 0 rfl) ?_
      refine m_gr hx hb hK hown hP 7 (by decide) t_744 d_Mod_relate_59 ?_
      refine lv_aload_n hx hb d_Mod_relate_62 rfl (lv_at hl 0 rfl) ?_
      refine m_gi (v := (I 4)) hx hb hK hown hP 4 (by decide) t_741 rfl d_Mod_relate_63 ?_
      refine lv_iload_n hx hb d_Mod_relate_66 rfl (lv_at hl 3 rfl) ?_
      refine m_st hx hb hK hi hP hS wA_mem 7 (by decide) (mm) hm1 (by omega) (show mm < 12 by omega) d_Mod_relate_67 (fun H locs hP hS => ?_)
      refine lv_aload_n hx hb d_Mod_relate_68 rfl (lv_at hl 0 rfl) ?_
      refine m_gr hx hb hK hown hP 8 (by decide) t_745 d_Mod_relate_69 ?_
      refine lv_aload_n hx hb d_Mod_relate_72 rfl (lv_at hl 0 rfl) ?_
      refine m_gi (v := (I 4)) hx hb hK hown hP 4 (by decide) t_741 rfl d_Mod_relate_73 ?_
      refine lv_iload hx hb d_Mod_relate_76 (lv_at hl 4 rfl) ?_
      refine m_st hx hb hK hi hP hS wA_mem 8 (by decide) (mm) hm1 (by omega) (show mm < 12 by omega) d_Mod_relate_78 (fun H locs hP hS => ?_)
      refine lv_aload_n hx hb d_Mod_relate_79 rfl (lv_at hl 0 rfl) ?_
      refine m_gr hx hb hK hown hP 9 (by decide) t_746 d_Mod_relate_80 ?_
      refine lv_aload_n hx hb d_Mod_relate_83 rfl (lv_at hl 0 rfl) ?_
      refine m_gi (v := (I 4)) hx hb hK hown hP 4 (by decide) t_741 rfl d_Mod_relate_84 ?_
      refine lv_iconst (v := 1) hx hb d_Mod_relate_87 (by decide) ?_
      refine W.eq (g2 := F0 m 88 ls (.int (bi true) :: [.int (I 4), .ref (adr 9)])) rfl ?_
      refine m_zst hx hb hK hi hP hS wA_mem 9 (by decide) (mm) hm1 (by omega) (show mm < 12 by omega) d_Mod_relate_88 (fun H locs hP hS => ?_)
      refine lv_aload_n hx hb d_Mod_relate_89 rfl (lv_at hl 0 rfl) ?_
      refine lv_dup hx hb d_Mod_relate_90 rfl ?_
      refine m_gi (v := (I 4)) hx hb hK hown hP 4 (by decide) t_741 rfl d_Mod_relate_91 ?_
      refine lv_iconst (v := 1) hx hb d_Mod_relate_94 (by decide) ?_
      refine x_add hx hb d_Mod_relate_95 hm1 kc_1 (by omega) (fun z_4 tz_4 => ?_)
      refine m_pi hx hb hK hown hi hP hS wA_mem 4 (by decide) t_741 rfl rfl d_Mod_relate_96 (fun H locs hP hS => ?_)
      refine lv_aload_n hx hb d_Mod_relate_99 rfl (lv_at hl 0 rfl) ?_
      refine m_gi (v := z_4) hx hb hK hown hP 4 (by decide) t_741 rfl d_Mod_relate_100 ?_
      refine lv_iconst (v := 1) hx hb d_Mod_relate_103 (by decide) ?_
      refine x_sub hx hb d_Mod_relate_104 tz_4 kc_1 (by omega) (fun z_5 tz_5 => ?_)
      refine e_i hx hb hr hlk hQ hS d_Mod_relate_105 ?_
      have hb : b_rel nn mm xk.toInt xa.toInt xb.toInt xc.toInt = 0 := b_rel_0 (hq_1.mp c_2) (by omega)
      have e1 := i32_of tz_4; rw [e1] at hP
      rw [hb]; refine ⟨_, rfl, fun _ => by rw [tz_5]; omega, (va_up (va_up I 0 (0 : Int32)) 4 (Int32.ofInt ((mm : Int) + 1))), (va_up (va_up (va_up (va_up (va_up F 5 (upd (F 5) (mm) xk)) 6 (upd ((va_up F 5 (upd (F 5) (mm) xk)) 6) (mm) xa)) 7 (upd ((va_up (va_up F 5 (upd (F 5) (mm) xk)) 6 (upd ((va_up F 5 (upd (F 5) (mm) xk)) 6) (mm) xa)) 7) (mm) xb)) 8 (upd ((va_up (va_up (va_up F 5 (upd (F 5) (mm) xk)) 6 (upd ((va_up F 5 (upd (F 5) (mm) xk)) 6) (mm) xa)) 7 (upd ((va_up (va_up F 5 (upd (F 5) (mm) xk)) 6 (upd ((va_up F 5 (upd (F 5) (mm) xk)) 6) (mm) xa)) 7) (mm) xb)) 8) (mm) xc)) 9 (upd ((va_up (va_up (va_up (va_up F 5 (upd (F 5) (mm) xk)) 6 (upd ((va_up F 5 (upd (F 5) (mm) xk)) 6) (mm) xa)) 7 (upd ((va_up (va_up F 5 (upd (F 5) (mm) xk)) 6 (upd ((va_up F 5 (upd (F 5) (mm) xk)) 6) (mm) xa)) 7) (mm) xb)) 8 (upd ((va_up (va_up (va_up F 5 (upd (F 5) (mm) xk)) 6 (upd ((va_up F 5 (upd (F 5) (mm) xk)) 6) (mm) xa)) 7 (upd ((va_up (va_up F 5 (upd (F 5) (mm) xk)) 6 (upd ((va_up F 5 (upd (F 5) (mm) xk)) 6) (mm) xa)) 7) (mm) xb)) 8) (mm) xc)) 9) (mm) (bi true))), ch, rfl, hch, ?_, hP⟩
      rw [if_pos rfl]; exact ⟨⟨rfl, rfl, rfl, rfl, rfl, rfl, rfl⟩, fun _ _ _ _ _ _ _ _ => rfl, fun _ _ => ⟨rfl, rfl⟩⟩
    · refine lv_aload_n hx hb d_Mod_relate_32 rfl (lv_at hl 0 rfl) ?_
      refine lv_iconst (v := 2) hx hb d_Mod_relate_33 (by decide) ?_
      refine x_V (As := [.int (2 : Int32)]) (rest := []) hx hb hml hown hK (k_Mod_refuse l D cA adr hi (va_up I 0 (0 : Int32)) F (2 : Int32)) t_861 t_4 t_858 t_860 ts_16 yk_Mod_refuse ⟨Nat.le_of_ble_eq_true rfl, Nat.le_of_ble_eq_true rfl⟩ (m_rec hK hP) hP rfl hl.1 rfl (Nat.le_of_ble_eq_true rfl) d_Mod_relate_34 ⟨Nat.le_of_ble_eq_true rfl, Nat.le_of_ble_eq_true rfl⟩ hS (fun q h => h) (fun r H locs hq _ hS => ?_)
      obtain ⟨rfl, hP⟩ := hq
      refine W.eq (g2 := F0 m 37 ls [.int (0 : Int32)]) rfl ?_
      refine e_i hx hb hr hlk hQ hS d_Mod_relate_37 ?_
      have hb : b_rel nn mm xk.toInt xa.toInt xb.toInt xc.toInt = 2 := b_rel_2 (hq_1.mp c_2) (by omega)
      rw [hb]; exact ⟨_, rfl, fun h => absurd h (by decide), (va_up (va_up I 0 (0 : Int32)) 0 (2 : Int32)), F, ch, rfl, hch, (by rw [if_neg (by decide)]; exact ⟨⟨rfl, rfl, rfl, rfl, rfl, rfl, rfl⟩, fun _ _ _ _ _ _ _ _ => rfl, fun _ _ => ⟨rfl, rfl⟩⟩), hP⟩
  · refine lv_aload_n hx hb d_Mod_relate_17 rfl (lv_at hl 0 rfl) ?_
    refine lv_iconst (v := 1) hx hb d_Mod_relate_18 (by decide) ?_
    refine x_V (As := [.int (1 : Int32)]) (rest := []) hx hb hml hown hK (k_Mod_refuse l D cA adr hi (va_up I 0 (0 : Int32)) F (1 : Int32)) t_861 t_4 t_858 t_860 ts_16 yk_Mod_refuse ⟨Nat.le_of_ble_eq_true rfl, Nat.le_of_ble_eq_true rfl⟩ (m_rec hK hP) hP rfl hl.1 rfl (Nat.le_of_ble_eq_true rfl) d_Mod_relate_19 ⟨Nat.le_of_ble_eq_true rfl, Nat.le_of_ble_eq_true rfl⟩ hS (fun q h => h) (fun r H locs hq _ hS => ?_)
    obtain ⟨rfl, hP⟩ := hq
    refine W.eq (g2 := F0 m 22 ls [.int (0 : Int32)]) rfl ?_
    refine e_i hx hb hr hlk hQ hS d_Mod_relate_22 ?_
    have hb : b_rel nn mm xk.toInt xa.toInt xb.toInt xc.toInt = 1 := b_rel_1 (fun h => by have := hq_1.mpr h; rw [c_2] at this; cases this)
    rw [hb]; exact ⟨_, rfl, fun h => absurd h (by decide), (va_up (va_up I 0 (0 : Int32)) 0 (1 : Int32)), F, ch, rfl, hch, (by rw [if_neg (by decide)]; exact ⟨⟨rfl, rfl, rfl, rfl, rfl, rfl, rfl⟩, fun _ _ _ _ _ _ _ _ => rfl, fun _ _ => ⟨rfl, rfl⟩⟩), hP⟩
theorem d_Mod_hold_0 : decode b_Mod_hold 0 = .ok (.aload_n 0, 1) := by decide +kernel
theorem d_Mod_hold_1 : decode b_Mod_hold 1 = .ok (.iconst 0, 1) := by decide +kernel
theorem d_Mod_hold_2 : decode b_Mod_hold 2 = .ok (.putfield 74, 3) := by decide +kernel
theorem d_Mod_hold_5 : decode b_Mod_hold 5 = .ok (.iload_n 1, 1) := by decide +kernel
theorem d_Mod_hold_6 : decode b_Mod_hold 6 = .ok (.iconst 0, 1) := by decide +kernel
theorem d_Mod_hold_7 : decode b_Mod_hold 7 = .ok (.aload_n 0, 1) := by decide +kernel
theorem d_Mod_hold_8 : decode b_Mod_hold 8 = .ok (.getfield 104, 3) := by decide +kernel
theorem d_Mod_hold_11 : decode b_Mod_hold 11 = .ok (.iconst 1, 1) := by decide +kernel
theorem d_Mod_hold_12 : decode b_Mod_hold 12 = .ok (.isub, 1) := by decide +kernel
theorem d_Mod_hold_13 : decode b_Mod_hold 13 = .ok (.invokestatic 89, 3) := by decide +kernel
theorem d_Mod_hold_16 : decode b_Mod_hold 16 = .ok (.ifCond .eq 13, 3) := by decide +kernel
theorem d_Mod_hold_19 : decode b_Mod_hold 19 = .ok (.aload_n 0, 1) := by decide +kernel
theorem d_Mod_hold_20 : decode b_Mod_hold 20 = .ok (.getfield 28, 3) := by decide +kernel
theorem d_Mod_hold_23 : decode b_Mod_hold 23 = .ok (.iload_n 1, 1) := by decide +kernel
theorem d_Mod_hold_24 : decode b_Mod_hold 24 = .ok (.baload, 1) := by decide +kernel
theorem d_Mod_hold_25 : decode b_Mod_hold 25 = .ok (.iload_n 2, 1) := by decide +kernel
theorem d_Mod_hold_26 : decode b_Mod_hold 26 = .ok (.if_icmp .ne 5, 3) := by decide +kernel
theorem d_Mod_hold_29 : decode b_Mod_hold 29 = .ok (.iconst 0, 1) := by decide +kernel
theorem d_Mod_hold_30 : decode b_Mod_hold 30 = .ok (.ireturn, 1) := by decide +kernel
theorem d_Mod_hold_31 : decode b_Mod_hold 31 = .ok (.aload_n 0, 1) := by decide +kernel
theorem d_Mod_hold_32 : decode b_Mod_hold 32 = .ok (.getfield 28, 3) := by decide +kernel
theorem d_Mod_hold_35 : decode b_Mod_hold 35 = .ok (.iload_n 1, 1) := by decide +kernel
theorem d_Mod_hold_36 : decode b_Mod_hold 36 = .ok (.iload_n 2, 1) := by decide +kernel
theorem d_Mod_hold_37 : decode b_Mod_hold 37 = .ok (.bastore, 1) := by decide +kernel
theorem d_Mod_hold_38 : decode b_Mod_hold 38 = .ok (.iconst 1, 1) := by decide +kernel
theorem d_Mod_hold_39 : decode b_Mod_hold 39 = .ok (.ireturn, 1) := by decide +kernel
set_option maxHeartbeats 4000000 in
set_option maxRecDepth 20000 in
theorem k_Mod_hold (l : Launch) (D : va_G) (cA : Nat → ClassId) (adr : Nat → Nat) (hi : wI mN adr) (I : Nat → Int32) (F : Nat → Nat → Int32) (nn mm en mk : Nat) (ch : Bool) (hch : I 20 = bi ch) (hWF : WF I F nn mm en mk) (xk : Int32) (gd : Bool) : Ct l y_Mod_hold b_Mod_hold 3 (some .boolean) 3 D cA [.ref (adr 0), .int xk, .int (bi gd)] (fun H => MP D cA adr I F H) (fun r H => r = some (.int (bi (q_hold F mm xk.toInt gd))) ∧ MQ2 D cA adr 0 (I) (G_hold F mm xk.toInt gd) H) (wA mN adr) := by
  refine Ct.mk (by decide) (Nat.le_of_ble_eq_true rfl) ?_
  intro p e s m args below meth c Q H locs ls hx hb hr hml hlk hown hin hK hQ hS hP hl
  have hl : lv_has ls 3 [(0, .ref (adr 0)), (1, .int xk), (2, .int (bi gd))] := hl
  have hown : s.vm.findClass "RangeSheetModel" = some m.cls := hown
  obtain ⟨hW, hE, hen, ⟨hmk, hmke⟩, htd, hsp, hsd, hset, hgd⟩ := hWF
  have hn1 : (I 1).toInt = (nn : Int) := hW.2.2.1
  have hm1 : (I 4).toInt = (mm : Int) := hW.2.2.2.1
  have hn10 := hW.1
  have hm12 := hW.2.1
  have hen12 := hE.1
  refine lv_aload_n hx hb d_Mod_hold_0 rfl (lv_at hl 0 rfl) ?_
  refine lv_iconst (v := 0) hx hb d_Mod_hold_1 (by decide) ?_
  refine m_pi hx hb hK hown hi hP hS wA_mem 0 (by decide) t_737 rfl rfl d_Mod_hold_2 (fun H locs hP hS => ?_)
  refine lv_iload_n hx hb d_Mod_hold_5 rfl (lv_at hl 1 rfl) ?_
  refine lv_iconst (v := 0) hx hb d_Mod_hold_6 (by decide) ?_
  refine lv_aload_n hx hb d_Mod_hold_7 rfl (lv_at hl 0 rfl) ?_
  refine m_gi (v := (I 4)) hx hb hK hown hP 4 (by decide) t_741 rfl d_Mod_hold_8 ?_
  refine lv_iconst (v := 1) hx hb d_Mod_hold_11 (by decide) ?_
  refine x_sub hx hb d_Mod_hold_12 hm1 kc_1 (by omega) (fun z_1 tz_1 => ?_)
  refine r_Mod_within hx hb hml hown hK hl.1 hS ⟨Nat.le_of_ble_eq_true rfl, Nat.le_of_ble_eq_true rfl⟩ ⟨Nat.le_of_ble_eq_true rfl, Nat.le_of_ble_eq_true rfl⟩ rfl kc_0 tz_1  d_Mod_hold_13 (Nat.le_of_ble_eq_true rfl) (fun locs hS => ?_)
  refine b_bool_eq (tgt := 29) hx hb d_Mod_hold_16 (by decide) (fun c_2 => ?_) (fun c_2 => ?_)
  · have hc_2 := of_decide_eq_false c_2
    refine lv_iconst (v := 0) hx hb d_Mod_hold_29 (by decide) ?_
    refine W.eq (g2 := F0 m 30 ls [.int (bi false)]) rfl ?_
    refine e_z hx hb hr hlk hQ hS d_Mod_hold_30 ?_
    have hb : q_hold F mm xk.toInt gd = false := decide_eq_false (fun h => by omega)
    unfold G_hold; rw [hb]; exact ⟨rfl, (va_up I 0 (0 : Int32)), F, ch, rfl, hch, ⟨⟨rfl, rfl, rfl, rfl, rfl, rfl, rfl⟩, fun _ _ _ _ _ _ _ _ => rfl, fun _ _ => ⟨rfl, rfl⟩⟩, hP⟩
  · have hc_2 := of_decide_eq_true c_2
    refine lv_aload_n hx hb d_Mod_hold_19 rfl (lv_at hl 0 rfl) ?_
    refine m_gr hx hb hK hown hP 9 (by decide) t_746 d_Mod_hold_20 ?_
    refine lv_iload_n hx hb d_Mod_hold_23 rfl (lv_at hl 1 rfl) ?_
    refine m_zld hx hb hK hP 9 (by decide) ((xk.toInt).toNat) rfl (by omega) (show (xk.toInt).toNat < 12 by omega) d_Mod_hold_24 (fun z_3 ez_3 => ?_)
    have ez_3 : z_3 = (bi (gB F (xk.toInt).toNat)) := ez_3.trans (hgd (xk.toInt).toNat (by omega))
    subst ez_3
    refine lv_iload_n hx hb d_Mod_hold_25 rfl (lv_at hl 2 rfl) ?_
    refine bb_icmp_ne (tgt := 31) hx hb d_Mod_hold_26 (by decide) (fun c_4 => ?_) (fun c_4 => ?_)
    · refine lv_aload_n hx hb d_Mod_hold_31 rfl (lv_at hl 0 rfl) ?_
      refine m_gr hx hb hK hown hP 9 (by decide) t_746 d_Mod_hold_32 ?_
      refine lv_iload_n hx hb d_Mod_hold_35 rfl (lv_at hl 1 rfl) ?_
      refine lv_iload_n hx hb d_Mod_hold_36 rfl (lv_at hl 2 rfl) ?_
      refine m_zst hx hb hK hi hP hS wA_mem 9 (by decide) ((xk.toInt).toNat) rfl (by omega) (show (xk.toInt).toNat < 12 by omega) d_Mod_hold_37 (fun H locs hP hS => ?_)
      refine lv_iconst (v := 1) hx hb d_Mod_hold_38 (by decide) ?_
      refine W.eq (g2 := F0 m 39 ls [.int (bi true)]) rfl ?_
      refine e_z hx hb hr hlk hQ hS d_Mod_hold_39 ?_
      have hb : q_hold F mm xk.toInt gd = true := decide_eq_true ⟨by omega, by omega, c_4⟩
      unfold G_hold; rw [hb]; exact ⟨rfl, (va_up I 0 (0 : Int32)), (va_up F 9 (upd (F 9) (xk.toInt).toNat (bi gd))), ch, rfl, hch, ⟨⟨rfl, rfl, rfl, rfl, rfl, rfl, rfl⟩, fun _ _ _ _ _ _ _ _ => rfl, fun _ _ => ⟨rfl, rfl⟩⟩, hP⟩
    · refine lv_iconst (v := 0) hx hb d_Mod_hold_29 (by decide) ?_
      refine W.eq (g2 := F0 m 30 ls [.int (bi false)]) rfl ?_
      refine e_z hx hb hr hlk hQ hS d_Mod_hold_30 ?_
      have hb : q_hold F mm xk.toInt gd = false := decide_eq_false (fun h => by have h2 := h.2.2; exact h2 c_4)
      unfold G_hold; rw [hb]; exact ⟨rfl, (va_up I 0 (0 : Int32)), F, ch, rfl, hch, ⟨⟨rfl, rfl, rfl, rfl, rfl, rfl, rfl⟩, fun _ _ _ _ _ _ _ _ => rfl, fun _ _ => ⟨rfl, rfl⟩⟩, hP⟩
theorem d_Mod_row_0 : decode b_Mod_row 0 = .ok (.aload_n 0, 1) := by decide +kernel
theorem d_Mod_row_1 : decode b_Mod_row 1 = .ok (.iconst 0, 1) := by decide +kernel
theorem d_Mod_row_2 : decode b_Mod_row 2 = .ok (.putfield 74, 3) := by decide +kernel
theorem d_Mod_row_5 : decode b_Mod_row 5 = .ok (.iload_n 1, 1) := by decide +kernel
theorem d_Mod_row_6 : decode b_Mod_row 6 = .ok (.iconst 0, 1) := by decide +kernel
theorem d_Mod_row_7 : decode b_Mod_row 7 = .ok (.iconst 2, 1) := by decide +kernel
theorem d_Mod_row_8 : decode b_Mod_row 8 = .ok (.invokestatic 89, 3) := by decide +kernel
theorem d_Mod_row_11 : decode b_Mod_row 11 = .ok (.ifCond .eq 36, 3) := by decide +kernel
theorem d_Mod_row_14 : decode b_Mod_row 14 = .ok (.iload_n 2, 1) := by decide +kernel
theorem d_Mod_row_15 : decode b_Mod_row 15 = .ok (.bipush (-100), 2) := by decide +kernel
theorem d_Mod_row_17 : decode b_Mod_row 17 = .ok (.bipush 100, 2) := by decide +kernel
theorem d_Mod_row_19 : decode b_Mod_row 19 = .ok (.invokestatic 89, 3) := by decide +kernel
theorem d_Mod_row_22 : decode b_Mod_row 22 = .ok (.ifCond .eq 25, 3) := by decide +kernel
theorem d_Mod_row_25 : decode b_Mod_row 25 = .ok (.iload_n 3, 1) := by decide +kernel
theorem d_Mod_row_26 : decode b_Mod_row 26 = .ok (.bipush (-100), 2) := by decide +kernel
theorem d_Mod_row_28 : decode b_Mod_row 28 = .ok (.bipush 100, 2) := by decide +kernel
theorem d_Mod_row_30 : decode b_Mod_row 30 = .ok (.invokestatic 89, 3) := by decide +kernel
theorem d_Mod_row_33 : decode b_Mod_row 33 = .ok (.ifCond .eq 14, 3) := by decide +kernel
theorem d_Mod_row_36 : decode b_Mod_row 36 = .ok (.aload_n 0, 1) := by decide +kernel
theorem d_Mod_row_37 : decode b_Mod_row 37 = .ok (.getfield 32, 3) := by decide +kernel
theorem d_Mod_row_40 : decode b_Mod_row 40 = .ok (.iload_n 1, 1) := by decide +kernel
theorem d_Mod_row_41 : decode b_Mod_row 41 = .ok (.iaload, 1) := by decide +kernel
theorem d_Mod_row_42 : decode b_Mod_row 42 = .ok (.bipush 10, 2) := by decide +kernel
theorem d_Mod_row_44 : decode b_Mod_row 44 = .ok (.if_icmp .ne 5, 3) := by decide +kernel
theorem d_Mod_row_47 : decode b_Mod_row 47 = .ok (.iconst 0, 1) := by decide +kernel
theorem d_Mod_row_48 : decode b_Mod_row 48 = .ok (.ireturn, 1) := by decide +kernel
theorem d_Mod_row_49 : decode b_Mod_row 49 = .ok (.aload_n 0, 1) := by decide +kernel
theorem d_Mod_row_50 : decode b_Mod_row 50 = .ok (.getfield 35, 3) := by decide +kernel
theorem d_Mod_row_53 : decode b_Mod_row 53 = .ok (.bipush 10, 2) := by decide +kernel
theorem d_Mod_row_55 : decode b_Mod_row 55 = .ok (.iload_n 1, 1) := by decide +kernel
theorem d_Mod_row_56 : decode b_Mod_row 56 = .ok (.imul, 1) := by decide +kernel
theorem d_Mod_row_57 : decode b_Mod_row 57 = .ok (.aload_n 0, 1) := by decide +kernel
theorem d_Mod_row_58 : decode b_Mod_row 58 = .ok (.getfield 32, 3) := by decide +kernel
theorem d_Mod_row_61 : decode b_Mod_row 61 = .ok (.iload_n 1, 1) := by decide +kernel
theorem d_Mod_row_62 : decode b_Mod_row 62 = .ok (.iaload, 1) := by decide +kernel
theorem d_Mod_row_63 : decode b_Mod_row 63 = .ok (.iadd, 1) := by decide +kernel
theorem d_Mod_row_64 : decode b_Mod_row 64 = .ok (.iload_n 2, 1) := by decide +kernel
theorem d_Mod_row_65 : decode b_Mod_row 65 = .ok (.iastore, 1) := by decide +kernel
theorem d_Mod_row_66 : decode b_Mod_row 66 = .ok (.aload_n 0, 1) := by decide +kernel
theorem d_Mod_row_67 : decode b_Mod_row 67 = .ok (.getfield 38, 3) := by decide +kernel
theorem d_Mod_row_70 : decode b_Mod_row 70 = .ok (.bipush 10, 2) := by decide +kernel
theorem d_Mod_row_72 : decode b_Mod_row 72 = .ok (.iload_n 1, 1) := by decide +kernel
theorem d_Mod_row_73 : decode b_Mod_row 73 = .ok (.imul, 1) := by decide +kernel
theorem d_Mod_row_74 : decode b_Mod_row 74 = .ok (.aload_n 0, 1) := by decide +kernel
theorem d_Mod_row_75 : decode b_Mod_row 75 = .ok (.getfield 32, 3) := by decide +kernel
theorem d_Mod_row_78 : decode b_Mod_row 78 = .ok (.iload_n 1, 1) := by decide +kernel
theorem d_Mod_row_79 : decode b_Mod_row 79 = .ok (.iaload, 1) := by decide +kernel
theorem d_Mod_row_80 : decode b_Mod_row 80 = .ok (.iadd, 1) := by decide +kernel
theorem d_Mod_row_81 : decode b_Mod_row 81 = .ok (.iload_n 3, 1) := by decide +kernel
theorem d_Mod_row_82 : decode b_Mod_row 82 = .ok (.iastore, 1) := by decide +kernel
theorem d_Mod_row_83 : decode b_Mod_row 83 = .ok (.aload_n 0, 1) := by decide +kernel
theorem d_Mod_row_84 : decode b_Mod_row 84 = .ok (.getfield 32, 3) := by decide +kernel
theorem d_Mod_row_87 : decode b_Mod_row 87 = .ok (.iload_n 1, 1) := by decide +kernel
theorem d_Mod_row_88 : decode b_Mod_row 88 = .ok (.dup2, 1) := by decide +kernel
theorem d_Mod_row_89 : decode b_Mod_row 89 = .ok (.iaload, 1) := by decide +kernel
theorem d_Mod_row_90 : decode b_Mod_row 90 = .ok (.iconst 1, 1) := by decide +kernel
theorem d_Mod_row_91 : decode b_Mod_row 91 = .ok (.iadd, 1) := by decide +kernel
theorem d_Mod_row_92 : decode b_Mod_row 92 = .ok (.iastore, 1) := by decide +kernel
theorem d_Mod_row_93 : decode b_Mod_row 93 = .ok (.aload_n 0, 1) := by decide +kernel
theorem d_Mod_row_94 : decode b_Mod_row 94 = .ok (.getfield 32, 3) := by decide +kernel
theorem d_Mod_row_97 : decode b_Mod_row 97 = .ok (.iload_n 1, 1) := by decide +kernel
theorem d_Mod_row_98 : decode b_Mod_row 98 = .ok (.iaload, 1) := by decide +kernel
theorem d_Mod_row_99 : decode b_Mod_row 99 = .ok (.ireturn, 1) := by decide +kernel
set_option maxHeartbeats 4000000 in
set_option maxRecDepth 20000 in
theorem k_Mod_row (l : Launch) (D : va_G) (cA : Nat → ClassId) (adr : Nat → Nat) (hi : wI mN adr) (I : Nat → Int32) (F : Nat → Nat → Int32) (nn mm en mk : Nat) (ch : Bool) (hch : I 20 = bi ch) (hWF : WF I F nn mm en mk) (xt xa xb : Int32) : Ct l y_Mod_row b_Mod_row 4 (some .int) 3 D cA [.ref (adr 0), .int xt, .int xa, .int xb] (fun H => MP D cA adr I F H) (fun r H => ∃ z : Int32, r = some (.int z) ∧ ((¬ q_row F xt.toInt xa.toInt xb.toInt ∧ z.toInt = 0 ∧ MQ2 D cA adr 0 I F H) ∨ (q_row F xt.toInt xa.toInt xb.toInt ∧ z.toInt = (F 10 xt.toInt.toNat).toInt + 1 ∧ MQ2 D cA adr 0 I (G_row F xt.toInt xa xb) H))) (wA mN adr) := by
  refine Ct.mk (by decide) (Nat.le_of_ble_eq_true rfl) ?_
  intro p e s m args below meth c Q H locs ls hx hb hr hml hlk hown hin hK hQ hS hP hl
  have hl : lv_has ls 4 [(0, .ref (adr 0)), (1, .int xt), (2, .int xa), (3, .int xb)] := hl
  have hown : s.vm.findClass "RangeSheetModel" = some m.cls := hown
  obtain ⟨hW, hE, hen, ⟨hmk, hmke⟩, htd, hsp, hsd, hset, hgd⟩ := hWF
  have hn1 : (I 1).toInt = (nn : Int) := hW.2.2.1
  have hm1 : (I 4).toInt = (mm : Int) := hW.2.2.2.1
  have hn10 := hW.1
  have hm12 := hW.2.1
  have hen12 := hE.1
  refine lv_aload_n hx hb d_Mod_row_0 rfl (lv_at hl 0 rfl) ?_
  refine lv_iconst (v := 0) hx hb d_Mod_row_1 (by decide) ?_
  refine m_pi hx hb hK hown hi hP hS wA_mem 0 (by decide) t_737 rfl rfl d_Mod_row_2 (fun H locs hP hS => ?_)
  refine lv_iload_n hx hb d_Mod_row_5 rfl (lv_at hl 1 rfl) ?_
  refine lv_iconst (v := 0) hx hb d_Mod_row_6 (by decide) ?_
  refine lv_iconst (v := 2) hx hb d_Mod_row_7 (by decide) ?_
  refine r_Mod_within hx hb hml hown hK hl.1 hS ⟨Nat.le_of_ble_eq_true rfl, Nat.le_of_ble_eq_true rfl⟩ ⟨Nat.le_of_ble_eq_true rfl, Nat.le_of_ble_eq_true rfl⟩ rfl kc_0 kc_2  d_Mod_row_8 (Nat.le_of_ble_eq_true rfl) (fun locs hS => ?_)
  refine b_bool_eq (tgt := 47) hx hb d_Mod_row_11 (by decide) (fun c_1 => ?_) (fun c_1 => ?_)
  · have hc_1 := of_decide_eq_false c_1
    refine lv_iconst (v := 0) hx hb d_Mod_row_47 (by decide) ?_
    refine e_i hx hb hr hlk hQ hS d_Mod_row_48 ?_
    have hb : ¬ q_row F xt.toInt xa.toInt xb.toInt := fun h => by obtain ⟨h1, h2, h3, h4⟩ := h; omega
    exact ⟨_, rfl, Or.inl ⟨hb, kc_0, (va_up I 0 (0 : Int32)), F, ch, rfl, hch, ⟨⟨rfl, rfl, rfl, rfl, rfl, rfl, rfl⟩, fun _ _ _ _ _ _ _ _ => rfl, fun _ _ => ⟨rfl, rfl⟩⟩, hP⟩⟩
  · have hc_1 := of_decide_eq_true c_1
    have hxt : xt.toInt = (xt.toInt.toNat : Int) := by omega
    have hrw := hW.2.2.2.2.1 xt.toInt.toNat (by omega)
    have hr10 : (F 10 xt.toInt.toNat).toInt = ((F 10 xt.toInt.toNat).toInt.toNat : Int) := by have := hrw.1; omega
    refine lv_iload_n hx hb d_Mod_row_14 rfl (lv_at hl 2 rfl) ?_
    refine lv_bipush (v := (-100)) hx hb d_Mod_row_15 (by decide) ?_
    refine lv_bipush (v := 100) hx hb d_Mod_row_17 (by decide) ?_
    refine r_Mod_within hx hb hml hown hK hl.1 hS ⟨Nat.le_of_ble_eq_true rfl, Nat.le_of_ble_eq_true rfl⟩ ⟨Nat.le_of_ble_eq_true rfl, Nat.le_of_ble_eq_true rfl⟩ rfl kc_m100 kc_100  d_Mod_row_19 (Nat.le_of_ble_eq_true rfl) (fun locs hS => ?_)
    refine b_bool_eq (tgt := 47) hx hb d_Mod_row_22 (by decide) (fun c_2 => ?_) (fun c_2 => ?_)
    · have hc_2 := of_decide_eq_false c_2
      refine lv_iconst (v := 0) hx hb d_Mod_row_47 (by decide) ?_
      refine e_i hx hb hr hlk hQ hS d_Mod_row_48 ?_
      have hb : ¬ q_row F xt.toInt xa.toInt xb.toInt := fun h => by obtain ⟨h1, h2, h3, h4⟩ := h; omega
      exact ⟨_, rfl, Or.inl ⟨hb, kc_0, (va_up I 0 (0 : Int32)), F, ch, rfl, hch, ⟨⟨rfl, rfl, rfl, rfl, rfl, rfl, rfl⟩, fun _ _ _ _ _ _ _ _ => rfl, fun _ _ => ⟨rfl, rfl⟩⟩, hP⟩⟩
    · have hc_2 := of_decide_eq_true c_2
      refine lv_iload_n hx hb d_Mod_row_25 rfl (lv_at hl 3 rfl) ?_
      refine lv_bipush (v := (-100)) hx hb d_Mod_row_26 (by decide) ?_
      refine lv_bipush (v := 100) hx hb d_Mod_row_28 (by decide) ?_
      refine r_Mod_within hx hb hml hown hK hl.1 hS ⟨Nat.le_of_ble_eq_true rfl, Nat.le_of_ble_eq_true rfl⟩ ⟨Nat.le_of_ble_eq_true rfl, Nat.le_of_ble_eq_true rfl⟩ rfl kc_m100 kc_100  d_Mod_row_30 (Nat.le_of_ble_eq_true rfl) (fun locs hS => ?_)
      refine b_bool_eq (tgt := 47) hx hb d_Mod_row_33 (by decide) (fun c_3 => ?_) (fun c_3 => ?_)
      · have hc_3 := of_decide_eq_false c_3
        refine lv_iconst (v := 0) hx hb d_Mod_row_47 (by decide) ?_
        refine e_i hx hb hr hlk hQ hS d_Mod_row_48 ?_
        have hb : ¬ q_row F xt.toInt xa.toInt xb.toInt := fun h => by obtain ⟨h1, h2, h3, h4⟩ := h; omega
        exact ⟨_, rfl, Or.inl ⟨hb, kc_0, (va_up I 0 (0 : Int32)), F, ch, rfl, hch, ⟨⟨rfl, rfl, rfl, rfl, rfl, rfl, rfl⟩, fun _ _ _ _ _ _ _ _ => rfl, fun _ _ => ⟨rfl, rfl⟩⟩, hP⟩⟩
      · have hc_3 := of_decide_eq_true c_3
        refine lv_aload_n hx hb d_Mod_row_36 rfl (lv_at hl 0 rfl) ?_
        refine m_gr hx hb hK hown hP 10 (by decide) t_747 d_Mod_row_37 ?_
        refine lv_iload_n hx hb d_Mod_row_40 rfl (lv_at hl 1 rfl) ?_
        refine m_ld hx hb hK hP 10 (by decide) (xt.toInt.toNat) hxt (by omega) (show xt.toInt.toNat < 3 by omega) d_Mod_row_41 (fun z_4 ez_4 => ?_)
        subst ez_4
        refine lv_bipush (v := 10) hx hb d_Mod_row_42 (by decide) ?_
        refine b_icmp_ne (tgt := 49) hx hb d_Mod_row_44 (by decide) hr10 kc_10 (fun c_5 => ?_) (fun c_5 => ?_)
        · refine lv_aload_n hx hb d_Mod_row_49 rfl (lv_at hl 0 rfl) ?_
          refine m_gr hx hb hK hown hP 11 (by decide) t_748 d_Mod_row_50 ?_
          refine lv_bipush (v := 10) hx hb d_Mod_row_53 (by decide) ?_
          refine lv_iload_n hx hb d_Mod_row_55 rfl (lv_at hl 1 rfl) ?_
          refine x_mul hx hb d_Mod_row_56 kc_10 hxt (by omega) (fun z_6 tz_6 => ?_)
          refine lv_aload_n hx hb d_Mod_row_57 rfl (lv_at hl 0 rfl) ?_
          refine m_gr hx hb hK hown hP 10 (by decide) t_747 d_Mod_row_58 ?_
          refine lv_iload_n hx hb d_Mod_row_61 rfl (lv_at hl 1 rfl) ?_
          refine m_ld hx hb hK hP 10 (by decide) (xt.toInt.toNat) hxt (by omega) (show xt.toInt.toNat < 3 by omega) d_Mod_row_62 (fun z_7 ez_7 => ?_)
          subst ez_7
          refine x_add hx hb d_Mod_row_63 tz_6 hr10 (by omega) (fun z_8 tz_8 => ?_)
          refine lv_iload_n hx hb d_Mod_row_64 rfl (lv_at hl 2 rfl) ?_
          refine m_st hx hb hK hi hP hS wA_mem 11 (by decide) (((10 * xt.toInt.toNat) + (F 10 xt.toInt.toNat).toInt.toNat)) tz_8 (by omega) (show ((10 * xt.toInt.toNat) + (F 10 xt.toInt.toNat).toInt.toNat) < 30 by omega) d_Mod_row_65 (fun H locs hP hS => ?_)
          refine lv_aload_n hx hb d_Mod_row_66 rfl (lv_at hl 0 rfl) ?_
          refine m_gr hx hb hK hown hP 12 (by decide) t_749 d_Mod_row_67 ?_
          refine lv_bipush (v := 10) hx hb d_Mod_row_70 (by decide) ?_
          refine lv_iload_n hx hb d_Mod_row_72 rfl (lv_at hl 1 rfl) ?_
          refine x_mul hx hb d_Mod_row_73 kc_10 hxt (by omega) (fun z_9 tz_9 => ?_)
          refine lv_aload_n hx hb d_Mod_row_74 rfl (lv_at hl 0 rfl) ?_
          refine m_gr hx hb hK hown hP 10 (by decide) t_747 d_Mod_row_75 ?_
          refine lv_iload_n hx hb d_Mod_row_78 rfl (lv_at hl 1 rfl) ?_
          refine m_ld hx hb hK hP 10 (by decide) (xt.toInt.toNat) hxt (by omega) (show xt.toInt.toNat < 3 by omega) d_Mod_row_79 (fun z_10 ez_10 => ?_)
          have ez_10 : z_10 = F 10 (xt.toInt.toNat) := ez_10
          subst ez_10
          refine x_add hx hb d_Mod_row_80 tz_9 hr10 (by omega) (fun z_11 tz_11 => ?_)
          refine lv_iload_n hx hb d_Mod_row_81 rfl (lv_at hl 3 rfl) ?_
          refine m_st hx hb hK hi hP hS wA_mem 12 (by decide) (((10 * xt.toInt.toNat) + (F 10 xt.toInt.toNat).toInt.toNat)) tz_11 (by omega) (show ((10 * xt.toInt.toNat) + (F 10 xt.toInt.toNat).toInt.toNat) < 30 by omega) d_Mod_row_82 (fun H locs hP hS => ?_)
          refine lv_aload_n hx hb d_Mod_row_83 rfl (lv_at hl 0 rfl) ?_
          refine m_gr hx hb hK hown hP 10 (by decide) t_747 d_Mod_row_84 ?_
          refine lv_iload_n hx hb d_Mod_row_87 rfl (lv_at hl 1 rfl) ?_
          refine lv_dup2_11 hx hb d_Mod_row_88 rfl rfl ?_
          refine m_ld hx hb hK hP 10 (by decide) (xt.toInt.toNat) hxt (by omega) (show xt.toInt.toNat < 3 by omega) d_Mod_row_89 (fun z_12 ez_12 => ?_)
          have ez_12 : z_12 = F 10 (xt.toInt.toNat) := ez_12
          subst ez_12
          refine lv_iconst (v := 1) hx hb d_Mod_row_90 (by decide) ?_
          refine x_add hx hb d_Mod_row_91 hr10 kc_1 (by omega) (fun z_13 tz_13 => ?_)
          have tr_z : z_13.toInt = (F 10 xt.toInt.toNat).toInt + 1 := by omega
          refine m_st hx hb hK hi hP hS wA_mem 10 (by decide) (xt.toInt.toNat) hxt (by omega) (show xt.toInt.toNat < 3 by omega) d_Mod_row_92 (fun H locs hP hS => ?_)
          refine lv_aload_n hx hb d_Mod_row_93 rfl (lv_at hl 0 rfl) ?_
          refine m_gr hx hb hK hown hP 10 (by decide) t_747 d_Mod_row_94 ?_
          refine lv_iload_n hx hb d_Mod_row_97 rfl (lv_at hl 1 rfl) ?_
          refine m_ld hx hb hK hP 10 (by decide) (xt.toInt.toNat) hxt (by omega) (show xt.toInt.toNat < 3 by omega) d_Mod_row_98 (fun z_14 ez_14 => ?_)
          have ez_14 : z_14 = z_13 := by rw [ez_14]; simp [va_up, upd]
          rw [ez_14]
          refine e_i hx hb hr hlk hQ hS d_Mod_row_99 ?_
          have hb : q_row F xt.toInt xa.toInt xb.toInt := ⟨by omega, by omega, by omega, by omega⟩
          have e1 := i32_of tr_z; rw [e1] at hP
          exact ⟨_, rfl, Or.inr ⟨hb, tr_z, (va_up I 0 (0 : Int32)), (va_up (va_up (va_up F 11 (upd (F 11) ((10 * xt.toInt.toNat) + (F 10 xt.toInt.toNat).toInt.toNat) xa)) 12 (upd ((va_up F 11 (upd (F 11) ((10 * xt.toInt.toNat) + (F 10 xt.toInt.toNat).toInt.toNat) xa)) 12) ((10 * xt.toInt.toNat) + (F 10 xt.toInt.toNat).toInt.toNat) xb)) 10 (upd ((va_up (va_up F 11 (upd (F 11) ((10 * xt.toInt.toNat) + (F 10 xt.toInt.toNat).toInt.toNat) xa)) 12 (upd ((va_up F 11 (upd (F 11) ((10 * xt.toInt.toNat) + (F 10 xt.toInt.toNat).toInt.toNat) xa)) 12) ((10 * xt.toInt.toNat) + (F 10 xt.toInt.toNat).toInt.toNat) xb)) 10) (xt.toInt.toNat) (Int32.ofInt ((F 10 xt.toInt.toNat).toInt + 1)))), ch, rfl, hch, ⟨⟨rfl, rfl, rfl, rfl, rfl, rfl, rfl⟩, fun _ _ _ _ _ _ _ _ => rfl, fun _ _ => ⟨rfl, rfl⟩⟩, hP⟩⟩
        · refine lv_iconst (v := 0) hx hb d_Mod_row_47 (by decide) ?_
          refine e_i hx hb hr hlk hQ hS d_Mod_row_48 ?_
          have hb : ¬ q_row F xt.toInt xa.toInt xb.toInt := fun h => by obtain ⟨h1, h2, h3, h4⟩ := h; omega
          exact ⟨_, rfl, Or.inl ⟨hb, kc_0, (va_up I 0 (0 : Int32)), F, ch, rfl, hch, ⟨⟨rfl, rfl, rfl, rfl, rfl, rfl, rfl⟩, fun _ _ _ _ _ _ _ _ => rfl, fun _ _ => ⟨rfl, rfl⟩⟩, hP⟩⟩
theorem d_Mod_set_0 : decode b_Mod_set 0 = .ok (.aload_n 0, 1) := by decide +kernel
theorem d_Mod_set_1 : decode b_Mod_set 1 = .ok (.iconst 0, 1) := by decide +kernel
theorem d_Mod_set_2 : decode b_Mod_set 2 = .ok (.putfield 74, 3) := by decide +kernel
theorem d_Mod_set_5 : decode b_Mod_set 5 = .ok (.aload_n 0, 1) := by decide +kernel
theorem d_Mod_set_6 : decode b_Mod_set 6 = .ok (.iload_n 1, 1) := by decide +kernel
theorem d_Mod_set_7 : decode b_Mod_set 7 = .ok (.invokevirtual 96, 3) := by decide +kernel
theorem d_Mod_set_10 : decode b_Mod_set 10 = .ok (.ifCond .eq 11, 3) := by decide +kernel
theorem d_Mod_set_13 : decode b_Mod_set 13 = .ok (.iload_n 2, 1) := by decide +kernel
theorem d_Mod_set_14 : decode b_Mod_set 14 = .ok (.iload_n 3, 1) := by decide +kernel
theorem d_Mod_set_15 : decode b_Mod_set 15 = .ok (.invokestatic 78, 3) := by decide +kernel
theorem d_Mod_set_18 : decode b_Mod_set 18 = .ok (.ifCond .ne 9, 3) := by decide +kernel
theorem d_Mod_set_21 : decode b_Mod_set 21 = .ok (.aload_n 0, 1) := by decide +kernel
theorem d_Mod_set_22 : decode b_Mod_set 22 = .ok (.iconst 1, 1) := by decide +kernel
theorem d_Mod_set_23 : decode b_Mod_set 23 = .ok (.invokevirtual 82, 3) := by decide +kernel
theorem d_Mod_set_26 : decode b_Mod_set 26 = .ok (.ireturn, 1) := by decide +kernel
theorem d_Mod_set_27 : decode b_Mod_set 27 = .ok (.aload_n 0, 1) := by decide +kernel
theorem d_Mod_set_28 : decode b_Mod_set 28 = .ok (.getfield 107, 3) := by decide +kernel
theorem d_Mod_set_31 : decode b_Mod_set 31 = .ok (.bipush 12, 2) := by decide +kernel
theorem d_Mod_set_33 : decode b_Mod_set 33 = .ok (.if_icmp .ne 9, 3) := by decide +kernel
theorem d_Mod_set_36 : decode b_Mod_set 36 = .ok (.aload_n 0, 1) := by decide +kernel
theorem d_Mod_set_37 : decode b_Mod_set 37 = .ok (.iconst 2, 1) := by decide +kernel
theorem d_Mod_set_38 : decode b_Mod_set 38 = .ok (.invokevirtual 82, 3) := by decide +kernel
theorem d_Mod_set_41 : decode b_Mod_set 41 = .ok (.ireturn, 1) := by decide +kernel
theorem d_Mod_set_42 : decode b_Mod_set 42 = .ok (.aload_n 0, 1) := by decide +kernel
theorem d_Mod_set_43 : decode b_Mod_set 43 = .ok (.getfield 41, 3) := by decide +kernel
theorem d_Mod_set_46 : decode b_Mod_set 46 = .ok (.aload_n 0, 1) := by decide +kernel
theorem d_Mod_set_47 : decode b_Mod_set 47 = .ok (.getfield 107, 3) := by decide +kernel
theorem d_Mod_set_50 : decode b_Mod_set 50 = .ok (.iload_n 1, 1) := by decide +kernel
theorem d_Mod_set_51 : decode b_Mod_set 51 = .ok (.iastore, 1) := by decide +kernel
theorem d_Mod_set_52 : decode b_Mod_set 52 = .ok (.aload_n 0, 1) := by decide +kernel
theorem d_Mod_set_53 : decode b_Mod_set 53 = .ok (.getfield 44, 3) := by decide +kernel
theorem d_Mod_set_56 : decode b_Mod_set 56 = .ok (.aload_n 0, 1) := by decide +kernel
theorem d_Mod_set_57 : decode b_Mod_set 57 = .ok (.getfield 107, 3) := by decide +kernel
theorem d_Mod_set_60 : decode b_Mod_set 60 = .ok (.iload_n 2, 1) := by decide +kernel
theorem d_Mod_set_61 : decode b_Mod_set 61 = .ok (.iastore, 1) := by decide +kernel
theorem d_Mod_set_62 : decode b_Mod_set 62 = .ok (.aload_n 0, 1) := by decide +kernel
theorem d_Mod_set_63 : decode b_Mod_set 63 = .ok (.getfield 47, 3) := by decide +kernel
theorem d_Mod_set_66 : decode b_Mod_set 66 = .ok (.aload_n 0, 1) := by decide +kernel
theorem d_Mod_set_67 : decode b_Mod_set 67 = .ok (.getfield 107, 3) := by decide +kernel
theorem d_Mod_set_70 : decode b_Mod_set 70 = .ok (.iload_n 3, 1) := by decide +kernel
theorem d_Mod_set_71 : decode b_Mod_set 71 = .ok (.iastore, 1) := by decide +kernel
theorem d_Mod_set_72 : decode b_Mod_set 72 = .ok (.aload_n 0, 1) := by decide +kernel
theorem d_Mod_set_73 : decode b_Mod_set 73 = .ok (.aload_n 0, 1) := by decide +kernel
theorem d_Mod_set_74 : decode b_Mod_set 74 = .ok (.getfield 110, 3) := by decide +kernel
theorem d_Mod_set_77 : decode b_Mod_set 77 = .ok (.iconst 1, 1) := by decide +kernel
theorem d_Mod_set_78 : decode b_Mod_set 78 = .ok (.aload_n 0, 1) := by decide +kernel
theorem d_Mod_set_79 : decode b_Mod_set 79 = .ok (.getfield 107, 3) := by decide +kernel
theorem d_Mod_set_82 : decode b_Mod_set 82 = .ok (.ishl, 1) := by decide +kernel
theorem d_Mod_set_83 : decode b_Mod_set 83 = .ok (.ior, 1) := by decide +kernel
theorem d_Mod_set_84 : decode b_Mod_set 84 = .ok (.putfield 110, 3) := by decide +kernel
theorem d_Mod_set_87 : decode b_Mod_set 87 = .ok (.aload_n 0, 1) := by decide +kernel
theorem d_Mod_set_88 : decode b_Mod_set 88 = .ok (.dup, 1) := by decide +kernel
theorem d_Mod_set_89 : decode b_Mod_set 89 = .ok (.getfield 107, 3) := by decide +kernel
theorem d_Mod_set_92 : decode b_Mod_set 92 = .ok (.iconst 1, 1) := by decide +kernel
theorem d_Mod_set_93 : decode b_Mod_set 93 = .ok (.iadd, 1) := by decide +kernel
theorem d_Mod_set_94 : decode b_Mod_set 94 = .ok (.putfield 107, 3) := by decide +kernel
theorem d_Mod_set_97 : decode b_Mod_set 97 = .ok (.aload_n 0, 1) := by decide +kernel
theorem d_Mod_set_98 : decode b_Mod_set 98 = .ok (.getfield 107, 3) := by decide +kernel
theorem d_Mod_set_101 : decode b_Mod_set 101 = .ok (.iconst 1, 1) := by decide +kernel
theorem d_Mod_set_102 : decode b_Mod_set 102 = .ok (.isub, 1) := by decide +kernel
theorem d_Mod_set_103 : decode b_Mod_set 103 = .ok (.ireturn, 1) := by decide +kernel
set_option maxHeartbeats 4000000 in
set_option maxRecDepth 20000 in
theorem k_Mod_set (l : Launch) (D : va_G) (cA : Nat → ClassId) (adr : Nat → Nat) (hi : wI mN adr) (I : Nat → Int32) (F : Nat → Nat → Int32) (nn mm en mk : Nat) (ch : Bool) (hch : I 20 = bi ch) (hWF : WF I F nn mm en mk) (xk xa xb : Int32) : Ct l y_Mod_set b_Mod_set 4 (some .int) 3 D cA [.ref (adr 0), .int xk, .int xa, .int xb] (fun H => MP D cA adr I F H) (fun r H => ∃ z : Int32, r = some (.int z) ∧ (b_set nn en xk.toInt xa.toInt xb.toInt = 0 → z.toInt = (en : Int)) ∧ ∃ (I2 : Nat → Int32) (F2 : Nat → Nat → Int32) (c2 : Bool), I2 0 = Int32.ofInt (b_set nn en xk.toInt xa.toInt xb.toInt) ∧ I2 20 = bi c2 ∧ (if b_set nn en xk.toInt xa.toInt xb.toInt = 0 then Sm (J_set I en mk) (G_set F en xk xa xb) I2 F2 else Sm I F I2 F2) ∧ MP D cA adr I2 F2 H) (wA mN adr) := by
  refine Ct.mk (by decide) (Nat.le_of_ble_eq_true rfl) ?_
  intro p e s m args below meth c Q H locs ls hx hb hr hml hlk hown hin hK hQ hS hP hl
  have hl : lv_has ls 4 [(0, .ref (adr 0)), (1, .int xk), (2, .int xa), (3, .int xb)] := hl
  have hown : s.vm.findClass "RangeSheetModel" = some m.cls := hown
  obtain ⟨hW, hE, hen, ⟨hmk, hmke⟩, htd, hsp, hsd, hset, hgd⟩ := hWF
  have hn1 : (I 1).toInt = (nn : Int) := hW.2.2.1
  have hm1 : (I 4).toInt = (mm : Int) := hW.2.2.2.1
  have hn10 := hW.1
  have hm12 := hW.2.1
  have hen12 := hE.1
  have hpe := Nat.pow_le_pow_right (n := 2) (by decide) hen12
  refine lv_aload_n hx hb d_Mod_set_0 rfl (lv_at hl 0 rfl) ?_
  refine lv_iconst (v := 0) hx hb d_Mod_set_1 (by decide) ?_
  refine m_pi hx hb hK hown hi hP hS wA_mem 0 (by decide) t_737 rfl rfl d_Mod_set_2 (fun H locs hP hS => ?_)
  refine lv_aload_n hx hb d_Mod_set_5 rfl (lv_at hl 0 rfl) ?_
  refine lv_iload_n hx hb d_Mod_set_6 rfl (lv_at hl 1 rfl) ?_
  refine x_V (As := [.int xk]) (rest := []) hx hb hml hown hK (k_Mod_isCell l D cA adr hi (va_up I 0 (0 : Int32)) F nn xk hn10 hn1) t_879 t_4 t_876 t_878 ts_18 yk_Mod_isCell ⟨Nat.le_of_ble_eq_true rfl, Nat.le_of_ble_eq_true rfl⟩ (m_rec hK hP) hP rfl hl.1 rfl (Nat.le_of_ble_eq_true rfl) d_Mod_set_7 ⟨Nat.le_of_ble_eq_true rfl, Nat.le_of_ble_eq_true rfl⟩ hS (fun q h => h) (fun r H locs hq _ hS => ?_)
  obtain ⟨rfl, hP⟩ := hq
  refine W.eq (g2 := F0 m 10 ls [.int (bi (decide (0 ≤ xk.toInt ∧ xk.toInt ≤ (nn : Int) - 1)))]) rfl ?_
  refine b_bool_eq (tgt := 21) hx hb d_Mod_set_10 (by decide) (fun c_1 => ?_) (fun c_1 => ?_)
  · have hc_1 := of_decide_eq_false c_1
    refine lv_aload_n hx hb d_Mod_set_21 rfl (lv_at hl 0 rfl) ?_
    refine lv_iconst (v := 1) hx hb d_Mod_set_22 (by decide) ?_
    refine x_V (As := [.int (1 : Int32)]) (rest := []) hx hb hml hown hK (k_Mod_refuse l D cA adr hi (va_up I 0 (0 : Int32)) F (1 : Int32)) t_861 t_4 t_858 t_860 ts_16 yk_Mod_refuse ⟨Nat.le_of_ble_eq_true rfl, Nat.le_of_ble_eq_true rfl⟩ (m_rec hK hP) hP rfl hl.1 rfl (Nat.le_of_ble_eq_true rfl) d_Mod_set_23 ⟨Nat.le_of_ble_eq_true rfl, Nat.le_of_ble_eq_true rfl⟩ hS (fun q h => h) (fun r H locs hq _ hS => ?_)
    obtain ⟨rfl, hP⟩ := hq
    refine W.eq (g2 := F0 m 26 ls [.int (0 : Int32)]) rfl ?_
    refine e_i hx hb hr hlk hQ hS d_Mod_set_26 ?_
    have hb : b_set nn en xk.toInt xa.toInt xb.toInt = 1 := by unfold b_set; rw [if_pos (by omega)]
    rw [hb]; exact ⟨_, rfl, fun h => absurd h (by decide), (va_up (va_up I 0 (0 : Int32)) 0 (1 : Int32)), F, ch, rfl, hch, (by rw [if_neg (by decide)]; exact ⟨⟨rfl, rfl, rfl, rfl, rfl, rfl, rfl⟩, fun _ _ _ _ _ _ _ _ => rfl, fun _ _ => ⟨rfl, rfl⟩⟩), hP⟩
  · have hc_1 := of_decide_eq_true c_1
    refine lv_iload_n hx hb d_Mod_set_13 rfl (lv_at hl 2 rfl) ?_
    refine lv_iload_n hx hb d_Mod_set_14 rfl (lv_at hl 3 rfl) ?_
    refine r_Mod_isRange hx hb hml hown hK hl.1 hS ⟨Nat.le_of_ble_eq_true rfl, Nat.le_of_ble_eq_true rfl⟩ ⟨Nat.le_of_ble_eq_true rfl, Nat.le_of_ble_eq_true rfl⟩ rfl rfl  d_Mod_set_15 (Nat.le_of_ble_eq_true rfl) (fun locs hS => ?_)
    refine b_bool_ne (tgt := 27) hx hb d_Mod_set_18 (by decide) (fun c_2 => ?_) (fun c_2 => ?_)
    · have hc_2 := of_decide_eq_true c_2
      refine lv_aload_n hx hb d_Mod_set_27 rfl (lv_at hl 0 rfl) ?_
      refine m_gi (v := (I 13)) hx hb hK hown hP 13 (by decide) t_750 rfl d_Mod_set_28 ?_
      refine lv_bipush (v := 12) hx hb d_Mod_set_31 (by decide) ?_
      refine b_icmp_ne (tgt := 42) hx hb d_Mod_set_33 (by decide) hen kc_12 (fun c_3 => ?_) (fun c_3 => ?_)
      · refine lv_aload_n hx hb d_Mod_set_42 rfl (lv_at hl 0 rfl) ?_
        refine m_gr hx hb hK hown hP 14 (by decide) t_751 d_Mod_set_43 ?_
        refine lv_aload_n hx hb d_Mod_set_46 rfl (lv_at hl 0 rfl) ?_
        refine m_gi (v := (I 13)) hx hb hK hown hP 13 (by decide) t_750 rfl d_Mod_set_47 ?_
        refine lv_iload_n hx hb d_Mod_set_50 rfl (lv_at hl 1 rfl) ?_
        refine m_st hx hb hK hi hP hS wA_mem 14 (by decide) (en) hen (by omega) (show en < 12 by omega) d_Mod_set_51 (fun H locs hP hS => ?_)
        refine lv_aload_n hx hb d_Mod_set_52 rfl (lv_at hl 0 rfl) ?_
        refine m_gr hx hb hK hown hP 15 (by decide) t_752 d_Mod_set_53 ?_
        refine lv_aload_n hx hb d_Mod_set_56 rfl (lv_at hl 0 rfl) ?_
        refine m_gi (v := (I 13)) hx hb hK hown hP 13 (by decide) t_750 rfl d_Mod_set_57 ?_
        refine lv_iload_n hx hb d_Mod_set_60 rfl (lv_at hl 2 rfl) ?_
        refine m_st hx hb hK hi hP hS wA_mem 15 (by decide) (en) hen (by omega) (show en < 12 by omega) d_Mod_set_61 (fun H locs hP hS => ?_)
        refine lv_aload_n hx hb d_Mod_set_62 rfl (lv_at hl 0 rfl) ?_
        refine m_gr hx hb hK hown hP 16 (by decide) t_753 d_Mod_set_63 ?_
        refine lv_aload_n hx hb d_Mod_set_66 rfl (lv_at hl 0 rfl) ?_
        refine m_gi (v := (I 13)) hx hb hK hown hP 13 (by decide) t_750 rfl d_Mod_set_67 ?_
        refine lv_iload_n hx hb d_Mod_set_70 rfl (lv_at hl 3 rfl) ?_
        refine m_st hx hb hK hi hP hS wA_mem 16 (by decide) (en) hen (by omega) (show en < 12 by omega) d_Mod_set_71 (fun H locs hP hS => ?_)
        refine lv_aload_n hx hb d_Mod_set_72 rfl (lv_at hl 0 rfl) ?_
        refine lv_aload_n hx hb d_Mod_set_73 rfl (lv_at hl 0 rfl) ?_
        refine m_gi (v := (I 17)) hx hb hK hown hP 17 (by decide) t_754 rfl d_Mod_set_74 ?_
        refine lv_iconst (v := 1) hx hb d_Mod_set_77 (by decide) ?_
        refine lv_aload_n hx hb d_Mod_set_78 rfl (lv_at hl 0 rfl) ?_
        refine m_gi (v := (I 13)) hx hb hK hown hP 13 (by decide) t_750 rfl d_Mod_set_79 ?_
        refine x_shl1 hx hb d_Mod_set_82 (en) hen (by omega) (by omega) (fun z_4 tz_4 => ?_)
        refine x_orN hx hb d_Mod_set_83 (mk) ((2 ^ en)) hmk tz_4 (by omega) (by omega) (fun z_5 tz_5 => ?_)
        refine m_pi hx hb hK hown hi hP hS wA_mem 17 (by decide) t_754 rfl rfl d_Mod_set_84 (fun H locs hP hS => ?_)
        refine lv_aload_n hx hb d_Mod_set_87 rfl (lv_at hl 0 rfl) ?_
        refine lv_dup hx hb d_Mod_set_88 rfl ?_
        refine m_gi (v := (I 13)) hx hb hK hown hP 13 (by decide) t_750 rfl d_Mod_set_89 ?_
        refine lv_iconst (v := 1) hx hb d_Mod_set_92 (by decide) ?_
        refine x_add hx hb d_Mod_set_93 hen kc_1 (by omega) (fun z_6 tz_6 => ?_)
        refine m_pi hx hb hK hown hi hP hS wA_mem 13 (by decide) t_750 rfl rfl d_Mod_set_94 (fun H locs hP hS => ?_)
        refine lv_aload_n hx hb d_Mod_set_97 rfl (lv_at hl 0 rfl) ?_
        refine m_gi (v := z_6) hx hb hK hown hP 13 (by decide) t_750 rfl d_Mod_set_98 ?_
        refine lv_iconst (v := 1) hx hb d_Mod_set_101 (by decide) ?_
        refine x_sub hx hb d_Mod_set_102 tz_6 kc_1 (by omega) (fun z_7 tz_7 => ?_)
        refine e_i hx hb hr hlk hQ hS d_Mod_set_103 ?_
        have hb : b_set nn en xk.toInt xa.toInt xb.toInt = 0 := by unfold b_set; rw [if_neg (by omega), if_neg (by omega)]
        have e1 := i32_of tz_6; have e2 := i32_of tz_5; rw [e1, e2] at hP
        rw [hb]; refine ⟨_, rfl, fun _ => by rw [tz_7]; omega, (va_up (va_up (va_up I 0 (0 : Int32)) 17 (Int32.ofInt ((mk ||| 2 ^ en : Nat) : Int))) 13 (Int32.ofInt ((en : Int) + 1))), (va_up (va_up (va_up F 14 (upd (F 14) (en) xk)) 15 (upd ((va_up F 14 (upd (F 14) (en) xk)) 15) (en) xa)) 16 (upd ((va_up (va_up F 14 (upd (F 14) (en) xk)) 15 (upd ((va_up F 14 (upd (F 14) (en) xk)) 15) (en) xa)) 16) (en) xb)), ch, rfl, hch, ?_, hP⟩
        rw [if_pos rfl]; exact ⟨⟨rfl, rfl, rfl, rfl, rfl, rfl, rfl⟩, fun _ _ _ _ _ _ _ _ => rfl, fun _ _ => ⟨rfl, rfl⟩⟩
      · refine lv_aload_n hx hb d_Mod_set_36 rfl (lv_at hl 0 rfl) ?_
        refine lv_iconst (v := 2) hx hb d_Mod_set_37 (by decide) ?_
        refine x_V (As := [.int (2 : Int32)]) (rest := []) hx hb hml hown hK (k_Mod_refuse l D cA adr hi (va_up I 0 (0 : Int32)) F (2 : Int32)) t_861 t_4 t_858 t_860 ts_16 yk_Mod_refuse ⟨Nat.le_of_ble_eq_true rfl, Nat.le_of_ble_eq_true rfl⟩ (m_rec hK hP) hP rfl hl.1 rfl (Nat.le_of_ble_eq_true rfl) d_Mod_set_38 ⟨Nat.le_of_ble_eq_true rfl, Nat.le_of_ble_eq_true rfl⟩ hS (fun q h => h) (fun r H locs hq _ hS => ?_)
        obtain ⟨rfl, hP⟩ := hq
        refine W.eq (g2 := F0 m 41 ls [.int (0 : Int32)]) rfl ?_
        refine e_i hx hb hr hlk hQ hS d_Mod_set_41 ?_
        have hb : b_set nn en xk.toInt xa.toInt xb.toInt = 2 := by unfold b_set; rw [if_neg (by omega), if_pos (by omega)]
        rw [hb]; exact ⟨_, rfl, fun h => absurd h (by decide), (va_up (va_up I 0 (0 : Int32)) 0 (2 : Int32)), F, ch, rfl, hch, (by rw [if_neg (by decide)]; exact ⟨⟨rfl, rfl, rfl, rfl, rfl, rfl, rfl⟩, fun _ _ _ _ _ _ _ _ => rfl, fun _ _ => ⟨rfl, rfl⟩⟩), hP⟩
    · have hc_2 := of_decide_eq_false c_2
      refine lv_aload_n hx hb d_Mod_set_21 rfl (lv_at hl 0 rfl) ?_
      refine lv_iconst (v := 1) hx hb d_Mod_set_22 (by decide) ?_
      refine x_V (As := [.int (1 : Int32)]) (rest := []) hx hb hml hown hK (k_Mod_refuse l D cA adr hi (va_up I 0 (0 : Int32)) F (1 : Int32)) t_861 t_4 t_858 t_860 ts_16 yk_Mod_refuse ⟨Nat.le_of_ble_eq_true rfl, Nat.le_of_ble_eq_true rfl⟩ (m_rec hK hP) hP rfl hl.1 rfl (Nat.le_of_ble_eq_true rfl) d_Mod_set_23 ⟨Nat.le_of_ble_eq_true rfl, Nat.le_of_ble_eq_true rfl⟩ hS (fun q h => h) (fun r H locs hq _ hS => ?_)
      obtain ⟨rfl, hP⟩ := hq
      refine W.eq (g2 := F0 m 26 ls [.int (0 : Int32)]) rfl ?_
      refine e_i hx hb hr hlk hQ hS d_Mod_set_26 ?_
      have hb : b_set nn en xk.toInt xa.toInt xb.toInt = 1 := by unfold b_set; rw [if_pos (by omega)]
      rw [hb]; exact ⟨_, rfl, fun h => absurd h (by decide), (va_up (va_up I 0 (0 : Int32)) 0 (1 : Int32)), F, ch, rfl, hch, (by rw [if_neg (by decide)]; exact ⟨⟨rfl, rfl, rfl, rfl, rfl, rfl, rfl⟩, fun _ _ _ _ _ _ _ _ => rfl, fun _ _ => ⟨rfl, rfl⟩⟩), hP⟩
theorem d_Mod_force_0 : decode b_Mod_force 0 = .ok (.aload_n 0, 1) := by decide +kernel
theorem d_Mod_force_1 : decode b_Mod_force 1 = .ok (.iconst 0, 1) := by decide +kernel
theorem d_Mod_force_2 : decode b_Mod_force 2 = .ok (.putfield 74, 3) := by decide +kernel
theorem d_Mod_force_5 : decode b_Mod_force 5 = .ok (.iload_n 1, 1) := by decide +kernel
theorem d_Mod_force_6 : decode b_Mod_force 6 = .ok (.iconst 0, 1) := by decide +kernel
theorem d_Mod_force_7 : decode b_Mod_force 7 = .ok (.aload_n 0, 1) := by decide +kernel
theorem d_Mod_force_8 : decode b_Mod_force 8 = .ok (.getfield 107, 3) := by decide +kernel
theorem d_Mod_force_11 : decode b_Mod_force 11 = .ok (.iconst 1, 1) := by decide +kernel
theorem d_Mod_force_12 : decode b_Mod_force 12 = .ok (.isub, 1) := by decide +kernel
theorem d_Mod_force_13 : decode b_Mod_force 13 = .ok (.invokestatic 89, 3) := by decide +kernel
theorem d_Mod_force_16 : decode b_Mod_force 16 = .ok (.ifCond .eq 15, 3) := by decide +kernel
theorem d_Mod_force_19 : decode b_Mod_force 19 = .ok (.aload_n 0, 1) := by decide +kernel
theorem d_Mod_force_20 : decode b_Mod_force 20 = .ok (.getfield 110, 3) := by decide +kernel
theorem d_Mod_force_23 : decode b_Mod_force 23 = .ok (.iload_n 1, 1) := by decide +kernel
theorem d_Mod_force_24 : decode b_Mod_force 24 = .ok (.invokestatic 113, 3) := by decide +kernel
theorem d_Mod_force_27 : decode b_Mod_force 27 = .ok (.iload_n 2, 1) := by decide +kernel
theorem d_Mod_force_28 : decode b_Mod_force 28 = .ok (.if_icmp .ne 5, 3) := by decide +kernel
theorem d_Mod_force_31 : decode b_Mod_force 31 = .ok (.iconst 0, 1) := by decide +kernel
theorem d_Mod_force_32 : decode b_Mod_force 32 = .ok (.ireturn, 1) := by decide +kernel
theorem d_Mod_force_33 : decode b_Mod_force 33 = .ok (.aload_n 0, 1) := by decide +kernel
theorem d_Mod_force_34 : decode b_Mod_force 34 = .ok (.aload_n 0, 1) := by decide +kernel
theorem d_Mod_force_35 : decode b_Mod_force 35 = .ok (.getfield 110, 3) := by decide +kernel
theorem d_Mod_force_38 : decode b_Mod_force 38 = .ok (.iconst 1, 1) := by decide +kernel
theorem d_Mod_force_39 : decode b_Mod_force 39 = .ok (.iload_n 1, 1) := by decide +kernel
theorem d_Mod_force_40 : decode b_Mod_force 40 = .ok (.ishl, 1) := by decide +kernel
theorem d_Mod_force_41 : decode b_Mod_force 41 = .ok (.ixor, 1) := by decide +kernel
theorem d_Mod_force_42 : decode b_Mod_force 42 = .ok (.putfield 110, 3) := by decide +kernel
theorem d_Mod_force_45 : decode b_Mod_force 45 = .ok (.iconst 1, 1) := by decide +kernel
theorem d_Mod_force_46 : decode b_Mod_force 46 = .ok (.ireturn, 1) := by decide +kernel
set_option maxHeartbeats 4000000 in
set_option maxRecDepth 20000 in
theorem k_Mod_force (l : Launch) (D : va_G) (cA : Nat → ClassId) (adr : Nat → Nat) (hi : wI mN adr) (I : Nat → Int32) (F : Nat → Nat → Int32) (nn mm en mk : Nat) (ch : Bool) (hch : I 20 = bi ch) (hWF : WF I F nn mm en mk) (xk : Int32) (gd : Bool) : Ct l y_Mod_force b_Mod_force 3 (some .boolean) 3 D cA [.ref (adr 0), .int xk, .int (bi gd)] (fun H => MP D cA adr I F H) (fun r H => r = some (.int (bi (q_force en mk xk.toInt gd))) ∧ MQ2 D cA adr 0 (J_force I en mk xk.toInt gd) (F) H) (wA mN adr) := by
  refine Ct.mk (by decide) (Nat.le_of_ble_eq_true rfl) ?_
  intro p e s m args below meth c Q H locs ls hx hb hr hml hlk hown hin hK hQ hS hP hl
  have hl : lv_has ls 3 [(0, .ref (adr 0)), (1, .int xk), (2, .int (bi gd))] := hl
  have hown : s.vm.findClass "RangeSheetModel" = some m.cls := hown
  obtain ⟨hW, hE, hen, ⟨hmk, hmke⟩, htd, hsp, hsd, hset, hgd⟩ := hWF
  have hn1 : (I 1).toInt = (nn : Int) := hW.2.2.1
  have hm1 : (I 4).toInt = (mm : Int) := hW.2.2.2.1
  have hn10 := hW.1
  have hm12 := hW.2.1
  have hen12 := hE.1
  have hpe := Nat.pow_le_pow_right (n := 2) (by decide) hen12
  refine lv_aload_n hx hb d_Mod_force_0 rfl (lv_at hl 0 rfl) ?_
  refine lv_iconst (v := 0) hx hb d_Mod_force_1 (by decide) ?_
  refine m_pi hx hb hK hown hi hP hS wA_mem 0 (by decide) t_737 rfl rfl d_Mod_force_2 (fun H locs hP hS => ?_)
  refine lv_iload_n hx hb d_Mod_force_5 rfl (lv_at hl 1 rfl) ?_
  refine lv_iconst (v := 0) hx hb d_Mod_force_6 (by decide) ?_
  refine lv_aload_n hx hb d_Mod_force_7 rfl (lv_at hl 0 rfl) ?_
  refine m_gi (v := (I 13)) hx hb hK hown hP 13 (by decide) t_750 rfl d_Mod_force_8 ?_
  refine lv_iconst (v := 1) hx hb d_Mod_force_11 (by decide) ?_
  refine x_sub hx hb d_Mod_force_12 hen kc_1 (by omega) (fun z_1 tz_1 => ?_)
  refine r_Mod_within hx hb hml hown hK hl.1 hS ⟨Nat.le_of_ble_eq_true rfl, Nat.le_of_ble_eq_true rfl⟩ ⟨Nat.le_of_ble_eq_true rfl, Nat.le_of_ble_eq_true rfl⟩ rfl kc_0 tz_1  d_Mod_force_13 (Nat.le_of_ble_eq_true rfl) (fun locs hS => ?_)
  refine b_bool_eq (tgt := 31) hx hb d_Mod_force_16 (by decide) (fun c_2 => ?_) (fun c_2 => ?_)
  · have hc_2 := of_decide_eq_false c_2
    refine lv_iconst (v := 0) hx hb d_Mod_force_31 (by decide) ?_
    refine W.eq (g2 := F0 m 32 ls [.int (bi false)]) rfl ?_
    refine e_z hx hb hr hlk hQ hS d_Mod_force_32 ?_
    have hb : q_force en mk xk.toInt gd = false := decide_eq_false (fun h => by omega)
    unfold J_force; rw [hb]; exact ⟨rfl, (va_up I 0 (0 : Int32)), F, ch, rfl, hch, ⟨⟨rfl, rfl, rfl, rfl, rfl, rfl, rfl⟩, fun _ _ _ _ _ _ _ _ => rfl, fun _ _ => ⟨rfl, rfl⟩⟩, hP⟩
  · have hc_2 := of_decide_eq_true c_2
    have hkk : xk.toInt = (xk.toInt.toNat : Int) := by omega
    have hpk := Nat.pow_le_pow_right (n := 2) (by decide) (show xk.toInt.toNat ≤ 12 by omega)
    refine lv_aload_n hx hb d_Mod_force_19 rfl (lv_at hl 0 rfl) ?_
    refine m_gi (v := (I 17)) hx hb hK hown hP 17 (by decide) t_754 rfl d_Mod_force_20 ?_
    refine lv_iload_n hx hb d_Mod_force_23 rfl (lv_at hl 1 rfl) ?_
    refine r_Mod_has hx hb hml hown hK hl.1 hS ⟨Nat.le_of_ble_eq_true rfl, Nat.le_of_ble_eq_true rfl⟩ ⟨Nat.le_of_ble_eq_true rfl, Nat.le_of_ble_eq_true rfl⟩ hmk hkk (by omega) (by omega) d_Mod_force_24 (Nat.le_of_ble_eq_true rfl) (fun locs hS => ?_)
    refine lv_iload_n hx hb d_Mod_force_27 rfl (lv_at hl 2 rfl) ?_
    refine bb_icmp_ne (tgt := 33) hx hb d_Mod_force_28 (by decide) (fun c_3 => ?_) (fun c_3 => ?_)
    · refine lv_aload_n hx hb d_Mod_force_33 rfl (lv_at hl 0 rfl) ?_
      refine lv_aload_n hx hb d_Mod_force_34 rfl (lv_at hl 0 rfl) ?_
      refine m_gi (v := (I 17)) hx hb hK hown hP 17 (by decide) t_754 rfl d_Mod_force_35 ?_
      refine lv_iconst (v := 1) hx hb d_Mod_force_38 (by decide) ?_
      refine lv_iload_n hx hb d_Mod_force_39 rfl (lv_at hl 1 rfl) ?_
      refine x_shl1 hx hb d_Mod_force_40 (xk.toInt.toNat) hkk (by omega) (by omega) (fun z_4 tz_4 => ?_)
      refine x_xorN hx hb d_Mod_force_41 (mk) ((2 ^ xk.toInt.toNat)) hmk tz_4 (by omega) (by omega) (fun z_5 tz_5 => ?_)
      refine m_pi hx hb hK hown hi hP hS wA_mem 17 (by decide) t_754 rfl rfl d_Mod_force_42 (fun H locs hP hS => ?_)
      refine lv_iconst (v := 1) hx hb d_Mod_force_45 (by decide) ?_
      refine W.eq (g2 := F0 m 46 ls [.int (bi true)]) rfl ?_
      refine e_z hx hb hr hlk hQ hS d_Mod_force_46 ?_
      have hb : q_force en mk xk.toInt gd = true := decide_eq_true ⟨by omega, by omega, by have q := c_3; rw [hkk, hasN_nat] at q; exact q⟩
      have e2 := i32_of tz_5; rw [e2] at hP
      unfold J_force; rw [hb]; exact ⟨rfl, (va_up (va_up I 0 (0 : Int32)) 17 (Int32.ofInt ((mk ^^^ 2 ^ xk.toInt.toNat : Nat) : Int))), F, ch, rfl, hch, ⟨⟨rfl, rfl, rfl, rfl, rfl, rfl, rfl⟩, fun _ _ _ _ _ _ _ _ => rfl, fun _ _ => ⟨rfl, rfl⟩⟩, hP⟩
    · refine lv_iconst (v := 0) hx hb d_Mod_force_31 (by decide) ?_
      refine W.eq (g2 := F0 m 32 ls [.int (bi false)]) rfl ?_
      refine e_z hx hb hr hlk hQ hS d_Mod_force_32 ?_
      have hb : q_force en mk xk.toInt gd = false := decide_eq_false (fun h => by have h2 := h.2.2; exact h2 (by have q := c_3; rw [hkk, hasN_nat] at q; exact q))
      unfold J_force; rw [hb]; exact ⟨rfl, (va_up I 0 (0 : Int32)), F, ch, rfl, hch, ⟨⟨rfl, rfl, rfl, rfl, rfl, rfl, rfl⟩, fun _ _ _ _ _ _ _ _ => rfl, fun _ _ => ⟨rfl, rfl⟩⟩, hP⟩
