/-! bits -/
def hasN (m e : Int) : Bool := m.toNat.testBit e.toNat
theorem nI_back {x : Int32} {a : Int} (h : x.toInt = a) (h0 : 0 ≤ a) : x = nI a.toNat := Int32.toInt_inj.mp (by rw [h, nI_toInt (by have := i_rng x; omega)]; omega)
theorem nI_bk {x : Int32} {n : Nat} (h : x.toInt = (n : Int)) : x = nI n := by
  have := nI_back h (by omega)
  simpa using this
theorem sm31 : ∀ e, e < 32 → ((nI e &&& 31).toBitVec.smod 32).toNat = e := by decide +kernel
theorem bit_has {x y : Int32} {a b : Int} (hx : x.toInt = a) (hy : y.toInt = b) (ha : 0 ≤ a) (hb : 0 ≤ b ∧ b < 32) : (x >>> (y &&& 31)) &&& 1 = bi (hasN a b) := by
  have h1 := nI_back hx ha
  have h2 := nI_back hy hb.1
  have hr := i_rng x
  have hd : a.toNat / 2 ^ b.toNat ≤ a.toNat := Nat.div_le_self _ _
  rw [h1, h2, pk_shrN (by omega) _ b.toNat (sm31 _ (by omega)), pk_andN (by omega) 1 (by decide), hasN, Nat.testBit_eq_decide_div_mod_eq]
  rcases Nat.mod_two_eq_zero_or_one (a.toNat / 2 ^ b.toNat) with h | h
  · rw [show a.toNat / 2 ^ b.toNat % 2 ^ 1 = 0 from h]; simp [h, bi, nI_0]
  · rw [show a.toNat / 2 ^ b.toNat % 2 ^ 1 = 1 from h]; simp [h, bi]; decide
theorem nI_xor {a b : Nat} (ha : a < 2 ^ 31) (hb : b < 2 ^ 31) : nI a ^^^ nI b = nI (a ^^^ b) := by
  apply Int32.toBitVec_inj.mp
  apply BitVec.eq_of_toNat_eq
  have h : a ^^^ b < 2 ^ 31 := Nat.xor_lt_two_pow ha hb
  rw [Int32.toBitVec_xor, BitVec.toNat_xor, pk_tn (by omega), pk_tn (by omega), pk_tn (by omega)]
theorem nI_or {a b : Nat} (ha : a < 2 ^ 31) (hb : b < 2 ^ 31) : nI a ||| nI b = nI (a ||| b) := by
  apply Int32.toBitVec_inj.mp
  apply BitVec.eq_of_toNat_eq
  have h : a ||| b < 2 ^ 31 := Nat.or_lt_two_pow ha hb
  rw [Int32.toBitVec_or, BitVec.toNat_or, pk_tn (by omega), pk_tn (by omega), pk_tn (by omega)]
section BR
variable {p : Program} {l : Launch} {e : Env} {R : Room} {s : State} {m : MethodId} {args : Array Value} {below : List Frame} {meth : Method} {c : Code} {H : Heap} {locs : List Loc} {cells slots : Nat} {Q : State → Prop}
variable {cc : ByteArray} {pc : Nat} {ls : Array Slot} {rest : List Value}
theorem x_bit (hexec : p.tables.exec = Jvm.exec) (hb : c.code = cc) {x y : Int32} {a b : Int} (hdg : decode cc pc = .ok (.iand, 1)) (hx : x.toInt = a) (hy : y.toInt = b) (ha : 0 ≤ a) (hb' : 0 ≤ b ∧ b < 32)
    (k : W p l e R s m args below meth c H locs cells slots Q (F0 m (pc + 1) ls (.int (bi (hasN a b)) :: rest))) : W p l e R s m args below meth c H locs cells slots Q (F0 m pc ls (.int 1 :: .int (x >>> (y &&& 31)) :: rest)) :=
  lv_iand hexec hb hdg (by rw [bit_has hx hy ha hb']; exact k)
theorem x_shl1 (hexec : p.tables.exec = Jvm.exec) (hb : c.code = cc) {y : Int32} {b : Int} (hdg : decode cc pc = .ok (.ishl, 1)) (n : Nat) (hy : y.toInt = b) (hn : b = (n : Int)) (hl : n < 31)
    (k : ∀ z : Int32, z.toInt = ((2 ^ n : Nat) : Int) → W p l e R s m args below meth c H locs cells slots Q (F0 m (pc + 1) ls (.int z :: rest))) : W p l e R s m args below meth c H locs cells slots Q (F0 m pc ls (.int y :: .int 1 :: rest)) := by
  refine lv_ishl hexec hb hdg (k _ ?_)
  have h2 := nI_bk (hy.trans hn)
  have hp : 2 ^ n < 2 ^ 31 := Nat.pow_lt_pow_right (by decide) hl
  rw [h2, show (1 : Int32) = nI 1 from by decide, pk_shlN _ n (sm31 _ (by omega)) (by omega), Nat.one_mul, nI_toInt hp]
theorem x_xorN (hexec : p.tables.exec = Jvm.exec) (hb : c.code = cc) {x y : Int32} {a b : Int} (hdg : decode cc pc = .ok (.ixor, 1)) (na nb : Nat) (hx : x.toInt = a) (hy : y.toInt = b) (ha : a = (na : Int)) (hb' : b = (nb : Int))
    (k : ∀ z : Int32, z.toInt = ((na ^^^ nb : Nat) : Int) → W p l e R s m args below meth c H locs cells slots Q (F0 m (pc + 1) ls (.int z :: rest))) : W p l e R s m args below meth c H locs cells slots Q (F0 m pc ls (.int y :: .int x :: rest)) := by
  refine lv_ixor hexec hb hdg (k _ ?_)
  have h1 := nI_bk (hx.trans ha)
  have h2 := nI_bk (hy.trans hb')
  have r1 := i_rng x
  have r2 := i_rng y
  rw [h1, h2, nI_xor (by omega) (by omega), nI_toInt (Nat.xor_lt_two_pow (by omega) (by omega))]
theorem x_orN (hexec : p.tables.exec = Jvm.exec) (hb : c.code = cc) {x y : Int32} {a b : Int} (hdg : decode cc pc = .ok (.ior, 1)) (na nb : Nat) (hx : x.toInt = a) (hy : y.toInt = b) (ha : a = (na : Int)) (hb' : b = (nb : Int))
    (k : ∀ z : Int32, z.toInt = ((na ||| nb : Nat) : Int) → W p l e R s m args below meth c H locs cells slots Q (F0 m (pc + 1) ls (.int z :: rest))) : W p l e R s m args below meth c H locs cells slots Q (F0 m pc ls (.int y :: .int x :: rest)) := by
  refine lv_ior hexec hb hdg (k _ ?_)
  have h1 := nI_bk (hx.trans ha)
  have h2 := nI_bk (hy.trans hb')
  have r1 := i_rng x
  have r2 := i_rng y
  rw [h1, h2, nI_or (by omega) (by omega), nI_toInt (Nat.or_lt_two_pow (by omega) (by omega))]
theorem b1_icmp_eq (hexec : p.tables.exec = Jvm.exec) (hb : c.code = cc) {b : Bool} {off : Int} {tgt : Nat} (hdg : decode cc pc = .ok (.if_icmp .eq off, 3)) (ht : (pc : Int) + off = (tgt : Int))
    (kt : b = true → W p l e R s m args below meth c H locs cells slots Q (F0 m tgt ls rest)) (kf : b = false → W p l e R s m args below meth c H locs cells slots Q (F0 m (pc + 3) ls rest)) : W p l e R s m args below meth c H locs cells slots Q (F0 m pc ls (.int 1 :: .int (bi b) :: rest)) :=
  lv_icmp_eq hexec hb hdg ht (fun h => kt (by cases b <;> first | rfl | exact absurd h (by decide))) (fun h => kf (by cases b <;> first | rfl | exact absurd rfl h))
theorem b1_icmp_ne (hexec : p.tables.exec = Jvm.exec) (hb : c.code = cc) {b : Bool} {off : Int} {tgt : Nat} (hdg : decode cc pc = .ok (.if_icmp .ne off, 3)) (ht : (pc : Int) + off = (tgt : Int))
    (kt : b = false → W p l e R s m args below meth c H locs cells slots Q (F0 m tgt ls rest)) (kf : b = true → W p l e R s m args below meth c H locs cells slots Q (F0 m (pc + 3) ls rest)) : W p l e R s m args below meth c H locs cells slots Q (F0 m pc ls (.int 1 :: .int (bi b) :: rest)) :=
  lv_icmp_ne hexec hb hdg ht (fun h => kt (by cases b <;> first | rfl | exact absurd rfl h)) (fun h => kf (by cases b <;> first | rfl | exact absurd h (by decide)))
theorem bb_icmp_eq (hexec : p.tables.exec = Jvm.exec) (hb : c.code = cc) {a b : Bool} {off : Int} {tgt : Nat} (hdg : decode cc pc = .ok (.if_icmp .eq off, 3)) (ht : (pc : Int) + off = (tgt : Int))
    (kt : a = b → W p l e R s m args below meth c H locs cells slots Q (F0 m tgt ls rest)) (kf : ¬ a = b → W p l e R s m args below meth c H locs cells slots Q (F0 m (pc + 3) ls rest)) : W p l e R s m args below meth c H locs cells slots Q (F0 m pc ls (.int (bi b) :: .int (bi a) :: rest)) :=
  lv_icmp_eq hexec hb hdg ht (fun h => kt (bi_inj h)) (fun h => kf (fun z => h (by rw [z])))
theorem bb_icmp_ne (hexec : p.tables.exec = Jvm.exec) (hb : c.code = cc) {a b : Bool} {off : Int} {tgt : Nat} (hdg : decode cc pc = .ok (.if_icmp .ne off, 3)) (ht : (pc : Int) + off = (tgt : Int))
    (kt : ¬ a = b → W p l e R s m args below meth c H locs cells slots Q (F0 m tgt ls rest)) (kf : a = b → W p l e R s m args below meth c H locs cells slots Q (F0 m (pc + 3) ls rest)) : W p l e R s m args below meth c H locs cells slots Q (F0 m pc ls (.int (bi b) :: .int (bi a) :: rest)) :=
  lv_icmp_ne hexec hb hdg ht (fun h => kt (fun z => h (by rw [z]))) (fun h => kf (bi_inj h))
end BR
theorem d_Mod_has_0 : decode b_Mod_has 0 = .ok (.iload_n 0, 1) := by decide +kernel
theorem d_Mod_has_1 : decode b_Mod_has 1 = .ok (.iload_n 1, 1) := by decide +kernel
theorem d_Mod_has_2 : decode b_Mod_has 2 = .ok (.ishr, 1) := by decide +kernel
theorem d_Mod_has_3 : decode b_Mod_has 3 = .ok (.iconst 1, 1) := by decide +kernel
theorem d_Mod_has_4 : decode b_Mod_has 4 = .ok (.iand, 1) := by decide +kernel
theorem d_Mod_has_5 : decode b_Mod_has 5 = .ok (.iconst 1, 1) := by decide +kernel
theorem d_Mod_has_6 : decode b_Mod_has 6 = .ok (.if_icmp .ne 7, 3) := by decide +kernel
theorem d_Mod_has_9 : decode b_Mod_has 9 = .ok (.iconst 1, 1) := by decide +kernel
theorem d_Mod_has_10 : decode b_Mod_has 10 = .ok (.goto 4, 3) := by decide +kernel
theorem d_Mod_has_13 : decode b_Mod_has 13 = .ok (.iconst 0, 1) := by decide +kernel
theorem d_Mod_has_14 : decode b_Mod_has 14 = .ok (.ireturn, 1) := by decide +kernel
set_option maxHeartbeats 4000000 in
theorem k_Mod_has (l : Launch) (D : va_G) (cA : Nat → ClassId) (H0 : Heap) (mk : Int32) (ek : Int32) (h0 : 0 ≤ mk.toInt) (h1 : 0 ≤ ek.toInt ∧ ek.toInt < 32) : Ct l y_Mod_has b_Mod_has 2 (some .boolean) 1 D cA [.int mk, .int ek] (fun H => H = H0) (fun r H => H = H0 ∧ r = some (.int (bi (hasN mk.toInt ek.toInt)))) (fun _ => False) := by
  refine Ct.mk (by decide) (Nat.le_of_ble_eq_true rfl) ?_
  intro p e s m args below meth c Q H locs ls hx hb hr hml hlk hown hin hK hQ hS hP hl
  have hl : lv_has ls 2 [(0, .int mk), (1, .int ek)] := hl
  refine lv_iload_n hx hb d_Mod_has_0 rfl (lv_at hl 0 rfl) ?_
  refine lv_iload_n hx hb d_Mod_has_1 rfl (lv_at hl 1 rfl) ?_
  refine lv_ishr hx hb d_Mod_has_2 ?_
  refine lv_iconst (v := 1) hx hb d_Mod_has_3 (by decide) ?_
  refine x_bit hx hb d_Mod_has_4 rfl rfl (by omega) (by omega) ?_
  refine lv_iconst (v := 1) hx hb d_Mod_has_5 (by decide) ?_
  have K_201 : ∀ (b_201_0 : Bool), (b_201_0 = true ↔ (hasN mk.toInt ek.toInt) = true) → W p l e (rl 1) s m args below meth c H locs 0 0 Q (F0 m 14 ls [.int (bi b_201_0)]) := by
    intro b_201_0 hb_201_0
    refine e_z hx hb hr hlk hQ hS d_Mod_has_14 ?_
    exact ⟨hP, by rw [show b_201_0 = hasN mk.toInt ek.toInt from by cases h : hasN mk.toInt ek.toInt <;> simp [h] at hb_201_0 <;> simp [hb_201_0]]⟩
  refine b1_icmp_ne (tgt := 13) hx hb d_Mod_has_6 (by decide) (fun c_202 => ?_) (fun c_202 => ?_)
  · refine lv_iconst (v := 0) hx hb d_Mod_has_13 (by decide) ?_
    exact K_201 false ⟨fun h => absurd h (by decide), fun h => absurd h (by first | omega | (simp [c_202]; done) | (simp [c_202]; omega) | (simp only [decide_eq_true_eq, decide_eq_false_iff_not]; omega))⟩
  · refine lv_iconst (v := 1) hx hb d_Mod_has_9 (by decide) ?_
    refine lv_goto (tgt := 14) hx hb d_Mod_has_10 (by decide) ?_
    exact K_201 true ⟨fun _ => by first | omega | (simp [c_202]; done) | (simp [c_202]; omega) | (simp only [decide_eq_true_eq, decide_eq_false_iff_not]; omega), fun _ => rfl⟩
theorem r_Mod_has {p : Program} {l : Launch} {e : Env} {R : Room} {s : State} {m : MethodId} {args : Array Value} {below : List Frame} {meth : Method} {c : Code} {H : Heap} {locs : List Loc} {cells slots : Nat} {Q : State → Prop} {cc : ByteArray} {pc : Nat} {ls : Array Slot} {rest : List Value} {D : va_G} {cA : Nat → ClassId} {A0 : Nat → Prop} {H0 : Heap} {nL : Nat} (hexec : p.tables.exec = Jvm.exec) (hb : c.code = cc) (hml : c.maxLocals = nL) (hown : s.vm.findClass "RangeSheetModel" = some m.cls) (hK : KE D cA s) (hsize : ls.size = nL) (hS : va_S A0 H0 H locs) (hR : 2 ≤ R.frames ∧ 81 ≤ R.locals) (hc : cells ≤ R.cells ∧ slots ≤ R.slots) {mk : Int32} {ek : Int32} {mk_i : Int} (h_mk : mk.toInt = mk_i) {ek_i : Int} (h_ek : ek.toInt = ek_i) (h0 : 0 ≤ mk_i) (h1 : 0 ≤ ek_i ∧ ek_i < 32) (hdg : decode cc pc = .ok (.invokestatic 113, 3)) (hW : (rest.map fun v => v.category).sum ≤ 8) (kk : ∀ locs1 : List Loc, va_S A0 H0 H locs1 → W p l e R s m args below meth c H locs1 cells slots Q (F0 m (pc + 3) ls (.int (bi (hasN mk_i ek_i)) :: rest))) : W p l e R s m args below meth c H locs cells slots Q (F0 m pc ls (.int ek :: .int mk :: rest)) := by
  subst h_mk
  subst h_ek
  refine x_S hexec hb hml hown hK (k_Mod_has l D cA H mk ek h0 h1) t_898 t_4 t_896 t_897 yk_Mod_has hR rfl rfl hsize rfl hW hdg hc hS (fun q h => h.elim) (fun r H1 locs1 hq _ hS1 => ?_)
  obtain ⟨rfl, rfl⟩ := hq
  exact kk locs1 hS1
def cutF (F : Nat → Nat → Int32) (i : Nat) (a b : Int32) : Nat → Nat → Int32 := va_up (va_up F 18 (upd (F 18) i a)) 19 (upd (F 19) i b)
theorem d_Mod_cut_0 : decode b_Mod_cut 0 = .ok (.bipush 10, 2) := by decide +kernel
theorem d_Mod_cut_2 : decode b_Mod_cut 2 = .ok (.iload_n 1, 1) := by decide +kernel
theorem d_Mod_cut_3 : decode b_Mod_cut 3 = .ok (.imul, 1) := by decide +kernel
theorem d_Mod_cut_4 : decode b_Mod_cut 4 = .ok (.iload_n 2, 1) := by decide +kernel
theorem d_Mod_cut_5 : decode b_Mod_cut 5 = .ok (.iadd, 1) := by decide +kernel
theorem d_Mod_cut_6 : decode b_Mod_cut 6 = .ok (.istore 5, 2) := by decide +kernel
theorem d_Mod_cut_8 : decode b_Mod_cut 8 = .ok (.aload_n 0, 1) := by decide +kernel
theorem d_Mod_cut_9 : decode b_Mod_cut 9 = .ok (.aload_n 0, 1) := by decide +kernel
theorem d_Mod_cut_10 : decode b_Mod_cut 10 = .ok (.getfield 116, 3) := by decide +kernel
theorem d_Mod_cut_13 : decode b_Mod_cut 13 = .ok (.ifCond .ne 26, 3) := by decide +kernel
theorem d_Mod_cut_16 : decode b_Mod_cut 16 = .ok (.iload_n 3, 1) := by decide +kernel
theorem d_Mod_cut_17 : decode b_Mod_cut 17 = .ok (.aload_n 0, 1) := by decide +kernel
theorem d_Mod_cut_18 : decode b_Mod_cut 18 = .ok (.getfield 50, 3) := by decide +kernel
theorem d_Mod_cut_21 : decode b_Mod_cut 21 = .ok (.iload 5, 2) := by decide +kernel
theorem d_Mod_cut_23 : decode b_Mod_cut 23 = .ok (.iaload, 1) := by decide +kernel
theorem d_Mod_cut_24 : decode b_Mod_cut 24 = .ok (.if_icmp .gt 15, 3) := by decide +kernel
theorem d_Mod_cut_27 : decode b_Mod_cut 27 = .ok (.iload 4, 2) := by decide +kernel
theorem d_Mod_cut_29 : decode b_Mod_cut 29 = .ok (.aload_n 0, 1) := by decide +kernel
theorem d_Mod_cut_30 : decode b_Mod_cut 30 = .ok (.getfield 53, 3) := by decide +kernel
theorem d_Mod_cut_33 : decode b_Mod_cut 33 = .ok (.iload 5, 2) := by decide +kernel
theorem d_Mod_cut_35 : decode b_Mod_cut 35 = .ok (.iaload, 1) := by decide +kernel
theorem d_Mod_cut_36 : decode b_Mod_cut 36 = .ok (.if_icmp .ge 7, 3) := by decide +kernel
theorem d_Mod_cut_39 : decode b_Mod_cut 39 = .ok (.iconst 1, 1) := by decide +kernel
theorem d_Mod_cut_40 : decode b_Mod_cut 40 = .ok (.goto 4, 3) := by decide +kernel
theorem d_Mod_cut_43 : decode b_Mod_cut 43 = .ok (.iconst 0, 1) := by decide +kernel
theorem d_Mod_cut_44 : decode b_Mod_cut 44 = .ok (.putfield 116, 3) := by decide +kernel
theorem d_Mod_cut_47 : decode b_Mod_cut 47 = .ok (.aload_n 0, 1) := by decide +kernel
theorem d_Mod_cut_48 : decode b_Mod_cut 48 = .ok (.getfield 50, 3) := by decide +kernel
theorem d_Mod_cut_51 : decode b_Mod_cut 51 = .ok (.iload 5, 2) := by decide +kernel
theorem d_Mod_cut_53 : decode b_Mod_cut 53 = .ok (.aload_n 0, 1) := by decide +kernel
theorem d_Mod_cut_54 : decode b_Mod_cut 54 = .ok (.getfield 50, 3) := by decide +kernel
theorem d_Mod_cut_57 : decode b_Mod_cut 57 = .ok (.iload 5, 2) := by decide +kernel
theorem d_Mod_cut_59 : decode b_Mod_cut 59 = .ok (.iaload, 1) := by decide +kernel
theorem d_Mod_cut_60 : decode b_Mod_cut 60 = .ok (.iload_n 3, 1) := by decide +kernel
theorem d_Mod_cut_61 : decode b_Mod_cut 61 = .ok (.invokestatic 120, 3) := by decide +kernel
theorem d_Mod_cut_64 : decode b_Mod_cut 64 = .ok (.iastore, 1) := by decide +kernel
theorem d_Mod_cut_65 : decode b_Mod_cut 65 = .ok (.aload_n 0, 1) := by decide +kernel
theorem d_Mod_cut_66 : decode b_Mod_cut 66 = .ok (.getfield 53, 3) := by decide +kernel
theorem d_Mod_cut_69 : decode b_Mod_cut 69 = .ok (.iload 5, 2) := by decide +kernel
theorem d_Mod_cut_71 : decode b_Mod_cut 71 = .ok (.aload_n 0, 1) := by decide +kernel
theorem d_Mod_cut_72 : decode b_Mod_cut 72 = .ok (.getfield 53, 3) := by decide +kernel
theorem d_Mod_cut_75 : decode b_Mod_cut 75 = .ok (.iload 5, 2) := by decide +kernel
theorem d_Mod_cut_77 : decode b_Mod_cut 77 = .ok (.iaload, 1) := by decide +kernel
theorem d_Mod_cut_78 : decode b_Mod_cut 78 = .ok (.iload 4, 2) := by decide +kernel
theorem d_Mod_cut_80 : decode b_Mod_cut 80 = .ok (.invokestatic 124, 3) := by decide +kernel
theorem d_Mod_cut_83 : decode b_Mod_cut 83 = .ok (.iastore, 1) := by decide +kernel
theorem d_Mod_cut_84 : decode b_Mod_cut 84 = .ok (.aload_n 0, 1) := by decide +kernel
theorem d_Mod_cut_85 : decode b_Mod_cut 85 = .ok (.getfield 50, 3) := by decide +kernel
theorem d_Mod_cut_88 : decode b_Mod_cut 88 = .ok (.iload 5, 2) := by decide +kernel
theorem d_Mod_cut_90 : decode b_Mod_cut 90 = .ok (.iaload, 1) := by decide +kernel
theorem d_Mod_cut_91 : decode b_Mod_cut 91 = .ok (.aload_n 0, 1) := by decide +kernel
theorem d_Mod_cut_92 : decode b_Mod_cut 92 = .ok (.getfield 53, 3) := by decide +kernel
theorem d_Mod_cut_95 : decode b_Mod_cut 95 = .ok (.iload 5, 2) := by decide +kernel
theorem d_Mod_cut_97 : decode b_Mod_cut 97 = .ok (.iaload, 1) := by decide +kernel
theorem d_Mod_cut_98 : decode b_Mod_cut 98 = .ok (.if_icmp .gt 7, 3) := by decide +kernel
theorem d_Mod_cut_101 : decode b_Mod_cut 101 = .ok (.iconst 1, 1) := by decide +kernel
theorem d_Mod_cut_102 : decode b_Mod_cut 102 = .ok (.goto 4, 3) := by decide +kernel
theorem d_Mod_cut_105 : decode b_Mod_cut 105 = .ok (.iconst 0, 1) := by decide +kernel
theorem d_Mod_cut_106 : decode b_Mod_cut 106 = .ok (.ireturn, 1) := by decide +kernel
set_option maxHeartbeats 4000000 in
set_option maxRecDepth 20000 in
theorem k_Mod_cut (l : Launch) (D : va_G) (cA : Nat → ClassId) (adr : Nat → Nat) (hi : wI mN adr) (I : Nat → Int32) (F : Nat → Nat → Int32) (d k : Nat) (xd xk f t : Int32) (ch : Bool) (hxd : xd.toInt = (d : Int)) (hxk : xk.toInt = (k : Int)) (hd : d < 12) (hk : k < 10) (hch : I 20 = bi ch) : Ct l y_Mod_cut b_Mod_cut 6 (some .boolean) 3 D cA [.ref (adr 0), .int xd, .int xk, .int f, .int t] (fun H => MP D cA adr I F H) (fun r H => ∃ lo hh : Int32, lo.toInt = max (F 18 (10 * d + k)).toInt f.toInt ∧ hh.toInt = min (F 19 (10 * d + k)).toInt t.toInt ∧ r = some (.int (bi (decide (lo.toInt ≤ hh.toInt)))) ∧ MP D cA adr (va_up I 20 (bi (ch || decide ((F 18 (10 * d + k)).toInt < f.toInt ∨ t.toInt < (F 19 (10 * d + k)).toInt)))) (cutF F (10 * d + k) lo hh) H) (wA mN adr) := by
  refine Ct.mk (by decide) (Nat.le_of_ble_eq_true rfl) ?_
  intro p e s m args below meth c Q H locs ls hx hb hr hml hlk hown hin hK hQ hS hP hl
  have hl : lv_has ls 6 [(0, .ref (adr 0)), (1, .int xd), (2, .int xk), (3, .int f), (4, .int t)] := hl
  have hown : s.vm.findClass "RangeSheetModel" = some m.cls := hown
  refine lv_bipush (v := 10) hx hb d_Mod_cut_0 (by decide) ?_
  refine lv_iload_n hx hb d_Mod_cut_2 rfl (lv_at hl 1 rfl) ?_
  refine x_mul hx hb d_Mod_cut_3 kc_10 hxd (by omega) (fun z_1 tz_1 => ?_)
  refine lv_iload_n hx hb d_Mod_cut_4 rfl (lv_at hl 2 rfl) ?_
  refine x_add hx hb d_Mod_cut_5 tz_1 hxk (by omega) (fun z_2 tz_2 => ?_)
  refine lv_istore (lv' := [(5, .int z_2), (0, .ref (adr 0)), (1, .int xd), (2, .int xk), (3, .int f), (4, .int t)]) hx hb d_Mod_cut_6 hl (by decide) rfl (fun ls hl => ?_)
  refine lv_aload_n hx hb d_Mod_cut_8 rfl (lv_at hl 1 rfl) ?_
  refine lv_aload_n hx hb d_Mod_cut_9 rfl (lv_at hl 1 rfl) ?_
  refine m_gi (v := (bi ch)) hx hb hK hown hP 20 (by decide) t_757 hch d_Mod_cut_10 ?_
  have K_203 : ∀ (b_203_0 : Bool), (b_203_0 = true ↔ (ch = true ∨ ((F 18 ((10 * d) + k)).toInt < f.toInt ∨ t.toInt < (F 19 ((10 * d) + k)).toInt))) → W p l e (rl 3) s m args below meth c H locs 0 0 Q (F0 m 44 ls [.int (bi b_203_0), .ref (adr 0)]) := by
    intro b_203_0 hb_203_0
    refine m_pi hx hb hK hown hi hP hS wA_mem 20 (by decide) t_757 (bi_nar _) (bi_fit _) d_Mod_cut_44 (fun H locs hP hS => ?_)
    refine lv_aload_n hx hb d_Mod_cut_47 rfl (lv_at hl 1 rfl) ?_
    refine m_gr hx hb hK hown hP 18 (by decide) t_755 d_Mod_cut_48 ?_
    refine lv_iload hx hb d_Mod_cut_51 (lv_at hl 0 rfl) ?_
    refine lv_aload_n hx hb d_Mod_cut_53 rfl (lv_at hl 1 rfl) ?_
    refine m_gr hx hb hK hown hP 18 (by decide) t_755 d_Mod_cut_54 ?_
    refine lv_iload hx hb d_Mod_cut_57 (lv_at hl 0 rfl) ?_
    refine m_ld hx hb hK hP 18 (by decide) (((10 * d) + k)) tz_2 (by omega) (show ((10 * d) + k) < 120 by omega) d_Mod_cut_59 (fun z_204 ez_204 => ?_)
    subst ez_204
    refine lv_iload_n hx hb d_Mod_cut_60 rfl (lv_at hl 4 rfl) ?_
    refine r_Mod_greater hx hb hml hown hK hl.1 hS ⟨Nat.le_of_ble_eq_true rfl, Nat.le_of_ble_eq_true rfl⟩ ⟨Nat.le_of_ble_eq_true rfl, Nat.le_of_ble_eq_true rfl⟩ rfl rfl  d_Mod_cut_61 (Nat.le_of_ble_eq_true rfl) (fun z_205 locs tz_205 hS => ?_)
    refine m_st hx hb hK hi hP hS wA_mem 18 (by decide) (((10 * d) + k)) tz_2 (by omega) (show ((10 * d) + k) < 120 by omega) d_Mod_cut_64 (fun H locs hP hS => ?_)
    refine lv_aload_n hx hb d_Mod_cut_65 rfl (lv_at hl 1 rfl) ?_
    refine m_gr hx hb hK hown hP 19 (by decide) t_756 d_Mod_cut_66 ?_
    refine lv_iload hx hb d_Mod_cut_69 (lv_at hl 0 rfl) ?_
    refine lv_aload_n hx hb d_Mod_cut_71 rfl (lv_at hl 1 rfl) ?_
    refine m_gr hx hb hK hown hP 19 (by decide) t_756 d_Mod_cut_72 ?_
    refine lv_iload hx hb d_Mod_cut_75 (lv_at hl 0 rfl) ?_
    refine m_ld hx hb hK hP 19 (by decide) (((10 * d) + k)) tz_2 (by omega) (show ((10 * d) + k) < 120 by omega) d_Mod_cut_77 (fun z_206 ez_206 => ?_)
    have ez_206 : z_206 = F 19 ((10 * d) + k) := ez_206
    subst ez_206
    refine lv_iload hx hb d_Mod_cut_78 (lv_at hl 5 rfl) ?_
    refine r_Mod_lesser hx hb hml hown hK hl.1 hS ⟨Nat.le_of_ble_eq_true rfl, Nat.le_of_ble_eq_true rfl⟩ ⟨Nat.le_of_ble_eq_true rfl, Nat.le_of_ble_eq_true rfl⟩ rfl rfl  d_Mod_cut_80 (Nat.le_of_ble_eq_true rfl) (fun z_207 locs tz_207 hS => ?_)
    refine m_st hx hb hK hi hP hS wA_mem 19 (by decide) (((10 * d) + k)) tz_2 (by omega) (show ((10 * d) + k) < 120 by omega) d_Mod_cut_83 (fun H locs hP hS => ?_)
    refine lv_aload_n hx hb d_Mod_cut_84 rfl (lv_at hl 1 rfl) ?_
    refine m_gr hx hb hK hown hP 18 (by decide) t_755 d_Mod_cut_85 ?_
    refine lv_iload hx hb d_Mod_cut_88 (lv_at hl 0 rfl) ?_
    refine m_ld hx hb hK hP 18 (by decide) (((10 * d) + k)) tz_2 (by omega) (show ((10 * d) + k) < 120 by omega) d_Mod_cut_90 (fun z_208 ez_208 => ?_)
    have ez_208 : z_208 = z_205 := by rw [ez_208]; simp [va_up, upd]
    rw [ez_208]
    refine lv_aload_n hx hb d_Mod_cut_91 rfl (lv_at hl 1 rfl) ?_
    refine m_gr hx hb hK hown hP 19 (by decide) t_756 d_Mod_cut_92 ?_
    refine lv_iload hx hb d_Mod_cut_95 (lv_at hl 0 rfl) ?_
    refine m_ld hx hb hK hP 19 (by decide) (((10 * d) + k)) tz_2 (by omega) (show ((10 * d) + k) < 120 by omega) d_Mod_cut_97 (fun z_209 ez_209 => ?_)
    have ez_209 : z_209 = z_207 := by rw [ez_209]; simp [va_up, upd]
    rw [ez_209]
    have K_410 : ∀ (b_410_0 : Bool), (b_410_0 = true ↔ (max (F 18 ((10 * d) + k)).toInt f.toInt) ≤ (min (F 19 ((10 * d) + k)).toInt t.toInt)) → W p l e (rl 3) s m args below meth c H locs 0 0 Q (F0 m 106 ls [.int (bi b_410_0)]) := by
      intro b_410_0 hb_410_0
      refine e_z hx hb hr hlk hQ hS d_Mod_cut_106 ?_
      refine ⟨z_205, z_207, tz_205, tz_207, fin_b hb_410_0 (by omega), ?_⟩
      rw [← show b_203_0 = (ch || decide ((F 18 (10 * d + k)).toInt < f.toInt ∨ t.toInt < (F 19 (10 * d + k)).toInt)) from by rw [Bool.eq_iff_iff, hb_203_0]; simp]
      exact hP
    refine b_icmp_gt (tgt := 105) hx hb d_Mod_cut_98 (by decide) tz_205 tz_207 (fun c_411 => ?_) (fun c_411 => ?_)
    · refine lv_iconst (v := 0) hx hb d_Mod_cut_105 (by decide) ?_
      exact K_410 false ⟨fun h => absurd h (by decide), fun h => absurd h (by omega)⟩
    · refine lv_iconst (v := 1) hx hb d_Mod_cut_101 (by decide) ?_
      refine lv_goto (tgt := 106) hx hb d_Mod_cut_102 (by decide) ?_
      exact K_410 true ⟨fun _ => by omega, fun _ => rfl⟩
  refine b_bool_ne (tgt := 39) hx hb d_Mod_cut_13 (by decide) (fun c_412 => ?_) (fun c_412 => ?_)
  · refine lv_iconst (v := 1) hx hb d_Mod_cut_39 (by decide) ?_
    refine lv_goto (tgt := 44) hx hb d_Mod_cut_40 (by decide) ?_
    exact K_203 true ⟨fun _ => by first | omega | (simp [c_412]; done) | (simp [c_412]; omega) | (simp only [decide_eq_true_eq, decide_eq_false_iff_not]; omega), fun _ => rfl⟩
  · refine lv_iload_n hx hb d_Mod_cut_16 rfl (lv_at hl 4 rfl) ?_
    refine lv_aload_n hx hb d_Mod_cut_17 rfl (lv_at hl 1 rfl) ?_
    refine m_gr hx hb hK hown hP 18 (by decide) t_755 d_Mod_cut_18 ?_
    refine lv_iload hx hb d_Mod_cut_21 (lv_at hl 0 rfl) ?_
    refine m_ld hx hb hK hP 18 (by decide) (((10 * d) + k)) tz_2 (by omega) (show ((10 * d) + k) < 120 by omega) d_Mod_cut_23 (fun z_413 ez_413 => ?_)
    subst ez_413
    refine b_icmp_gt (tgt := 39) hx hb d_Mod_cut_24 (by decide) rfl rfl (fun c_414 => ?_) (fun c_414 => ?_)
    · refine lv_iconst (v := 1) hx hb d_Mod_cut_39 (by decide) ?_
      refine lv_goto (tgt := 44) hx hb d_Mod_cut_40 (by decide) ?_
      exact K_203 true ⟨fun _ => by first | omega | (simp [c_412, c_414]; done) | (simp [c_412, c_414]; omega) | (simp only [decide_eq_true_eq, decide_eq_false_iff_not]; omega), fun _ => rfl⟩
    · refine lv_iload hx hb d_Mod_cut_27 (lv_at hl 5 rfl) ?_
      refine lv_aload_n hx hb d_Mod_cut_29 rfl (lv_at hl 1 rfl) ?_
      refine m_gr hx hb hK hown hP 19 (by decide) t_756 d_Mod_cut_30 ?_
      refine lv_iload hx hb d_Mod_cut_33 (lv_at hl 0 rfl) ?_
      refine m_ld hx hb hK hP 19 (by decide) (((10 * d) + k)) tz_2 (by omega) (show ((10 * d) + k) < 120 by omega) d_Mod_cut_35 (fun z_415 ez_415 => ?_)
      subst ez_415
      refine b_icmp_ge (tgt := 43) hx hb d_Mod_cut_36 (by decide) rfl rfl (fun c_416 => ?_) (fun c_416 => ?_)
      · refine lv_iconst (v := 0) hx hb d_Mod_cut_43 (by decide) ?_
        exact K_203 false ⟨fun h => absurd h (by decide), fun h => absurd h (by first | omega | (simp [c_412, c_414, c_416]; done) | (simp [c_412, c_414, c_416]; omega) | (simp only [decide_eq_true_eq, decide_eq_false_iff_not]; omega))⟩
      · refine lv_iconst (v := 1) hx hb d_Mod_cut_39 (by decide) ?_
        refine lv_goto (tgt := 44) hx hb d_Mod_cut_40 (by decide) ?_
        exact K_203 true ⟨fun _ => by first | omega | (simp [c_412, c_414, c_416]; done) | (simp [c_412, c_414, c_416]; omega) | (simp only [decide_eq_true_eq, decide_eq_false_iff_not]; omega), fun _ => rfl⟩
