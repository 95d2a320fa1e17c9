/-! what both sides compute, in plain terms -/
abbrev Bx : Type := (Nat → Int) × (Nat → Int)
noncomputable def stl (n : Nat) (Fx : (Nat → Int) → (Nat → Int) → Prop) (x : Bx) : Option Bx :=
  @dite _ (∃ y : Bx, GF n Fx x.1 x.2 y.1 y.2) (Classical.propDecidable _) (fun h => some (Classical.choose h)) (fun _ => none)
theorem stl_some {n : Nat} {Fx : (Nat → Int) → (Nat → Int) → Prop} {x y : Bx} (h : stl n Fx x = some y) : GF n Fx x.1 x.2 y.1 y.2 := by
  unfold stl at h
  split at h
  · rename_i hx
    cases h
    exact Classical.choose_spec hx
  · cases h
theorem stl_T {n : Nat} {Fx : (Nat → Int) → (Nat → Int) → Prop} {x : Bx} {xl xh yl yh vl vh : Nat → Int} (e : Eqb n xl xh x.1 x.2) (g : GF n Fx xl xh vl vh) (e2 : Eqb n yl yh vl vh) : ∃ y, stl n Fx x = some y ∧ Eqb n yl yh y.1 y.2 := by
  have g2 := g.congr e
  have hx : ∃ y : Bx, GF n Fx x.1 x.2 y.1 y.2 := ⟨(vl, vh), g2⟩
  refine ⟨Classical.choose hx, ?_, e2.tr (g2.uniq (Classical.choose_spec hx))⟩
  unfold stl
  rw [dif_pos hx]
theorem stl_F {n : Nat} {Fx : (Nat → Int) → (Nat → Int) → Prop} {x : Bx} {xl xh : Nat → Int} (e : Eqb n xl xh x.1 x.2) (g : No n Fx xl xh) : stl n Fx x = none := by
  unfold stl
  rw [dif_neg]
  rintro ⟨y, hy⟩
  exact g.congr e y.1 y.2 hy.1 hy.2.1 hy.2.2.1
def cutB (x : Bx) (k : Nat) (f t : Int) : Bx := (fun j => if j = k then max (x.1 k) f else x.1 j, fun j => if j = k then min (x.2 k) t else x.2 j)
theorem cutB_b {n : Nat} {x : Bx} {xl xh yl yh : Nat → Int} {k : Nat} {f t : Int} (hk : k < n) (e : Eqb n xl xh x.1 x.2) (h : Cutb n xl xh k f t yl yh) : Eqb n yl yh (cutB x k f t).1 (cutB x k f t).2 := by
  intro j hj
  have a1 := h.1 j hj
  have a2 := h.2 j hj
  have a3 := e j hj
  have a4 := e k hk
  simp only [cutB]
  rw [a1, a2, a3.1, a3.2, a4.1, a4.2]
  exact ⟨rfl, rfl⟩
/-- the first box, cut by the entries of a mask -/
def entB (F : Nat → Nat → Int32) (mk : Nat) (e : Nat) : Bx × Bool := match e with
  | 0 => ((fun k => (F 2 k).toInt, fun k => (F 3 k).toInt), true)
  | e + 1 => if mk.testBit e = true then (cutB (entB F mk e).1 (F 14 e).toInt.toNat (F 15 e).toInt (F 16 e).toInt, (entB F mk e).2 && decide ((cutB (entB F mk e).1 (F 14 e).toInt.toNat (F 15 e).toInt (F 16 e).toInt).1 (F 14 e).toInt.toNat ≤ (cutB (entB F mk e).1 (F 14 e).toInt.toNat (F 15 e).toInt (F 16 e).toInt).2 (F 14 e).toInt.toNat)) else entB F mk e
noncomputable def nw (F : Nat → Nat → Int32) (n m en mk : Nat) : Option Bx := if (entB F mk en).2 = true then stl n (FA F m) (entB F mk en).1 else none
/-- what the first box and the entries are -/
def WE (F : Nat → Nat → Int32) (n en : Nat) : Prop := en ≤ 12 ∧ (∀ k, k < n → -100 ≤ (F 2 k).toInt ∧ (F 2 k).toInt ≤ (F 3 k).toInt ∧ (F 3 k).toInt ≤ 100) ∧ (∀ e, e < en → 0 ≤ (F 14 e).toInt ∧ (F 14 e).toInt < n ∧ -100 ≤ (F 15 e).toInt ∧ (F 15 e).toInt ≤ (F 16 e).toInt ∧ (F 16 e).toInt ≤ 100)
theorem entB_rg {F : Nat → Nat → Int32} {n en mk : Nat} (h : WE F n en) : ∀ e, e ≤ en → ((∀ k, k < n → -100 ≤ (entB F mk e).1.1 k ∧ (entB F mk e).1.2 k ≤ 100 ∧ (entB F mk e).1.1 k ≤ 100 ∧ -100 ≤ (entB F mk e).1.2 k) ∧ ((entB F mk e).2 = true → Ne n (entB F mk e).1.1 (entB F mk e).1.2)) := by
  intro e
  induction e with
  | zero =>
    intro _
    exact ⟨fun k hk => by have := h.2.1 k hk; simp only [entB]; omega, fun _ k hk => by have := h.2.1 k hk; simp only [entB]; omega⟩
  | succ e ih =>
    intro he
    obtain ⟨i1, i2⟩ := ih (by omega)
    have hr := h.2.2 e (by omega)
    by_cases c : mk.testBit e = true
    · have hx : entB F mk (e + 1) = (cutB (entB F mk e).1 (F 14 e).toInt.toNat (F 15 e).toInt (F 16 e).toInt, (entB F mk e).2 && decide ((cutB (entB F mk e).1 (F 14 e).toInt.toNat (F 15 e).toInt (F 16 e).toInt).1 (F 14 e).toInt.toNat ≤ (cutB (entB F mk e).1 (F 14 e).toInt.toNat (F 15 e).toInt (F 16 e).toInt).2 (F 14 e).toInt.toNat)) := by rw [entB, if_pos c]
      rw [hx]
      refine ⟨fun k hk => ?_, fun hq k hk => ?_⟩
      · have h1 := i1 k hk
        have h2 := i1 (F 14 e).toInt.toNat (by omega)
        simp only [cutB]
        split <;> omega
      · rw [Bool.and_eq_true, decide_eq_true_eq] at hq
        have h1 := i2 hq.1 k hk
        by_cases z : k = (F 14 e).toInt.toNat
        · rw [z]; exact hq.2
        · simp only [cutB, if_neg z]; exact h1
    · have hx : entB F mk (e + 1) = entB F mk e := by rw [entB, if_neg c]
      rw [hx]
      exact ⟨i1, i2⟩
theorem bl_0 {F : Nat → Nat → Int32} {k : Nat} : bl F 0 k = (F 18 k).toInt := by simp [bl]
theorem bh_0 {F : Nat → Nat → Int32} {k : Nat} : bh F 0 k = (F 19 k).toInt := by simp [bh]
theorem cp_fr {I I1 : Nat → Int32} {F F1 : Nat → Nat → Int32} {k d : Nat} {a b : Int32} (h : FrD d I I1 F F1) (h1 : 10 * d ≤ k) (hk : k < 10 * d + 10) : FrD d I I1 F (va_up (va_up F1 18 (upd (F1 18) k a)) 19 (upd ((va_up F1 18 (upd (F1 18) k a)) 19) k b)) := by
  refine h.tr ⟨fun _ _ => rfl, fun n q1 q2 q3 => ?_, fun j hj => ?_⟩
  · simp [va_up, q1, q2]
  · have e : j ≠ k := by omega
    simp [va_up, upd, e]
theorem entB_ft {F F' : Nat → Nat → Int32} {mk e : Nat} (h2 : F' 2 = F 2) (h3 : F' 3 = F 3) (h14 : F' 14 = F 14) (h15 : F' 15 = F 15) (h16 : F' 16 = F 16) : entB F' mk e = entB F mk e := by
  induction e with
  | zero => simp only [entB, h2, h3]
  | succ e ih => simp only [entB, ih, h14, h15, h16]
theorem entB_pos {F : Nat → Nat → Int32} {mk e : Nat} (c : mk.testBit e = true) : entB F mk (e + 1) = (cutB (entB F mk e).1 (F 14 e).toInt.toNat (F 15 e).toInt (F 16 e).toInt, (entB F mk e).2 && decide ((cutB (entB F mk e).1 (F 14 e).toInt.toNat (F 15 e).toInt (F 16 e).toInt).1 (F 14 e).toInt.toNat ≤ (cutB (entB F mk e).1 (F 14 e).toInt.toNat (F 15 e).toInt (F 16 e).toInt).2 (F 14 e).toInt.toNat)) := by rw [entB, if_pos c]
theorem entB_neg {F : Nat → Nat → Int32} {mk e : Nat} (c : ¬ mk.testBit e = true) : entB F mk (e + 1) = entB F mk e := by rw [entB, if_neg c]
theorem d_Mod_narrowWith_0 : decode b_Mod_narrowWith 0 = .ok (.iconst 1, 1) := by decide +kernel
theorem d_Mod_narrowWith_1 : decode b_Mod_narrowWith 1 = .ok (.istore_n 2, 1) := by decide +kernel
theorem d_Mod_narrowWith_2 : decode b_Mod_narrowWith 2 = .ok (.iconst 0, 1) := by decide +kernel
theorem d_Mod_narrowWith_3 : decode b_Mod_narrowWith 3 = .ok (.istore_n 3, 1) := by decide +kernel
theorem d_Mod_narrowWith_4 : decode b_Mod_narrowWith 4 = .ok (.iload_n 3, 1) := by decide +kernel
theorem d_Mod_narrowWith_5 : decode b_Mod_narrowWith 5 = .ok (.aload_n 0, 1) := by decide +kernel
theorem d_Mod_narrowWith_6 : decode b_Mod_narrowWith 6 = .ok (.getfield 86, 3) := by decide +kernel
theorem d_Mod_narrowWith_9 : decode b_Mod_narrowWith 9 = .ok (.if_icmp .ge 33, 3) := by decide +kernel
theorem d_Mod_narrowWith_12 : decode b_Mod_narrowWith 12 = .ok (.aload_n 0, 1) := by decide +kernel
theorem d_Mod_narrowWith_13 : decode b_Mod_narrowWith 13 = .ok (.getfield 50, 3) := by decide +kernel
theorem d_Mod_narrowWith_16 : decode b_Mod_narrowWith 16 = .ok (.iload_n 3, 1) := by decide +kernel
theorem d_Mod_narrowWith_17 : decode b_Mod_narrowWith 17 = .ok (.aload_n 0, 1) := by decide +kernel
theorem d_Mod_narrowWith_18 : decode b_Mod_narrowWith 18 = .ok (.getfield 7, 3) := by decide +kernel
theorem d_Mod_narrowWith_21 : decode b_Mod_narrowWith 21 = .ok (.iload_n 3, 1) := by decide +kernel
theorem d_Mod_narrowWith_22 : decode b_Mod_narrowWith 22 = .ok (.iaload, 1) := by decide +kernel
theorem d_Mod_narrowWith_23 : decode b_Mod_narrowWith 23 = .ok (.iastore, 1) := by decide +kernel
theorem d_Mod_narrowWith_24 : decode b_Mod_narrowWith 24 = .ok (.aload_n 0, 1) := by decide +kernel
theorem d_Mod_narrowWith_25 : decode b_Mod_narrowWith 25 = .ok (.getfield 53, 3) := by decide +kernel
theorem d_Mod_narrowWith_28 : decode b_Mod_narrowWith 28 = .ok (.iload_n 3, 1) := by decide +kernel
theorem d_Mod_narrowWith_29 : decode b_Mod_narrowWith 29 = .ok (.aload_n 0, 1) := by decide +kernel
theorem d_Mod_narrowWith_30 : decode b_Mod_narrowWith 30 = .ok (.getfield 13, 3) := by decide +kernel
theorem d_Mod_narrowWith_33 : decode b_Mod_narrowWith 33 = .ok (.iload_n 3, 1) := by decide +kernel
theorem d_Mod_narrowWith_34 : decode b_Mod_narrowWith 34 = .ok (.iaload, 1) := by decide +kernel
theorem d_Mod_narrowWith_35 : decode b_Mod_narrowWith 35 = .ok (.iastore, 1) := by decide +kernel
theorem d_Mod_narrowWith_36 : decode b_Mod_narrowWith 36 = .ok (.iinc 3 1, 3) := by decide +kernel
theorem d_Mod_narrowWith_39 : decode b_Mod_narrowWith 39 = .ok (.goto (-35), 3) := by decide +kernel
theorem d_Mod_narrowWith_42 : decode b_Mod_narrowWith 42 = .ok (.iconst 0, 1) := by decide +kernel
theorem d_Mod_narrowWith_43 : decode b_Mod_narrowWith 43 = .ok (.istore_n 3, 1) := by decide +kernel
theorem d_Mod_narrowWith_44 : decode b_Mod_narrowWith 44 = .ok (.iload_n 3, 1) := by decide +kernel
theorem d_Mod_narrowWith_45 : decode b_Mod_narrowWith 45 = .ok (.aload_n 0, 1) := by decide +kernel
theorem d_Mod_narrowWith_46 : decode b_Mod_narrowWith 46 = .ok (.getfield 107, 3) := by decide +kernel
theorem d_Mod_narrowWith_49 : decode b_Mod_narrowWith 49 = .ok (.if_icmp .ge 57, 3) := by decide +kernel
theorem d_Mod_narrowWith_52 : decode b_Mod_narrowWith 52 = .ok (.iload_n 1, 1) := by decide +kernel
theorem d_Mod_narrowWith_53 : decode b_Mod_narrowWith 53 = .ok (.iload_n 3, 1) := by decide +kernel
theorem d_Mod_narrowWith_54 : decode b_Mod_narrowWith 54 = .ok (.invokestatic 113, 3) := by decide +kernel
theorem d_Mod_narrowWith_57 : decode b_Mod_narrowWith 57 = .ok (.ifCond .eq 43, 3) := by decide +kernel
theorem d_Mod_narrowWith_60 : decode b_Mod_narrowWith 60 = .ok (.aload_n 0, 1) := by decide +kernel
theorem d_Mod_narrowWith_61 : decode b_Mod_narrowWith 61 = .ok (.iconst 0, 1) := by decide +kernel
theorem d_Mod_narrowWith_62 : decode b_Mod_narrowWith 62 = .ok (.aload_n 0, 1) := by decide +kernel
theorem d_Mod_narrowWith_63 : decode b_Mod_narrowWith 63 = .ok (.getfield 41, 3) := by decide +kernel
theorem d_Mod_narrowWith_66 : decode b_Mod_narrowWith 66 = .ok (.iload_n 3, 1) := by decide +kernel
theorem d_Mod_narrowWith_67 : decode b_Mod_narrowWith 67 = .ok (.iaload, 1) := by decide +kernel
theorem d_Mod_narrowWith_68 : decode b_Mod_narrowWith 68 = .ok (.aload_n 0, 1) := by decide +kernel
theorem d_Mod_narrowWith_69 : decode b_Mod_narrowWith 69 = .ok (.getfield 44, 3) := by decide +kernel
theorem d_Mod_narrowWith_72 : decode b_Mod_narrowWith 72 = .ok (.iload_n 3, 1) := by decide +kernel
theorem d_Mod_narrowWith_73 : decode b_Mod_narrowWith 73 = .ok (.iaload, 1) := by decide +kernel
theorem d_Mod_narrowWith_74 : decode b_Mod_narrowWith 74 = .ok (.aload_n 0, 1) := by decide +kernel
theorem d_Mod_narrowWith_75 : decode b_Mod_narrowWith 75 = .ok (.getfield 47, 3) := by decide +kernel
theorem d_Mod_narrowWith_78 : decode b_Mod_narrowWith 78 = .ok (.iload_n 3, 1) := by decide +kernel
theorem d_Mod_narrowWith_79 : decode b_Mod_narrowWith 79 = .ok (.iaload, 1) := by decide +kernel
theorem d_Mod_narrowWith_80 : decode b_Mod_narrowWith 80 = .ok (.invokevirtual 160, 3) := by decide +kernel
theorem d_Mod_narrowWith_83 : decode b_Mod_narrowWith 83 = .ok (.istore 4, 2) := by decide +kernel
theorem d_Mod_narrowWith_85 : decode b_Mod_narrowWith 85 = .ok (.iload_n 2, 1) := by decide +kernel
theorem d_Mod_narrowWith_86 : decode b_Mod_narrowWith 86 = .ok (.ifCond .eq 12, 3) := by decide +kernel
theorem d_Mod_narrowWith_89 : decode b_Mod_narrowWith 89 = .ok (.iload 4, 2) := by decide +kernel
theorem d_Mod_narrowWith_91 : decode b_Mod_narrowWith 91 = .ok (.ifCond .eq 7, 3) := by decide +kernel
theorem d_Mod_narrowWith_94 : decode b_Mod_narrowWith 94 = .ok (.iconst 1, 1) := by decide +kernel
theorem d_Mod_narrowWith_95 : decode b_Mod_narrowWith 95 = .ok (.goto 4, 3) := by decide +kernel
theorem d_Mod_narrowWith_98 : decode b_Mod_narrowWith 98 = .ok (.iconst 0, 1) := by decide +kernel
theorem d_Mod_narrowWith_99 : decode b_Mod_narrowWith 99 = .ok (.istore_n 2, 1) := by decide +kernel
theorem d_Mod_narrowWith_100 : decode b_Mod_narrowWith 100 = .ok (.iinc 3 1, 3) := by decide +kernel
theorem d_Mod_narrowWith_103 : decode b_Mod_narrowWith 103 = .ok (.goto (-59), 3) := by decide +kernel
theorem d_Mod_narrowWith_106 : decode b_Mod_narrowWith 106 = .ok (.iload_n 2, 1) := by decide +kernel
theorem d_Mod_narrowWith_107 : decode b_Mod_narrowWith 107 = .ok (.ifCond .eq 15, 3) := by decide +kernel
theorem d_Mod_narrowWith_110 : decode b_Mod_narrowWith 110 = .ok (.aload_n 0, 1) := by decide +kernel
theorem d_Mod_narrowWith_111 : decode b_Mod_narrowWith 111 = .ok (.iconst 0, 1) := by decide +kernel
theorem d_Mod_narrowWith_112 : decode b_Mod_narrowWith 112 = .ok (.invokevirtual 205, 3) := by decide +kernel
theorem d_Mod_narrowWith_115 : decode b_Mod_narrowWith 115 = .ok (.ifCond .eq 7, 3) := by decide +kernel
theorem d_Mod_narrowWith_118 : decode b_Mod_narrowWith 118 = .ok (.iconst 1, 1) := by decide +kernel
theorem d_Mod_narrowWith_119 : decode b_Mod_narrowWith 119 = .ok (.goto 4, 3) := by decide +kernel
theorem d_Mod_narrowWith_122 : decode b_Mod_narrowWith 122 = .ok (.iconst 0, 1) := by decide +kernel
theorem d_Mod_narrowWith_123 : decode b_Mod_narrowWith 123 = .ok (.ireturn, 1) := by decide +kernel
set_option maxHeartbeats 4000000 in
set_option maxRecDepth 20000 in
theorem k_Mod_narrowWith (l : Launch) (D : va_G) (cA : Nat → ClassId) (adr : Nat → Nat) (hi : wI mN adr) (I : Nat → Int32) (F : Nat → Nat → Int32) (nn mm en mk : Nat) (xm : Int32) (ch : Bool) (hxm : xm.toInt = (mk : Int)) (hch : I 20 = bi ch) (hW : WR I F nn mm) (hE : WE F nn en) (hen : (I 13).toInt = (en : Int)) : Ct l y_Mod_narrowWith b_Mod_narrowWith 5 (some .boolean) 16 D cA [.ref (adr 0), .int xm] (fun H => MP D cA adr I F H) (fun r H => ∃ (I2 : Nat → Int32) (F2 : Nat → Nat → Int32) (q c2 : Bool), r = some (.int (bi q)) ∧ FrD 0 I I2 F F2 ∧ I2 20 = bi c2 ∧ (q = true → ∃ y, nw F nn mm en mk = some y ∧ Eqb nn (bl F2 0) (bh F2 0) y.1 y.2) ∧ (q = false → nw F nn mm en mk = none) ∧ MP D cA adr I2 F2 H) (wA mN adr) := by
  refine Ct.mk (by decide) (Nat.le_of_ble_eq_true rfl) ?_
  intro p e s m args below meth c Q H locs ls hx hb hr hml hlk hown hin hK hQ hS hP hl
  have hl : lv_has ls 5 [(0, .ref (adr 0)), (1, .int xm)] := hl
  have hown : s.vm.findClass "RangeSheetModel" = some m.cls := hown
  have hn1 : (I 1).toInt = (nn : Int) := hW.2.2.1
  have hn10 := hW.1
  have hm31 : mk < 2147483648 := by have := xm.toInt_lt; omega
  have hen12 := hE.1
  refine lv_iconst (v := 1) hx hb d_Mod_narrowWith_0 (by decide) ?_
  refine lv_istore_n (lv' := [(2, .int (1 : Int32)), (0, .ref (adr 0)), (1, .int xm)]) hx hb d_Mod_narrowWith_1 rfl hl (by decide) rfl (fun ls hl => ?_)
  refine lv_iconst (v := 0) hx hb d_Mod_narrowWith_2 (by decide) ?_
  refine lv_istore_n (lv' := [(3, .int (0 : Int32)), (2, .int (1 : Int32)), (0, .ref (adr 0)), (1, .int xm)]) hx hb d_Mod_narrowWith_3 rfl hl (by decide) rfl (fun ls hl => ?_)
  have L_1 : ∀ (n : Nat) (kx : Nat) (x3 : Int32) (F1 : Nat → Nat → Int32) (H : Heap) (locs : List Loc) (ls : Array Slot), (nn - kx) < n → (kx ≤ nn) → (x3.toInt = (kx : Int)) → (FrD 0 I I F F1) → (∀ j, j < kx → F1 18 j = F 2 j ∧ F1 19 j = F 3 j) → MP D cA adr I F1 H → va_S (wA mN adr) s.heap H locs → lv_has ls 5 [(0, .ref (adr 0)), (1, .int xm), (2, .int (bi true)), (3, .int x3)] → W p l e (rl 16) s m args below meth c H locs 0 0 Q (F0 m 4 ls []) := by
    intro n
    induction n with
    | zero => intro kx x3 F1 H locs ls hmu; exact absurd hmu (Nat.not_lt_zero _)
    | succ n ih_1 =>
      intro kx x3 F1 H locs ls hmu hkx h3 hFr hcp hP hS hl
      refine lv_iload_n hx hb d_Mod_narrowWith_4 rfl (lv_at hl 3 rfl) ?_
      refine lv_aload_n hx hb d_Mod_narrowWith_5 rfl (lv_at hl 0 rfl) ?_
      refine m_gi (v := (I 1)) hx hb hK hown hP 1 (by decide) t_738 rfl d_Mod_narrowWith_6 ?_
      refine b_icmp_ge (tgt := 42) hx hb d_Mod_narrowWith_9 (by decide) h3 hn1 (fun c_2 => ?_) (fun c_2 => ?_)
      · refine lv_iconst (v := 0) hx hb d_Mod_narrowWith_42 (by decide) ?_
        refine lv_istore_n (lv' := [(3, .int (0 : Int32)), (0, .ref (adr 0)), (1, .int xm), (2, .int (bi true))]) hx hb d_Mod_narrowWith_43 rfl hl (by decide) rfl (fun ls hl => ?_)
        have L_3 : ∀ (n : Nat) (ex : Nat) (x3 : Int32) (I1 : Nat → Int32) (F1 : Nat → Nat → Int32) (c1 : Bool) (fx : Bool) (H : Heap) (locs : List Loc) (ls : Array Slot), (en - ex) < n → (ex ≤ en) → (x3.toInt = (ex : Int)) → (FrD 0 I I1 F F1) → (I1 20 = bi c1) → (fx = (entB F mk ex).2) → (Eqb nn (bl F1 0) (bh F1 0) (entB F mk ex).1.1 (entB F mk ex).1.2) → MP D cA adr I1 F1 H → va_S (wA mN adr) s.heap H locs → lv_has ls 5 [(0, .ref (adr 0)), (1, .int xm), (2, .int (bi fx)), (3, .int x3)] → W p l e (rl 16) s m args below meth c H locs 0 0 Q (F0 m 44 ls []) := by
          intro n
          induction n with
          | zero => intro ex x3 I1 F1 c1 fx H locs ls hmu; exact absurd hmu (Nat.not_lt_zero _)
          | succ n ih_3 =>
            intro ex x3 I1 F1 c1 fx H locs ls hmu hex h3 hFr h20 hfx hEq hP hS hl
            refine lv_iload_n hx hb d_Mod_narrowWith_44 rfl (lv_at hl 3 rfl) ?_
            refine lv_aload_n hx hb d_Mod_narrowWith_45 rfl (lv_at hl 0 rfl) ?_
            refine m_gi (v := (I 13)) hx hb hK hown hP 13 (by decide) t_750 (hFr.1 13 (by omega)) d_Mod_narrowWith_46 ?_
            refine b_icmp_ge (tgt := 106) hx hb d_Mod_narrowWith_49 (by decide) h3 hen (fun c_4 => ?_) (fun c_4 => ?_)
            · have hxe : ex = en := by omega
              subst hxe
              refine lv_iload_n hx hb d_Mod_narrowWith_106 rfl (lv_at hl 2 rfl) ?_
              refine b_bool_eq (tgt := 122) hx hb d_Mod_narrowWith_107 (by decide) (fun c_5 => ?_) (fun c_5 => ?_)
              · refine lv_iconst (v := 0) hx hb d_Mod_narrowWith_122 (by decide) ?_
                refine W.eq (g2 := F0 m 123 ls [.int (bi false)]) rfl ?_
                refine e_z hx hb hr hlk hQ hS d_Mod_narrowWith_123 ?_
                refine ⟨I1, F1, false, c1, rfl, hFr, h20, fun h => absurd h (by decide), fun _ => ?_, hP⟩
                unfold nw; rw [if_neg (by rw [← hfx]; rw [c_5]; decide)]
              · have hft : (entB F mk ex).2 = true := by rw [← hfx]; exact c_5
                have hEr := entB_rg (mk := mk) hE ex (Nat.le_refl _)
                refine lv_aload_n hx hb d_Mod_narrowWith_110 rfl (lv_at hl 0 rfl) ?_
                refine lv_iconst (v := 0) hx hb d_Mod_narrowWith_111 (by decide) ?_
                refine x_V (As := [.int (0 : Int32)]) (rest := []) hx hb hml hown hK (k_Mod_settle l D cA adr hi I1 F1 0 nn mm (0 : Int32) (by omega) kc_0 (hW.fr (hFr.1 1 (by omega)) (hFr.1 4 (by omega)) hFr.ft) (fun j hj => by have a1 := hEr.2 hft j hj; have a2 := hEq j hj; omega) (fun j hj => by have a1 := hEr.1 j hj; have a2 := hEq j hj; omega)) t_920 t_4 t_917 t_919 ts_21 yk_Mod_settle ⟨Nat.le_of_ble_eq_true rfl, Nat.le_of_ble_eq_true rfl⟩ (m_rec hK hP) hP rfl hl.1 rfl (Nat.le_of_ble_eq_true rfl) d_Mod_narrowWith_112 ⟨Nat.le_of_ble_eq_true rfl, Nat.le_of_ble_eq_true rfl⟩ hS (fun q h => h) (fun r H locs hq _ hS => ?_)
                obtain ⟨I_6, F_6, q_6, c_6, rfl, hFr_6, h20_6, hT_6, hF_6, hP⟩ := hq
                refine W.eq (g2 := F0 m 115 ls [.int (bi q_6)]) rfl ?_
                refine b_bool_eq (tgt := 122) hx hb d_Mod_narrowWith_115 (by decide) (fun c_7 => ?_) (fun c_7 => ?_)
                · refine lv_iconst (v := 0) hx hb d_Mod_narrowWith_122 (by decide) ?_
                  refine W.eq (g2 := F0 m 123 ls [.int (bi false)]) rfl ?_
                  refine e_z hx hb hr hlk hQ hS d_Mod_narrowWith_123 ?_
                  refine ⟨I_6, F_6, false, c_6, rfl, hFr.tr hFr_6, h20_6, fun h => ?_, fun h => ?_, hP⟩
                  · cases h
                  · have g1 := hF_6 c_7
                    rw [hFr.ft.fa] at g1
                    unfold nw; rw [if_pos hft]; exact stl_F hEq g1
                · refine lv_iconst (v := 1) hx hb d_Mod_narrowWith_118 (by decide) ?_
                  refine lv_goto (tgt := 123) hx hb d_Mod_narrowWith_119 (by decide) ?_
                  refine W.eq (g2 := F0 m 123 ls [.int (bi true)]) rfl ?_
                  refine e_z hx hb hr hlk hQ hS d_Mod_narrowWith_123 ?_
                  refine ⟨I_6, F_6, true, c_6, rfl, hFr.tr hFr_6, h20_6, fun h => ?_, fun h => ?_, hP⟩
                  · obtain ⟨vl, vh, e1, g1⟩ := hT_6 c_7
                    rw [hFr.ft.fa] at g1
                    unfold nw; rw [if_pos hft]; exact stl_T hEq g1 e1
                  · cases h
            · refine lv_iload_n hx hb d_Mod_narrowWith_52 rfl (lv_at hl 1 rfl) ?_
              refine lv_iload_n hx hb d_Mod_narrowWith_53 rfl (lv_at hl 3 rfl) ?_
              refine r_Mod_has hx hb hml hown hK hl.1 hS ⟨Nat.le_of_ble_eq_true rfl, Nat.le_of_ble_eq_true rfl⟩ ⟨Nat.le_of_ble_eq_true rfl, Nat.le_of_ble_eq_true rfl⟩ hxm h3 (by omega) (by omega) d_Mod_narrowWith_54 (Nat.le_of_ble_eq_true rfl) (fun locs hS => ?_)
              refine b_bool_eq (tgt := 100) hx hb d_Mod_narrowWith_57 (by decide) (fun c_8 => ?_) (fun c_8 => ?_)
              · refine x_iinc (k := 3) (lv' := fun v_ => [(3, .int v_), (0, .ref (adr 0)), (1, .int xm), (2, .int (bi fx))]) hx hb d_Mod_narrowWith_100 hl rfl h3 (by decide) (by omega) (by decide) (fun v_ => rfl) (fun z_9 tz_9 ls hl => ?_)
                refine lv_goto (tgt := 44) hx hb d_Mod_narrowWith_103 (by decide) ?_
                have hb0 : mk.testBit ex = false := by have := c_8; rw [hasN_nat] at this; exact this
                have ex1 : entB F mk (ex + 1) = entB F mk ex := by rw [entB, if_neg (by rw [hb0]; decide)]
                exact ih_3 (ex + 1) z_9 I1 F1 c1 fx _ _ _ (by omega) (by omega) (by omega) hFr h20 (hfx.trans (by rw [ex1])) (by rw [ex1]; exact hEq) hP hS (lv_sub hl [1, 2, 3, 0] rfl)
              · have hb1 : mk.testBit ex = true := by have := c_8; rw [hasN_nat] at this; exact this
                have hEe := hE.2.2 ex (by omega)
                have f14 := hFr.2.1 14 (by decide) (by decide) (by decide); have f15 := hFr.2.1 15 (by decide) (by decide) (by decide); have f16 := hFr.2.1 16 (by decide) (by decide) (by decide)
                have hc14 : (F1 14 ex).toInt = ((F 14 ex).toInt.toNat : Int) := by rw [f14]; omega
                refine lv_aload_n hx hb d_Mod_narrowWith_60 rfl (lv_at hl 0 rfl) ?_
                refine lv_iconst (v := 0) hx hb d_Mod_narrowWith_61 (by decide) ?_
                refine lv_aload_n hx hb d_Mod_narrowWith_62 rfl (lv_at hl 0 rfl) ?_
                refine m_gr hx hb hK hown hP 14 (by decide) t_751 d_Mod_narrowWith_63 ?_
                refine lv_iload_n hx hb d_Mod_narrowWith_66 rfl (lv_at hl 3 rfl) ?_
                refine m_ld hx hb hK hP 14 (by decide) (ex) h3 (by omega) (show ex < 12 by omega) d_Mod_narrowWith_67 (fun z_10 ez_10 => ?_)
                subst ez_10
                refine lv_aload_n hx hb d_Mod_narrowWith_68 rfl (lv_at hl 0 rfl) ?_
                refine m_gr hx hb hK hown hP 15 (by decide) t_752 d_Mod_narrowWith_69 ?_
                refine lv_iload_n hx hb d_Mod_narrowWith_72 rfl (lv_at hl 3 rfl) ?_
                refine m_ld hx hb hK hP 15 (by decide) (ex) h3 (by omega) (show ex < 12 by omega) d_Mod_narrowWith_73 (fun z_11 ez_11 => ?_)
                subst ez_11
                refine lv_aload_n hx hb d_Mod_narrowWith_74 rfl (lv_at hl 0 rfl) ?_
                refine m_gr hx hb hK hown hP 16 (by decide) t_753 d_Mod_narrowWith_75 ?_
                refine lv_iload_n hx hb d_Mod_narrowWith_78 rfl (lv_at hl 3 rfl) ?_
                refine m_ld hx hb hK hP 16 (by decide) (ex) h3 (by omega) (show ex < 12 by omega) d_Mod_narrowWith_79 (fun z_12 ez_12 => ?_)
                subst ez_12
                refine x_V (As := [.int (0 : Int32), .int (F1 14 (ex)), .int (F1 15 (ex)), .int (F1 16 (ex))]) (rest := []) hx hb hml hown hK (k_Mod_cut l D cA adr hi I1 F1 0 (F 14 ex).toInt.toNat (0 : Int32) (F1 14 (ex)) (F1 15 (ex)) (F1 16 (ex)) c1 kc_0 hc14 (by omega) (by omega) h20) t_910 t_4 t_907 t_909 ts_20 yk_Mod_cut ⟨Nat.le_of_ble_eq_true rfl, Nat.le_of_ble_eq_true rfl⟩ (m_rec hK hP) hP rfl hl.1 rfl (Nat.le_of_ble_eq_true rfl) d_Mod_narrowWith_80 ⟨Nat.le_of_ble_eq_true rfl, Nat.le_of_ble_eq_true rfl⟩ hS (fun q h => h) (fun r H locs hq _ hS => ?_)
                obtain ⟨lo_13, hh_13, hlo_13, hhh_13, rfl, hP⟩ := hq
                obtain ⟨ch_13, hch_13⟩ : ∃ q : Bool, q = (c1 || decide ((F1 18 (10 * 0 + (F 14 ex).toInt.toNat)).toInt < (F1 15 (ex)).toInt ∨ (F1 16 (ex)).toInt < (F1 19 (10 * 0 + (F 14 ex).toInt.toNat)).toInt)) := ⟨_, rfl⟩
                rw [← hch_13] at hP
                refine W.eq (g2 := F0 m 83 ls [.int (bi (decide (lo_13.toInt ≤ hh_13.toInt)))]) rfl ?_
                have hCb := cutF_b (n := nn) (d := 0) hn10 hlo_13 hhh_13
                rw [f15, f16] at hCb
                have hEq9 := cutB_b (k := (F 14 ex).toInt.toNat) (by omega) hEq hCb
                have ex1 := entB_pos (F := F) hb1
                have hk9 := hEq9 (F 14 ex).toInt.toNat (by omega); rw [cutF_l, cutF_h] at hk9
                refine lv_istore (lv' := [(4, .int (bi (decide (lo_13.toInt ≤ hh_13.toInt)))), (0, .ref (adr 0)), (1, .int xm), (2, .int (bi fx)), (3, .int x3)]) hx hb d_Mod_narrowWith_83 hl (by decide) rfl (fun ls hl => ?_)
                refine lv_iload_n hx hb d_Mod_narrowWith_85 rfl (lv_at hl 3 rfl) ?_
                have K_214 : ∀ (b_214_0 : Bool), (b_214_0 = true ↔ (fx = true ∧ (decide (lo_13.toInt ≤ hh_13.toInt)) = true)) → W p l e (rl 16) s m args below meth c H locs 0 0 Q (F0 m 99 ls [.int (bi b_214_0)]) := by
                  intro b_214_0 hb_214_0
                  have hfx9 : b_214_0 = (entB F mk (ex + 1)).2 := by rw [ex1, Bool.eq_iff_iff, hb_214_0, Bool.and_eq_true, hfx, decide_eq_true_eq, decide_eq_true_eq, hk9.1, hk9.2]
                  refine lv_istore_n (lv' := [(2, .int (bi b_214_0)), (4, .int (bi (decide (lo_13.toInt ≤ hh_13.toInt)))), (0, .ref (adr 0)), (1, .int xm), (3, .int x3)]) hx hb d_Mod_narrowWith_99 rfl hl (by decide) rfl (fun ls hl => ?_)
                  refine x_iinc (k := 4) (lv' := fun v_ => [(3, .int v_), (2, .int (bi b_214_0)), (4, .int (bi (decide (lo_13.toInt ≤ hh_13.toInt)))), (0, .ref (adr 0)), (1, .int xm)]) hx hb d_Mod_narrowWith_100 hl rfl h3 (by decide) (by omega) (by decide) (fun v_ => rfl) (fun z_215 tz_215 ls hl => ?_)
                  refine lv_goto (tgt := 44) hx hb d_Mod_narrowWith_103 (by decide) ?_
                  exact ih_3 (ex + 1) z_215 _ _ ch_13 b_214_0 _ _ _ (by omega) (by omega) (by omega) (hFr.tr (FrD.cut (by omega))) rfl hfx9 (by rw [ex1]; exact hEq9) hP hS (lv_sub hl [3, 4, 1, 0] rfl)
                refine b_bool_eq (tgt := 98) hx hb d_Mod_narrowWith_86 (by decide) (fun c_216 => ?_) (fun c_216 => ?_)
                · refine lv_iconst (v := 0) hx hb d_Mod_narrowWith_98 (by decide) ?_
                  exact K_214 false ⟨fun h => absurd h (by decide), fun h => absurd h (by first | omega | (simp [c_216]; done) | (simp [c_216]; omega) | (simp only [decide_eq_true_eq, decide_eq_false_iff_not]; omega))⟩
                · refine lv_iload hx hb d_Mod_narrowWith_89 (lv_at hl 0 rfl) ?_
                  refine b_bool_eq (tgt := 98) hx hb d_Mod_narrowWith_91 (by decide) (fun c_217 => ?_) (fun c_217 => ?_)
                  · refine lv_iconst (v := 0) hx hb d_Mod_narrowWith_98 (by decide) ?_
                    exact K_214 false ⟨fun h => absurd h (by decide), fun h => absurd h (by first | omega | (simp [c_216, c_217]; done) | (simp [c_216, c_217]; omega) | (simp only [decide_eq_true_eq, decide_eq_false_iff_not]; have hc_217 := of_decide_eq_false c_217; omega))⟩
                  · refine lv_iconst (v := 1) hx hb d_Mod_narrowWith_94 (by decide) ?_
                    refine lv_goto (tgt := 99) hx hb d_Mod_narrowWith_95 (by decide) ?_
                    exact K_214 true ⟨fun _ => by first | omega | (simp [c_216, c_217]; done) | (simp [c_216, c_217]; omega) | (simp only [decide_eq_true_eq, decide_eq_false_iff_not]; have hc_217 := of_decide_eq_true c_217; omega), fun _ => rfl⟩
        exact L_3 (_ + 1) 0 (0 : Int32) I F1 ch true _ _ _ (Nat.lt_succ_self _) (by omega) kc_0 hFr hch rfl (fun j hj => by have := hcp j (by omega); rw [bl_0, bh_0, this.1, this.2]; exact ⟨rfl, rfl⟩) hP hS (lv_sub hl [1, 2, 3, 0] rfl)
      · refine lv_aload_n hx hb d_Mod_narrowWith_12 rfl (lv_at hl 0 rfl) ?_
        refine m_gr hx hb hK hown hP 18 (by decide) t_755 d_Mod_narrowWith_13 ?_
        refine lv_iload_n hx hb d_Mod_narrowWith_16 rfl (lv_at hl 3 rfl) ?_
        refine lv_aload_n hx hb d_Mod_narrowWith_17 rfl (lv_at hl 0 rfl) ?_
        refine m_gr hx hb hK hown hP 2 (by decide) t_739 d_Mod_narrowWith_18 ?_
        refine lv_iload_n hx hb d_Mod_narrowWith_21 rfl (lv_at hl 3 rfl) ?_
        refine m_ld hx hb hK hP 2 (by decide) (kx) h3 (by omega) (show kx < 10 by omega) d_Mod_narrowWith_22 (fun z_218 ez_218 => ?_)
        subst ez_218
        refine m_st hx hb hK hi hP hS wA_mem 18 (by decide) (kx) h3 (by omega) (show kx < 120 by omega) d_Mod_narrowWith_23 (fun H locs hP hS => ?_)
        refine lv_aload_n hx hb d_Mod_narrowWith_24 rfl (lv_at hl 0 rfl) ?_
        refine m_gr hx hb hK hown hP 19 (by decide) t_756 d_Mod_narrowWith_25 ?_
        refine lv_iload_n hx hb d_Mod_narrowWith_28 rfl (lv_at hl 3 rfl) ?_
        refine lv_aload_n hx hb d_Mod_narrowWith_29 rfl (lv_at hl 0 rfl) ?_
        refine m_gr hx hb hK hown hP 3 (by decide) t_740 d_Mod_narrowWith_30 ?_
        refine lv_iload_n hx hb d_Mod_narrowWith_33 rfl (lv_at hl 3 rfl) ?_
        refine m_ld hx hb hK hP 3 (by decide) (kx) h3 (by omega) (show kx < 10 by omega) d_Mod_narrowWith_34 (fun z_219 ez_219 => ?_)
        have ez_219 : z_219 = F1 3 (kx) := ez_219
        subst ez_219
        refine m_st hx hb hK hi hP hS wA_mem 19 (by decide) (kx) h3 (by omega) (show kx < 120 by omega) d_Mod_narrowWith_35 (fun H locs hP hS => ?_)
        refine x_iinc (k := 3) (lv' := fun v_ => [(3, .int v_), (0, .ref (adr 0)), (1, .int xm), (2, .int (bi true))]) hx hb d_Mod_narrowWith_36 hl rfl h3 (by decide) (by omega) (by decide) (fun v_ => rfl) (fun z_220 tz_220 ls hl => ?_)
        refine lv_goto (tgt := 4) hx hb d_Mod_narrowWith_39 (by decide) ?_
        exact ih_1 (kx + 1) z_220 (va_up (va_up F1 18 (upd (F1 18) (kx) (F1 2 (kx)))) 19 (upd ((va_up F1 18 (upd (F1 18) (kx) (F1 2 (kx)))) 19) (kx) (F1 3 (kx)))) _ _ _ (by omega) (by omega) (by omega) (cp_fr hFr (by omega) (by omega)) (fun j hj => by rcases (by omega : j < kx ∨ j = kx) with z | z; (have z2 : j ≠ kx := by omega); (have := hcp j z; simp [va_up, upd, z2, this]); (subst z; have f2 := hFr.2.1 2 (by decide) (by decide) (by decide); have f3 := hFr.2.1 3 (by decide) (by decide) (by decide); simp [va_up, upd, f2, f3])) hP hS (lv_sub hl [1, 2, 3, 0] rfl)
  exact L_1 (_ + 1) 0 (0 : Int32) F _ _ _ (Nat.lt_succ_self _) (by omega) kc_0 FrD.rf (fun j hj => absurd hj (by omega)) hP hS (lv_sub hl [2, 3, 1, 0] rfl)
