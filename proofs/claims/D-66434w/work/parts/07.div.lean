/-! division -/
/-- floor of x / y -/
def fl (x y : Int) : Int := if 0 < y then x / y else (-x) / (-y)
theorem tq_bd (a b : Int) (hb : b ≠ 0) : (0 ≤ a → 0 ≤ a.tdiv b * b ∧ a.tdiv b * b ≤ a) ∧ (a < 0 → a ≤ a.tdiv b * b ∧ a.tdiv b * b ≤ 0) := by
  have pos : ∀ a : Int, 0 ≤ a → 0 ≤ a.tdiv b * b ∧ a.tdiv b * b ≤ a := by
    intro a ha
    rw [Int.tdiv_eq_ediv_of_nonneg ha]
    refine ⟨?_, Int.ediv_mul_le a hb⟩
    rcases Int.lt_or_gt_of_ne hb with h | h
    · have h1 : a / b ≤ 0 := by
        have h2 : a / b = -(a / (-b)) := by rw [Int.ediv_neg, Int.neg_neg]
        have h3 : 0 ≤ a / (-b) := Int.ediv_nonneg ha (by omega)
        omega
      exact Int.mul_nonneg_of_nonpos_of_nonpos h1 (by omega)
    · exact Int.mul_nonneg (Int.ediv_nonneg ha (by omega)) (by omega)
  refine ⟨pos a, fun ha => ?_⟩
  have h1 := pos (-a) (by omega)
  rw [Int.neg_tdiv, Int.neg_mul] at h1
  omega
theorem tq_abs (a b : Int) : (0 ≤ a → -a ≤ a.tdiv b ∧ a.tdiv b ≤ a) ∧ (a < 0 → a ≤ a.tdiv b ∧ a.tdiv b ≤ -a) := by
  have := Int.natAbs_tdiv_le_natAbs a b
  omega
theorem fl_pos {x y : Int} (hy : 0 < y) : fl x y * y ≤ x ∧ x < fl x y * y + y := by
  unfold fl
  rw [if_pos hy]
  have h1 := Int.ediv_mul_le x (Int.ne_of_gt hy)
  have h2 := Int.lt_ediv_add_one_mul_self x hy
  rw [Int.add_mul, Int.one_mul] at h2
  exact ⟨h1, h2⟩
theorem fl_neg {x y : Int} (hy : y < 0) : x ≤ fl x y * y ∧ fl x y * y + y < x := by
  unfold fl
  rw [if_neg (by omega)]
  have h1 := Int.ediv_mul_le (-x) (b := -y) (by omega)
  have h2 := Int.lt_ediv_add_one_mul_self (-x) (b := -y) (by omega)
  rw [Int.add_mul, Int.one_mul] at h2
  rw [Int.mul_neg] at h1 h2
  omega
/-- the floor is the only number like that -/
theorem fl_uniq {x y q : Int} (h : (0 < y ∧ q * y ≤ x ∧ x < q * y + y) ∨ (y < 0 ∧ x ≤ q * y ∧ q * y + y < x)) : fl x y = q := by
  have key : ∀ (y a b x : Int), 0 < y → a * y ≤ x → x < a * y + y → b * y ≤ x → x < b * y + y → a ≤ b := by
    intro y a b x hy h1 h2 h3 h4
    apply Int.le_of_lt_add_one
    have : a * y < (b + 1) * y := by rw [Int.add_mul, Int.one_mul]; omega
    exact Int.lt_of_mul_lt_mul_right this (by omega)
  rcases h with ⟨hy, h1, h2⟩ | ⟨hy, h1, h2⟩
  · obtain ⟨g1, g2⟩ := fl_pos (x := x) hy
    have a1 := key y _ _ x hy g1 g2 h1 h2
    have a2 := key y _ _ x hy h1 h2 g1 g2
    omega
  · obtain ⟨g1, g2⟩ := fl_neg (x := x) hy
    have e1 : fl x y * -y = -(fl x y * y) := Int.mul_neg ..
    have e2 : q * -y = -(q * y) := Int.mul_neg ..
    have a1 := key (-y) (fl x y) q (-x) (by omega) (by omega) (by omega) (by omega) (by omega)
    have a2 := key (-y) q (fl x y) (-x) (by omega) (by omega) (by omega) (by omega) (by omega)
    omega
theorem tq_rem (a b : Int) (hb : b ≠ 0) : (0 ≤ a → 0 ≤ a - a.tdiv b * b) ∧ (a < 0 → a - a.tdiv b * b ≤ 0) ∧ (0 < b → -b < a - a.tdiv b * b ∧ a - a.tdiv b * b < b) ∧ (b < 0 → b < a - a.tdiv b * b ∧ a - a.tdiv b * b < -b) := by
  have pos : ∀ a b : Int, 0 ≤ a → b ≠ 0 → 0 ≤ a - a.tdiv b * b ∧ (0 < b → a - a.tdiv b * b < b) ∧ (b < 0 → a - a.tdiv b * b < -b) := by
    intro a b ha hb
    rw [Int.tdiv_eq_ediv_of_nonneg ha]
    have e : a - a / b * b = a % b := by rw [Int.emod_def, Int.mul_comm]
    rw [e]
    refine ⟨Int.emod_nonneg a hb, fun h => Int.emod_lt_of_pos a h, fun h => ?_⟩
    have := Int.emod_lt_of_pos a (b := -b) (by omega)
    rwa [Int.emod_neg] at this
  rcases (by omega : a < 0 ∨ 0 ≤ a) with ha | ha
  · have h := pos (-a) b (by omega) hb
    rw [Int.neg_tdiv, Int.neg_mul] at h
    omega
  · have h := pos a b ha hb
    omega
theorem fl_t (x y : Int) (hy : y ≠ 0) : (x - x.tdiv y * y = 0 → fl x y = x.tdiv y) ∧ (¬ x - x.tdiv y * y = 0 → (x < 0 ∧ 0 < y ∨ 0 ≤ x ∧ y < 0) → fl x y = x.tdiv y - 1) ∧ (¬ x - x.tdiv y * y = 0 → (x < 0 ∧ y < 0 ∨ 0 ≤ x ∧ 0 < y) → fl x y = x.tdiv y) := by
  have h := tq_rem x y hy
  have e : (x.tdiv y - 1) * y = x.tdiv y * y - y := by rw [Int.sub_mul, Int.one_mul]
  refine ⟨fun h0 => fl_uniq ?_, fun h0 h1 => fl_uniq ?_, fun h0 h1 => fl_uniq ?_⟩
  · omega
  · rw [e]; omega
  · omega
section DR
variable {p : Program} {l : Launch} {e : Env} {R : Room} {s : State} {m : MethodId} {args : Array Value} {below : List Frame} {meth : Method} {c : Code} {H : Heap} {locs : List Loc} {cells slots : Nat} {Q : State → Prop}
variable {cc : ByteArray} {pc : Nat} {ls : Array Slot} {rest : List Value}
theorem i_div {x y : Int32} {a b : Int} (hx : x.toInt = a) (hy : y.toInt = b) (hr : -2147483648 < a) : (x / y).toInt = a.tdiv b := by
  rw [Int32.toInt_div_of_ne_left x y (fun h => by rw [h] at hx; have : Int32.minValue.toInt = -2147483648 := by decide
                                                  omega), hx, hy]
theorem x_div (hexec : p.tables.exec = Jvm.exec) (hb : c.code = cc) {x y : Int32} {a b : Int} (hdg : decode cc pc = .ok (.idiv, 1)) (hx : x.toInt = a) (hy : y.toInt = b) (hne : b ≠ 0) (hr : -2147483648 < a)
    (k : ∀ z : Int32, z.toInt = a.tdiv b → W p l e R s m args below meth c H locs cells slots Q (F0 m (pc + 1) ls (.int z :: rest))) : W p l e R s m args below meth c H locs cells slots Q (F0 m pc ls (.int y :: .int x :: rest)) :=
  lv_idiv hexec hb hdg (fun h => hne (by rw [← hy, h]; decide)) (k _ (i_div hx hy hr))
theorem x_rem (hexec : p.tables.exec = Jvm.exec) (hb : c.code = cc) {x y : Int32} {a b : Int} (hdg : decode cc pc = .ok (.irem, 1)) (hx : x.toInt = a) (hy : y.toInt = b) (hne : b ≠ 0) (hr : -2147483648 < a)
    (k : ∀ z : Int32, z.toInt = a - a.tdiv b * b → W p l e R s m args below meth c H locs cells slots Q (F0 m (pc + 1) ls (.int z :: rest))) : W p l e R s m args below meth c H locs cells slots Q (F0 m pc ls (.int y :: .int x :: rest)) := by
  refine lv_irem hexec hb hdg (fun h => hne (by rw [← hy, h]; decide)) (k _ ?_)
  have h1 := i_div hx hy hr
  have hbd := tq_bd a b hne
  have hrg := i_rng x
  have h2 := i_mul h1 hy (by omega) (by omega)
  exact i_sub hx h2 (by omega) (by omega)
end DR
def cbl (x f t fc tc : Int) : Bool := decide ((fc ≤ x ∧ x ≤ tc ∧ x ≤ t) ∨ max f fc ≤ min (min t tc) (x - 1))
def cbg (x f t fc tc : Int) : Bool := decide ((fc ≤ x ∧ x ≤ tc ∧ f ≤ x) ∨ max (max f fc) (x + 1) ≤ min t tc)
/-- what the third cell is by values of the two others (kinds 0 .. 4; 6 is 'at least') -/
def thirdI (k x y : Int) : Int := if k = 0 then x + y else if k = 1 then x * y else if k = 2 then (if y = 0 then 40000 else fl x y) else if k = 3 then min x y else if k = 4 then max x y else (if x < 1 then -400 else y)
theorem d_Mod_divided_0 : decode b_Mod_divided 0 = .ok (.iload_n 0, 1) := by decide +kernel
theorem d_Mod_divided_1 : decode b_Mod_divided 1 = .ok (.iload_n 1, 1) := by decide +kernel
theorem d_Mod_divided_2 : decode b_Mod_divided 2 = .ok (.idiv, 1) := by decide +kernel
theorem d_Mod_divided_3 : decode b_Mod_divided 3 = .ok (.istore_n 2, 1) := by decide +kernel
theorem d_Mod_divided_4 : decode b_Mod_divided 4 = .ok (.iload_n 0, 1) := by decide +kernel
theorem d_Mod_divided_5 : decode b_Mod_divided 5 = .ok (.iload_n 1, 1) := by decide +kernel
theorem d_Mod_divided_6 : decode b_Mod_divided 6 = .ok (.irem, 1) := by decide +kernel
theorem d_Mod_divided_7 : decode b_Mod_divided 7 = .ok (.ifCond .eq 30, 3) := by decide +kernel
theorem d_Mod_divided_10 : decode b_Mod_divided 10 = .ok (.iload_n 0, 1) := by decide +kernel
theorem d_Mod_divided_11 : decode b_Mod_divided 11 = .ok (.ifCond .ge 7, 3) := by decide +kernel
theorem d_Mod_divided_14 : decode b_Mod_divided 14 = .ok (.iconst 1, 1) := by decide +kernel
theorem d_Mod_divided_15 : decode b_Mod_divided 15 = .ok (.goto 4, 3) := by decide +kernel
theorem d_Mod_divided_18 : decode b_Mod_divided 18 = .ok (.iconst 0, 1) := by decide +kernel
theorem d_Mod_divided_19 : decode b_Mod_divided 19 = .ok (.iload_n 1, 1) := by decide +kernel
theorem d_Mod_divided_20 : decode b_Mod_divided 20 = .ok (.ifCond .ge 7, 3) := by decide +kernel
theorem d_Mod_divided_23 : decode b_Mod_divided 23 = .ok (.iconst 1, 1) := by decide +kernel
theorem d_Mod_divided_24 : decode b_Mod_divided 24 = .ok (.goto 4, 3) := by decide +kernel
theorem d_Mod_divided_27 : decode b_Mod_divided 27 = .ok (.iconst 0, 1) := by decide +kernel
theorem d_Mod_divided_28 : decode b_Mod_divided 28 = .ok (.if_icmp .eq 9, 3) := by decide +kernel
theorem d_Mod_divided_31 : decode b_Mod_divided 31 = .ok (.iload_n 2, 1) := by decide +kernel
theorem d_Mod_divided_32 : decode b_Mod_divided 32 = .ok (.iconst 1, 1) := by decide +kernel
theorem d_Mod_divided_33 : decode b_Mod_divided 33 = .ok (.isub, 1) := by decide +kernel
theorem d_Mod_divided_34 : decode b_Mod_divided 34 = .ok (.goto 4, 3) := by decide +kernel
theorem d_Mod_divided_37 : decode b_Mod_divided 37 = .ok (.iload_n 2, 1) := by decide +kernel
theorem d_Mod_divided_38 : decode b_Mod_divided 38 = .ok (.ireturn, 1) := by decide +kernel
set_option maxHeartbeats 4000000 in
theorem k_Mod_divided (l : Launch) (D : va_G) (cA : Nat → ClassId) (H0 : Heap) (x : Int32) (y : Int32) (h0 : y.toInt ≠ 0) (h1 : -1000 ≤ x.toInt ∧ x.toInt ≤ 1000) : Ct l y_Mod_divided b_Mod_divided 3 (some .int) 1 D cA [.int x, .int y] (fun H => H = H0) (fun r H => H = H0 ∧ ∃ z : Int32, r = some (.int z) ∧ z.toInt = fl x.toInt y.toInt) (fun _ => False) := by
  refine Ct.mk (by decide) (Nat.le_of_ble_eq_true rfl) ?_
  intro p e s m args below meth c Q H locs ls hx hb hr hml hlk hown hin hK hQ hS hP hl
  have hl : lv_has ls 3 [(0, .int x), (1, .int y)] := hl
  have hq := tq_abs x.toInt y.toInt
  refine lv_iload_n hx hb d_Mod_divided_0 rfl (lv_at hl 0 rfl) ?_
  refine lv_iload_n hx hb d_Mod_divided_1 rfl (lv_at hl 1 rfl) ?_
  refine x_div hx hb d_Mod_divided_2 rfl rfl (by omega) (by omega) (fun z_1 tz_1 => ?_)
  refine lv_istore_n (lv' := [(2, .int z_1), (0, .int x), (1, .int y)]) hx hb d_Mod_divided_3 rfl hl (by decide) rfl (fun ls hl => ?_)
  refine lv_iload_n hx hb d_Mod_divided_4 rfl (lv_at hl 1 rfl) ?_
  refine lv_iload_n hx hb d_Mod_divided_5 rfl (lv_at hl 2 rfl) ?_
  refine x_rem hx hb d_Mod_divided_6 rfl rfl (by omega) (by omega) (fun z_2 tz_2 => ?_)
  have K_203 : ∀ (z_203_0 : Int32), z_203_0.toInt = (if (x.toInt - x.toInt.tdiv y.toInt * y.toInt) = 0 then (x.toInt.tdiv y.toInt) else (if 0 ≤ x.toInt then (if 0 ≤ y.toInt then (if 0 = 0 then (x.toInt.tdiv y.toInt) else ((x.toInt.tdiv y.toInt) - 1)) else (if 0 = 1 then (x.toInt.tdiv y.toInt) else ((x.toInt.tdiv y.toInt) - 1))) else (if 0 ≤ y.toInt then (if 1 = 0 then (x.toInt.tdiv y.toInt) else ((x.toInt.tdiv y.toInt) - 1)) else (if 1 = 1 then (x.toInt.tdiv y.toInt) else ((x.toInt.tdiv y.toInt) - 1))))) → W p l e (rl 1) s m args below meth c H locs 0 0 Q (F0 m 38 ls [.int z_203_0]) := by
    intro z_203_0 hz_203_0
    refine e_i hx hb hr hlk hQ hS d_Mod_divided_38 ?_
    have hf := fl_t x.toInt y.toInt h0
    exact ⟨hP, _, rfl, by omega⟩
  refine b_if_eq (tgt := 37) hx hb d_Mod_divided_7 (by decide) tz_2 (fun c_204 => ?_) (fun c_204 => ?_)
  · refine lv_iload_n hx hb d_Mod_divided_37 rfl (lv_at hl 0 rfl) ?_
    exact K_203 z_1 (by omega)
  · refine lv_iload_n hx hb d_Mod_divided_10 rfl (lv_at hl 1 rfl) ?_
    refine b_if_ge (tgt := 18) hx hb d_Mod_divided_11 (by decide) rfl (fun c_205 => ?_) (fun c_205 => ?_)
    · refine lv_iconst (v := 0) hx hb d_Mod_divided_18 (by decide) ?_
      refine lv_iload_n hx hb d_Mod_divided_19 rfl (lv_at hl 2 rfl) ?_
      refine b_if_ge (tgt := 27) hx hb d_Mod_divided_20 (by decide) rfl (fun c_206 => ?_) (fun c_206 => ?_)
      · refine lv_iconst (v := 0) hx hb d_Mod_divided_27 (by decide) ?_
        refine b_icmp_eq (tgt := 37) hx hb d_Mod_divided_28 (by decide) kc_0 kc_0 (fun c_207 => ?_) (fun c_207 => ?_)
        · refine lv_iload_n hx hb d_Mod_divided_37 rfl (lv_at hl 0 rfl) ?_
          exact K_203 z_1 (by omega)
        · refine lv_iload_n hx hb d_Mod_divided_31 rfl (lv_at hl 0 rfl) ?_
          refine lv_iconst (v := 1) hx hb d_Mod_divided_32 (by decide) ?_
          refine x_sub hx hb d_Mod_divided_33 tz_1 kc_1 (by omega) (fun z_208 tz_208 => ?_)
          refine lv_goto (tgt := 38) hx hb d_Mod_divided_34 (by decide) ?_
          exact K_203 z_208 (by omega)
      · refine lv_iconst (v := 1) hx hb d_Mod_divided_23 (by decide) ?_
        refine lv_goto (tgt := 28) hx hb d_Mod_divided_24 (by decide) ?_
        refine b_icmp_eq (tgt := 37) hx hb d_Mod_divided_28 (by decide) kc_0 kc_1 (fun c_209 => ?_) (fun c_209 => ?_)
        · refine lv_iload_n hx hb d_Mod_divided_37 rfl (lv_at hl 0 rfl) ?_
          exact K_203 z_1 (by omega)
        · refine lv_iload_n hx hb d_Mod_divided_31 rfl (lv_at hl 0 rfl) ?_
          refine lv_iconst (v := 1) hx hb d_Mod_divided_32 (by decide) ?_
          refine x_sub hx hb d_Mod_divided_33 tz_1 kc_1 (by omega) (fun z_210 tz_210 => ?_)
          refine lv_goto (tgt := 38) hx hb d_Mod_divided_34 (by decide) ?_
          exact K_203 z_210 (by omega)
    · refine lv_iconst (v := 1) hx hb d_Mod_divided_14 (by decide) ?_
      refine lv_goto (tgt := 19) hx hb d_Mod_divided_15 (by decide) ?_
      refine lv_iload_n hx hb d_Mod_divided_19 rfl (lv_at hl 2 rfl) ?_
      refine b_if_ge (tgt := 27) hx hb d_Mod_divided_20 (by decide) rfl (fun c_211 => ?_) (fun c_211 => ?_)
      · refine lv_iconst (v := 0) hx hb d_Mod_divided_27 (by decide) ?_
        refine b_icmp_eq (tgt := 37) hx hb d_Mod_divided_28 (by decide) kc_1 kc_0 (fun c_212 => ?_) (fun c_212 => ?_)
        · refine lv_iload_n hx hb d_Mod_divided_37 rfl (lv_at hl 0 rfl) ?_
          exact K_203 z_1 (by omega)
        · refine lv_iload_n hx hb d_Mod_divided_31 rfl (lv_at hl 0 rfl) ?_
          refine lv_iconst (v := 1) hx hb d_Mod_divided_32 (by decide) ?_
          refine x_sub hx hb d_Mod_divided_33 tz_1 kc_1 (by omega) (fun z_213 tz_213 => ?_)
          refine lv_goto (tgt := 38) hx hb d_Mod_divided_34 (by decide) ?_
          exact K_203 z_213 (by omega)
      · refine lv_iconst (v := 1) hx hb d_Mod_divided_23 (by decide) ?_
        refine lv_goto (tgt := 28) hx hb d_Mod_divided_24 (by decide) ?_
        refine b_icmp_eq (tgt := 37) hx hb d_Mod_divided_28 (by decide) kc_1 kc_1 (fun c_214 => ?_) (fun c_214 => ?_)
        · refine lv_iload_n hx hb d_Mod_divided_37 rfl (lv_at hl 0 rfl) ?_
          exact K_203 z_1 (by omega)
        · refine lv_iload_n hx hb d_Mod_divided_31 rfl (lv_at hl 0 rfl) ?_
          refine lv_iconst (v := 1) hx hb d_Mod_divided_32 (by decide) ?_
          refine x_sub hx hb d_Mod_divided_33 tz_1 kc_1 (by omega) (fun z_215 tz_215 => ?_)
          refine lv_goto (tgt := 38) hx hb d_Mod_divided_34 (by decide) ?_
          exact K_203 z_215 (by omega)
theorem r_Mod_divided {p : Program} {l : Launch} {e : Env} {R : Room} {s : State} {m : MethodId} {args : Array Value} {below : List Frame} {meth : Method} {c : Code} {H : Heap} {locs : List Loc} {cells slots : Nat} {Q : State → Prop} {cc : ByteArray} {pc : Nat} {ls : Array Slot} {rest : List Value} {D : va_G} {cA : Nat → ClassId} {A0 : Nat → Prop} {H0 : Heap} {nL : Nat} (hexec : p.tables.exec = Jvm.exec) (hb : c.code = cc) (hml : c.maxLocals = nL) (hown : s.vm.findClass "RangeSheetModel" = some m.cls) (hK : KE D cA s) (hsize : ls.size = nL) (hS : va_S A0 H0 H locs) (hR : 2 ≤ R.frames ∧ 82 ≤ R.locals) (hc : cells ≤ R.cells ∧ slots ≤ R.slots) {x : Int32} {y : Int32} {x_i : Int} (h_x : x.toInt = x_i) {y_i : Int} (h_y : y.toInt = y_i) (h0 : y_i ≠ 0) (h1 : -1000 ≤ x_i ∧ x_i ≤ 1000) (hdg : decode cc pc = .ok (.invokestatic 146, 3)) (hW : (rest.map fun v => v.category).sum ≤ 8) (kk : ∀ (z : Int32) (locs1 : List Loc), z.toInt = fl x_i y_i → va_S A0 H0 H locs1 → W p l e R s m args below meth c H locs1 cells slots Q (F0 m (pc + 3) ls (.int z :: rest))) : W p l e R s m args below meth c H locs cells slots Q (F0 m pc ls (.int y :: .int x :: rest)) := by
  subst h_x
  subst h_y
  refine x_S hexec hb hml hown hK (k_Mod_divided l D cA H x y h0 h1) t_959 t_4 t_957 t_958 yk_Mod_divided hR rfl rfl hsize rfl hW hdg hc hS (fun q h => h.elim) (fun r H1 locs1 hq _ hS1 => ?_)
  obtain ⟨rfl, z, rfl, hz⟩ := hq
  exact kk z locs1 hz hS1
theorem d_Mod_canBeLesser_0 : decode b_Mod_canBeLesser 0 = .ok (.iload_n 0, 1) := by decide +kernel
theorem d_Mod_canBeLesser_1 : decode b_Mod_canBeLesser 1 = .ok (.iload_n 3, 1) := by decide +kernel
theorem d_Mod_canBeLesser_2 : decode b_Mod_canBeLesser 2 = .ok (.iload 4, 2) := by decide +kernel
theorem d_Mod_canBeLesser_4 : decode b_Mod_canBeLesser 4 = .ok (.invokestatic 89, 3) := by decide +kernel
theorem d_Mod_canBeLesser_7 : decode b_Mod_canBeLesser 7 = .ok (.ifCond .eq 8, 3) := by decide +kernel
theorem d_Mod_canBeLesser_10 : decode b_Mod_canBeLesser 10 = .ok (.iload_n 2, 1) := by decide +kernel
theorem d_Mod_canBeLesser_11 : decode b_Mod_canBeLesser 11 = .ok (.iload_n 0, 1) := by decide +kernel
theorem d_Mod_canBeLesser_12 : decode b_Mod_canBeLesser 12 = .ok (.if_icmp .ge 23, 3) := by decide +kernel
theorem d_Mod_canBeLesser_15 : decode b_Mod_canBeLesser 15 = .ok (.iload_n 1, 1) := by decide +kernel
theorem d_Mod_canBeLesser_16 : decode b_Mod_canBeLesser 16 = .ok (.iload_n 3, 1) := by decide +kernel
theorem d_Mod_canBeLesser_17 : decode b_Mod_canBeLesser 17 = .ok (.invokestatic 120, 3) := by decide +kernel
theorem d_Mod_canBeLesser_20 : decode b_Mod_canBeLesser 20 = .ok (.iload_n 2, 1) := by decide +kernel
theorem d_Mod_canBeLesser_21 : decode b_Mod_canBeLesser 21 = .ok (.iload 4, 2) := by decide +kernel
theorem d_Mod_canBeLesser_23 : decode b_Mod_canBeLesser 23 = .ok (.invokestatic 124, 3) := by decide +kernel
theorem d_Mod_canBeLesser_26 : decode b_Mod_canBeLesser 26 = .ok (.iload_n 0, 1) := by decide +kernel
theorem d_Mod_canBeLesser_27 : decode b_Mod_canBeLesser 27 = .ok (.iconst 1, 1) := by decide +kernel
theorem d_Mod_canBeLesser_28 : decode b_Mod_canBeLesser 28 = .ok (.isub, 1) := by decide +kernel
theorem d_Mod_canBeLesser_29 : decode b_Mod_canBeLesser 29 = .ok (.invokestatic 124, 3) := by decide +kernel
theorem d_Mod_canBeLesser_32 : decode b_Mod_canBeLesser 32 = .ok (.if_icmp .gt 7, 3) := by decide +kernel
theorem d_Mod_canBeLesser_35 : decode b_Mod_canBeLesser 35 = .ok (.iconst 1, 1) := by decide +kernel
theorem d_Mod_canBeLesser_36 : decode b_Mod_canBeLesser 36 = .ok (.goto 4, 3) := by decide +kernel
theorem d_Mod_canBeLesser_39 : decode b_Mod_canBeLesser 39 = .ok (.iconst 0, 1) := by decide +kernel
theorem d_Mod_canBeLesser_40 : decode b_Mod_canBeLesser 40 = .ok (.ireturn, 1) := by decide +kernel
set_option maxHeartbeats 4000000 in
theorem k_Mod_canBeLesser (l : Launch) (D : va_G) (cA : Nat → ClassId) (H0 : Heap) (x : Int32) (f : Int32) (t : Int32) (fc : Int32) (tc : Int32) (h0 : -1000 ≤ x.toInt ∧ x.toInt ≤ 1000) : Ct l y_Mod_canBeLesser b_Mod_canBeLesser 5 (some .boolean) 3 D cA [.int x, .int f, .int t, .int fc, .int tc] (fun H => H = H0) (fun r H => H = H0 ∧ r = some (.int (bi (cbl x.toInt f.toInt t.toInt fc.toInt tc.toInt)))) (fun _ => False) := by
  refine Ct.mk (by decide) (Nat.le_of_ble_eq_true rfl) ?_
  intro p e s m args below meth c Q H locs ls hx hb hr hml hlk hown hin hK hQ hS hP hl
  have hl : lv_has ls 5 [(0, .int x), (1, .int f), (2, .int t), (3, .int fc), (4, .int tc)] := hl
  refine lv_iload_n hx hb d_Mod_canBeLesser_0 rfl (lv_at hl 0 rfl) ?_
  refine lv_iload_n hx hb d_Mod_canBeLesser_1 rfl (lv_at hl 3 rfl) ?_
  refine lv_iload hx hb d_Mod_canBeLesser_2 (lv_at hl 4 rfl) ?_
  refine r_Mod_within hx hb hml hown hK hl.1 hS ⟨Nat.le_of_ble_eq_true rfl, Nat.le_of_ble_eq_true rfl⟩ ⟨Nat.le_of_ble_eq_true rfl, Nat.le_of_ble_eq_true rfl⟩ rfl rfl rfl  d_Mod_canBeLesser_4 (Nat.le_of_ble_eq_true rfl) (fun locs hS => ?_)
  have K_201 : ∀ (b_201_0 : Bool) (locs : List Loc), (b_201_0 = true ↔ (((decide (fc.toInt ≤ x.toInt ∧ x.toInt ≤ tc.toInt)) = false ∧ (max f.toInt fc.toInt) ≤ (min (min t.toInt tc.toInt) (x.toInt - 1))) ∨ ((decide (fc.toInt ≤ x.toInt ∧ x.toInt ≤ tc.toInt)) = true ∧ (x.toInt ≤ t.toInt ∨ (max f.toInt fc.toInt) ≤ (min (min t.toInt tc.toInt) (x.toInt - 1)))))) → va_S (fun _ => False) s.heap H locs → W p l e (rl 3) s m args below meth c H locs 0 0 Q (F0 m 40 ls [.int (bi b_201_0)]) := by
    intro b_201_0 locs hb_201_0 hS
    refine e_z hx hb hr hlk hQ hS d_Mod_canBeLesser_40 ?_
    exact ⟨hP, by unfold cbl; exact fin_b hb_201_0 (by simp only [decide_eq_true_eq, decide_eq_false_iff_not]; omega)⟩
  refine b_bool_eq (tgt := 15) hx hb d_Mod_canBeLesser_7 (by decide) (fun c_202 => ?_) (fun c_202 => ?_)
  · refine lv_iload_n hx hb d_Mod_canBeLesser_15 rfl (lv_at hl 1 rfl) ?_
    refine lv_iload_n hx hb d_Mod_canBeLesser_16 rfl (lv_at hl 3 rfl) ?_
    refine r_Mod_greater hx hb hml hown hK hl.1 hS ⟨Nat.le_of_ble_eq_true rfl, Nat.le_of_ble_eq_true rfl⟩ ⟨Nat.le_of_ble_eq_true rfl, Nat.le_of_ble_eq_true rfl⟩ rfl rfl  d_Mod_canBeLesser_17 (Nat.le_of_ble_eq_true rfl) (fun z_203 locs tz_203 hS => ?_)
    refine lv_iload_n hx hb d_Mod_canBeLesser_20 rfl (lv_at hl 2 rfl) ?_
    refine lv_iload hx hb d_Mod_canBeLesser_21 (lv_at hl 4 rfl) ?_
    refine r_Mod_lesser hx hb hml hown hK hl.1 hS ⟨Nat.le_of_ble_eq_true rfl, Nat.le_of_ble_eq_true rfl⟩ ⟨Nat.le_of_ble_eq_true rfl, Nat.le_of_ble_eq_true rfl⟩ rfl rfl  d_Mod_canBeLesser_23 (Nat.le_of_ble_eq_true rfl) (fun z_204 locs tz_204 hS => ?_)
    refine lv_iload_n hx hb d_Mod_canBeLesser_26 rfl (lv_at hl 0 rfl) ?_
    refine lv_iconst (v := 1) hx hb d_Mod_canBeLesser_27 (by decide) ?_
    refine x_sub hx hb d_Mod_canBeLesser_28 rfl kc_1 (by omega) (fun z_205 tz_205 => ?_)
    refine r_Mod_lesser hx hb hml hown hK hl.1 hS ⟨Nat.le_of_ble_eq_true rfl, Nat.le_of_ble_eq_true rfl⟩ ⟨Nat.le_of_ble_eq_true rfl, Nat.le_of_ble_eq_true rfl⟩ tz_204 tz_205  d_Mod_canBeLesser_29 (Nat.le_of_ble_eq_true rfl) (fun z_206 locs tz_206 hS => ?_)
    refine b_icmp_gt (tgt := 39) hx hb d_Mod_canBeLesser_32 (by decide) tz_203 tz_206 (fun c_207 => ?_) (fun c_207 => ?_)
    · refine lv_iconst (v := 0) hx hb d_Mod_canBeLesser_39 (by decide) ?_
      exact K_201 false locs ⟨fun h => absurd h (by decide), fun h => absurd h (by first | omega | (simp only [decide_eq_true_eq, decide_eq_false_iff_not] at *; omega))⟩ hS
    · refine lv_iconst (v := 1) hx hb d_Mod_canBeLesser_35 (by decide) ?_
      refine lv_goto (tgt := 40) hx hb d_Mod_canBeLesser_36 (by decide) ?_
      exact K_201 true locs ⟨fun _ => by first | omega | (simp only [decide_eq_true_eq, decide_eq_false_iff_not] at *; omega), fun _ => rfl⟩ hS
  · refine lv_iload_n hx hb d_Mod_canBeLesser_10 rfl (lv_at hl 2 rfl) ?_
    refine lv_iload_n hx hb d_Mod_canBeLesser_11 rfl (lv_at hl 0 rfl) ?_
    refine b_icmp_ge (tgt := 35) hx hb d_Mod_canBeLesser_12 (by decide) rfl rfl (fun c_208 => ?_) (fun c_208 => ?_)
    · refine lv_iconst (v := 1) hx hb d_Mod_canBeLesser_35 (by decide) ?_
      refine lv_goto (tgt := 40) hx hb d_Mod_canBeLesser_36 (by decide) ?_
      exact K_201 true locs ⟨fun _ => by first | omega | (simp only [decide_eq_true_eq, decide_eq_false_iff_not] at *; omega), fun _ => rfl⟩ hS
    · refine lv_iload_n hx hb d_Mod_canBeLesser_15 rfl (lv_at hl 1 rfl) ?_
      refine lv_iload_n hx hb d_Mod_canBeLesser_16 rfl (lv_at hl 3 rfl) ?_
      refine r_Mod_greater hx hb hml hown hK hl.1 hS ⟨Nat.le_of_ble_eq_true rfl, Nat.le_of_ble_eq_true rfl⟩ ⟨Nat.le_of_ble_eq_true rfl, Nat.le_of_ble_eq_true rfl⟩ rfl rfl  d_Mod_canBeLesser_17 (Nat.le_of_ble_eq_true rfl) (fun z_209 locs tz_209 hS => ?_)
      refine lv_iload_n hx hb d_Mod_canBeLesser_20 rfl (lv_at hl 2 rfl) ?_
      refine lv_iload hx hb d_Mod_canBeLesser_21 (lv_at hl 4 rfl) ?_
      refine r_Mod_lesser hx hb hml hown hK hl.1 hS ⟨Nat.le_of_ble_eq_true rfl, Nat.le_of_ble_eq_true rfl⟩ ⟨Nat.le_of_ble_eq_true rfl, Nat.le_of_ble_eq_true rfl⟩ rfl rfl  d_Mod_canBeLesser_23 (Nat.le_of_ble_eq_true rfl) (fun z_210 locs tz_210 hS => ?_)
      refine lv_iload_n hx hb d_Mod_canBeLesser_26 rfl (lv_at hl 0 rfl) ?_
      refine lv_iconst (v := 1) hx hb d_Mod_canBeLesser_27 (by decide) ?_
      refine x_sub hx hb d_Mod_canBeLesser_28 rfl kc_1 (by omega) (fun z_211 tz_211 => ?_)
      refine r_Mod_lesser hx hb hml hown hK hl.1 hS ⟨Nat.le_of_ble_eq_true rfl, Nat.le_of_ble_eq_true rfl⟩ ⟨Nat.le_of_ble_eq_true rfl, Nat.le_of_ble_eq_true rfl⟩ tz_210 tz_211  d_Mod_canBeLesser_29 (Nat.le_of_ble_eq_true rfl) (fun z_212 locs tz_212 hS => ?_)
      refine b_icmp_gt (tgt := 39) hx hb d_Mod_canBeLesser_32 (by decide) tz_209 tz_212 (fun c_213 => ?_) (fun c_213 => ?_)
      · refine lv_iconst (v := 0) hx hb d_Mod_canBeLesser_39 (by decide) ?_
        exact K_201 false locs ⟨fun h => absurd h (by decide), fun h => absurd h (by first | omega | (simp only [decide_eq_true_eq, decide_eq_false_iff_not] at *; omega))⟩ hS
      · refine lv_iconst (v := 1) hx hb d_Mod_canBeLesser_35 (by decide) ?_
        refine lv_goto (tgt := 40) hx hb d_Mod_canBeLesser_36 (by decide) ?_
        exact K_201 true locs ⟨fun _ => by first | omega | (simp only [decide_eq_true_eq, decide_eq_false_iff_not] at *; omega), fun _ => rfl⟩ hS
theorem r_Mod_cbl {p : Program} {l : Launch} {e : Env} {R : Room} {s : State} {m : MethodId} {args : Array Value} {below : List Frame} {meth : Method} {c : Code} {H : Heap} {locs : List Loc} {cells slots : Nat} {Q : State → Prop} {cc : ByteArray} {pc : Nat} {ls : Array Slot} {rest : List Value} {D : va_G} {cA : Nat → ClassId} {A0 : Nat → Prop} {H0 : Heap} {nL : Nat} (hexec : p.tables.exec = Jvm.exec) (hb : c.code = cc) (hml : c.maxLocals = nL) (hown : s.vm.findClass "RangeSheetModel" = some m.cls) (hK : KE D cA s) (hsize : ls.size = nL) (hS : va_S A0 H0 H locs) (hR : 4 ≤ R.frames ∧ 204 ≤ R.locals) (hc : cells ≤ R.cells ∧ slots ≤ R.slots) {x : Int32} {f : Int32} {t : Int32} {fc : Int32} {tc : Int32} {x_i : Int} (h_x : x.toInt = x_i) {f_i : Int} (h_f : f.toInt = f_i) {t_i : Int} (h_t : t.toInt = t_i) {fc_i : Int} (h_fc : fc.toInt = fc_i) {tc_i : Int} (h_tc : tc.toInt = tc_i) (h0 : -1000 ≤ x_i ∧ x_i ≤ 1000) (hdg : decode cc pc = .ok (.invokestatic 163, 3)) (hW : (rest.map fun v => v.category).sum ≤ 8) (kk : ∀ locs1 : List Loc, va_S A0 H0 H locs1 → W p l e R s m args below meth c H locs1 cells slots Q (F0 m (pc + 3) ls (.int (bi (cbl x_i f_i t_i fc_i tc_i)) :: rest))) : W p l e R s m args below meth c H locs cells slots Q (F0 m pc ls (.int tc :: .int fc :: .int t :: .int f :: .int x :: rest)) := by
  subst h_x
  subst h_f
  subst h_t
  subst h_fc
  subst h_tc
  refine x_S hexec hb hml hown hK (k_Mod_canBeLesser l D cA H x f t fc tc h0) t_982 t_4 t_980 t_981 yk_Mod_canBeLesser hR rfl rfl hsize rfl hW hdg hc hS (fun q h => h.elim) (fun r H1 locs1 hq _ hS1 => ?_)
  obtain ⟨rfl, rfl⟩ := hq
  exact kk locs1 hS1
theorem d_Mod_canBeGreater_0 : decode b_Mod_canBeGreater 0 = .ok (.iload_n 0, 1) := by decide +kernel
theorem d_Mod_canBeGreater_1 : decode b_Mod_canBeGreater 1 = .ok (.iload_n 3, 1) := by decide +kernel
theorem d_Mod_canBeGreater_2 : decode b_Mod_canBeGreater 2 = .ok (.iload 4, 2) := by decide +kernel
theorem d_Mod_canBeGreater_4 : decode b_Mod_canBeGreater 4 = .ok (.invokestatic 89, 3) := by decide +kernel
theorem d_Mod_canBeGreater_7 : decode b_Mod_canBeGreater 7 = .ok (.ifCond .eq 8, 3) := by decide +kernel
theorem d_Mod_canBeGreater_10 : decode b_Mod_canBeGreater 10 = .ok (.iload_n 1, 1) := by decide +kernel
theorem d_Mod_canBeGreater_11 : decode b_Mod_canBeGreater 11 = .ok (.iload_n 0, 1) := by decide +kernel
theorem d_Mod_canBeGreater_12 : decode b_Mod_canBeGreater 12 = .ok (.if_icmp .le 23, 3) := by decide +kernel
theorem d_Mod_canBeGreater_15 : decode b_Mod_canBeGreater 15 = .ok (.iload_n 1, 1) := by decide +kernel
theorem d_Mod_canBeGreater_16 : decode b_Mod_canBeGreater 16 = .ok (.iload_n 3, 1) := by decide +kernel
theorem d_Mod_canBeGreater_17 : decode b_Mod_canBeGreater 17 = .ok (.invokestatic 120, 3) := by decide +kernel
theorem d_Mod_canBeGreater_20 : decode b_Mod_canBeGreater 20 = .ok (.iload_n 0, 1) := by decide +kernel
theorem d_Mod_canBeGreater_21 : decode b_Mod_canBeGreater 21 = .ok (.iconst 1, 1) := by decide +kernel
theorem d_Mod_canBeGreater_22 : decode b_Mod_canBeGreater 22 = .ok (.iadd, 1) := by decide +kernel
theorem d_Mod_canBeGreater_23 : decode b_Mod_canBeGreater 23 = .ok (.invokestatic 120, 3) := by decide +kernel
theorem d_Mod_canBeGreater_26 : decode b_Mod_canBeGreater 26 = .ok (.iload_n 2, 1) := by decide +kernel
theorem d_Mod_canBeGreater_27 : decode b_Mod_canBeGreater 27 = .ok (.iload 4, 2) := by decide +kernel
theorem d_Mod_canBeGreater_29 : decode b_Mod_canBeGreater 29 = .ok (.invokestatic 124, 3) := by decide +kernel
theorem d_Mod_canBeGreater_32 : decode b_Mod_canBeGreater 32 = .ok (.if_icmp .gt 7, 3) := by decide +kernel
theorem d_Mod_canBeGreater_35 : decode b_Mod_canBeGreater 35 = .ok (.iconst 1, 1) := by decide +kernel
theorem d_Mod_canBeGreater_36 : decode b_Mod_canBeGreater 36 = .ok (.goto 4, 3) := by decide +kernel
theorem d_Mod_canBeGreater_39 : decode b_Mod_canBeGreater 39 = .ok (.iconst 0, 1) := by decide +kernel
theorem d_Mod_canBeGreater_40 : decode b_Mod_canBeGreater 40 = .ok (.ireturn, 1) := by decide +kernel
set_option maxHeartbeats 4000000 in
theorem k_Mod_canBeGreater (l : Launch) (D : va_G) (cA : Nat → ClassId) (H0 : Heap) (x : Int32) (f : Int32) (t : Int32) (fc : Int32) (tc : Int32) (h0 : -1000 ≤ x.toInt ∧ x.toInt ≤ 1000) : Ct l y_Mod_canBeGreater b_Mod_canBeGreater 5 (some .boolean) 3 D cA [.int x, .int f, .int t, .int fc, .int tc] (fun H => H = H0) (fun r H => H = H0 ∧ r = some (.int (bi (cbg x.toInt f.toInt t.toInt fc.toInt tc.toInt)))) (fun _ => False) := by
  refine Ct.mk (by decide) (Nat.le_of_ble_eq_true rfl) ?_
  intro p e s m args below meth c Q H locs ls hx hb hr hml hlk hown hin hK hQ hS hP hl
  have hl : lv_has ls 5 [(0, .int x), (1, .int f), (2, .int t), (3, .int fc), (4, .int tc)] := hl
  refine lv_iload_n hx hb d_Mod_canBeGreater_0 rfl (lv_at hl 0 rfl) ?_
  refine lv_iload_n hx hb d_Mod_canBeGreater_1 rfl (lv_at hl 3 rfl) ?_
  refine lv_iload hx hb d_Mod_canBeGreater_2 (lv_at hl 4 rfl) ?_
  refine r_Mod_within hx hb hml hown hK hl.1 hS ⟨Nat.le_of_ble_eq_true rfl, Nat.le_of_ble_eq_true rfl⟩ ⟨Nat.le_of_ble_eq_true rfl, Nat.le_of_ble_eq_true rfl⟩ rfl rfl rfl  d_Mod_canBeGreater_4 (Nat.le_of_ble_eq_true rfl) (fun locs hS => ?_)
  have K_201 : ∀ (b_201_0 : Bool) (locs : List Loc), (b_201_0 = true ↔ (((decide (fc.toInt ≤ x.toInt ∧ x.toInt ≤ tc.toInt)) = false ∧ (max (max f.toInt fc.toInt) (x.toInt + 1)) ≤ (min t.toInt tc.toInt)) ∨ ((decide (fc.toInt ≤ x.toInt ∧ x.toInt ≤ tc.toInt)) = true ∧ (f.toInt ≤ x.toInt ∨ (max (max f.toInt fc.toInt) (x.toInt + 1)) ≤ (min t.toInt tc.toInt))))) → va_S (fun _ => False) s.heap H locs → W p l e (rl 3) s m args below meth c H locs 0 0 Q (F0 m 40 ls [.int (bi b_201_0)]) := by
    intro b_201_0 locs hb_201_0 hS
    refine e_z hx hb hr hlk hQ hS d_Mod_canBeGreater_40 ?_
    exact ⟨hP, by unfold cbg; exact fin_b hb_201_0 (by simp only [decide_eq_true_eq, decide_eq_false_iff_not]; omega)⟩
  refine b_bool_eq (tgt := 15) hx hb d_Mod_canBeGreater_7 (by decide) (fun c_202 => ?_) (fun c_202 => ?_)
  · refine lv_iload_n hx hb d_Mod_canBeGreater_15 rfl (lv_at hl 1 rfl) ?_
    refine lv_iload_n hx hb d_Mod_canBeGreater_16 rfl (lv_at hl 3 rfl) ?_
    refine r_Mod_greater hx hb hml hown hK hl.1 hS ⟨Nat.le_of_ble_eq_true rfl, Nat.le_of_ble_eq_true rfl⟩ ⟨Nat.le_of_ble_eq_true rfl, Nat.le_of_ble_eq_true rfl⟩ rfl rfl  d_Mod_canBeGreater_17 (Nat.le_of_ble_eq_true rfl) (fun z_203 locs tz_203 hS => ?_)
    refine lv_iload_n hx hb d_Mod_canBeGreater_20 rfl (lv_at hl 0 rfl) ?_
    refine lv_iconst (v := 1) hx hb d_Mod_canBeGreater_21 (by decide) ?_
    refine x_add hx hb d_Mod_canBeGreater_22 rfl kc_1 (by omega) (fun z_204 tz_204 => ?_)
    refine r_Mod_greater hx hb hml hown hK hl.1 hS ⟨Nat.le_of_ble_eq_true rfl, Nat.le_of_ble_eq_true rfl⟩ ⟨Nat.le_of_ble_eq_true rfl, Nat.le_of_ble_eq_true rfl⟩ tz_203 tz_204  d_Mod_canBeGreater_23 (Nat.le_of_ble_eq_true rfl) (fun z_205 locs tz_205 hS => ?_)
    refine lv_iload_n hx hb d_Mod_canBeGreater_26 rfl (lv_at hl 2 rfl) ?_
    refine lv_iload hx hb d_Mod_canBeGreater_27 (lv_at hl 4 rfl) ?_
    refine r_Mod_lesser hx hb hml hown hK hl.1 hS ⟨Nat.le_of_ble_eq_true rfl, Nat.le_of_ble_eq_true rfl⟩ ⟨Nat.le_of_ble_eq_true rfl, Nat.le_of_ble_eq_true rfl⟩ rfl rfl  d_Mod_canBeGreater_29 (Nat.le_of_ble_eq_true rfl) (fun z_206 locs tz_206 hS => ?_)
    refine b_icmp_gt (tgt := 39) hx hb d_Mod_canBeGreater_32 (by decide) tz_205 tz_206 (fun c_207 => ?_) (fun c_207 => ?_)
    · refine lv_iconst (v := 0) hx hb d_Mod_canBeGreater_39 (by decide) ?_
      exact K_201 false locs ⟨fun h => absurd h (by decide), fun h => absurd h (by first | omega | (simp only [decide_eq_true_eq, decide_eq_false_iff_not] at *; omega))⟩ hS
    · refine lv_iconst (v := 1) hx hb d_Mod_canBeGreater_35 (by decide) ?_
      refine lv_goto (tgt := 40) hx hb d_Mod_canBeGreater_36 (by decide) ?_
      exact K_201 true locs ⟨fun _ => by first | omega | (simp only [decide_eq_true_eq, decide_eq_false_iff_not] at *; omega), fun _ => rfl⟩ hS
  · refine lv_iload_n hx hb d_Mod_canBeGreater_10 rfl (lv_at hl 1 rfl) ?_
    refine lv_iload_n hx hb d_Mod_canBeGreater_11 rfl (lv_at hl 0 rfl) ?_
    refine b_icmp_le (tgt := 35) hx hb d_Mod_canBeGreater_12 (by decide) rfl rfl (fun c_208 => ?_) (fun c_208 => ?_)
    · refine lv_iconst (v := 1) hx hb d_Mod_canBeGreater_35 (by decide) ?_
      refine lv_goto (tgt := 40) hx hb d_Mod_canBeGreater_36 (by decide) ?_
      exact K_201 true locs ⟨fun _ => by first | omega | (simp only [decide_eq_true_eq, decide_eq_false_iff_not] at *; omega), fun _ => rfl⟩ hS
    · refine lv_iload_n hx hb d_Mod_canBeGreater_15 rfl (lv_at hl 1 rfl) ?_
      refine lv_iload_n hx hb d_Mod_canBeGreater_16 rfl (lv_at hl 3 rfl) ?_
      refine r_Mod_greater hx hb hml hown hK hl.1 hS ⟨Nat.le_of_ble_eq_true rfl, Nat.le_of_ble_eq_true rfl⟩ ⟨Nat.le_of_ble_eq_true rfl, Nat.le_of_ble_eq_true rfl⟩ rfl rfl  d_Mod_canBeGreater_17 (Nat.le_of_ble_eq_true rfl) (fun z_209 locs tz_209 hS => ?_)
      refine lv_iload_n hx hb d_Mod_canBeGreater_20 rfl (lv_at hl 0 rfl) ?_
      refine lv_iconst (v := 1) hx hb d_Mod_canBeGreater_21 (by decide) ?_
      refine x_add hx hb d_Mod_canBeGreater_22 rfl kc_1 (by omega) (fun z_210 tz_210 => ?_)
      refine r_Mod_greater hx hb hml hown hK hl.1 hS ⟨Nat.le_of_ble_eq_true rfl, Nat.le_of_ble_eq_true rfl⟩ ⟨Nat.le_of_ble_eq_true rfl, Nat.le_of_ble_eq_true rfl⟩ tz_209 tz_210  d_Mod_canBeGreater_23 (Nat.le_of_ble_eq_true rfl) (fun z_211 locs tz_211 hS => ?_)
      refine lv_iload_n hx hb d_Mod_canBeGreater_26 rfl (lv_at hl 2 rfl) ?_
      refine lv_iload hx hb d_Mod_canBeGreater_27 (lv_at hl 4 rfl) ?_
      refine r_Mod_lesser hx hb hml hown hK hl.1 hS ⟨Nat.le_of_ble_eq_true rfl, Nat.le_of_ble_eq_true rfl⟩ ⟨Nat.le_of_ble_eq_true rfl, Nat.le_of_ble_eq_true rfl⟩ rfl rfl  d_Mod_canBeGreater_29 (Nat.le_of_ble_eq_true rfl) (fun z_212 locs tz_212 hS => ?_)
      refine b_icmp_gt (tgt := 39) hx hb d_Mod_canBeGreater_32 (by decide) tz_211 tz_212 (fun c_213 => ?_) (fun c_213 => ?_)
      · refine lv_iconst (v := 0) hx hb d_Mod_canBeGreater_39 (by decide) ?_
        exact K_201 false locs ⟨fun h => absurd h (by decide), fun h => absurd h (by first | omega | (simp only [decide_eq_true_eq, decide_eq_false_iff_not] at *; omega))⟩ hS
      · refine lv_iconst (v := 1) hx hb d_Mod_canBeGreater_35 (by decide) ?_
        refine lv_goto (tgt := 40) hx hb d_Mod_canBeGreater_36 (by decide) ?_
        exact K_201 true locs ⟨fun _ => by first | omega | (simp only [decide_eq_true_eq, decide_eq_false_iff_not] at *; omega), fun _ => rfl⟩ hS
theorem r_Mod_cbg {p : Program} {l : Launch} {e : Env} {R : Room} {s : State} {m : MethodId} {args : Array Value} {below : List Frame} {meth : Method} {c : Code} {H : Heap} {locs : List Loc} {cells slots : Nat} {Q : State → Prop} {cc : ByteArray} {pc : Nat} {ls : Array Slot} {rest : List Value} {D : va_G} {cA : Nat → ClassId} {A0 : Nat → Prop} {H0 : Heap} {nL : Nat} (hexec : p.tables.exec = Jvm.exec) (hb : c.code = cc) (hml : c.maxLocals = nL) (hown : s.vm.findClass "RangeSheetModel" = some m.cls) (hK : KE D cA s) (hsize : ls.size = nL) (hS : va_S A0 H0 H locs) (hR : 4 ≤ R.frames ∧ 204 ≤ R.locals) (hc : cells ≤ R.cells ∧ slots ≤ R.slots) {x : Int32} {f : Int32} {t : Int32} {fc : Int32} {tc : Int32} {x_i : Int} (h_x : x.toInt = x_i) {f_i : Int} (h_f : f.toInt = f_i) {t_i : Int} (h_t : t.toInt = t_i) {fc_i : Int} (h_fc : fc.toInt = fc_i) {tc_i : Int} (h_tc : tc.toInt = tc_i) (h0 : -1000 ≤ x_i ∧ x_i ≤ 1000) (hdg : decode cc pc = .ok (.invokestatic 167, 3)) (hW : (rest.map fun v => v.category).sum ≤ 8) (kk : ∀ locs1 : List Loc, va_S A0 H0 H locs1 → W p l e R s m args below meth c H locs1 cells slots Q (F0 m (pc + 3) ls (.int (bi (cbg x_i f_i t_i fc_i tc_i)) :: rest))) : W p l e R s m args below meth c H locs cells slots Q (F0 m pc ls (.int tc :: .int fc :: .int t :: .int f :: .int x :: rest)) := by
  subst h_x
  subst h_f
  subst h_t
  subst h_fc
  subst h_tc
  refine x_S hexec hb hml hown hK (k_Mod_canBeGreater l D cA H x f t fc tc h0) t_985 t_4 t_983 t_984 yk_Mod_canBeGreater hR rfl rfl hsize rfl hW hdg hc hS (fun q h => h.elim) (fun r H1 locs1 hq _ hS1 => ?_)
  obtain ⟨rfl, rfl⟩ := hq
  exact kk locs1 hS1
