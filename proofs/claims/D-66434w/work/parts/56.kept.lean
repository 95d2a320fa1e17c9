/-! the invariant is kept -/
theorem ofI5 {v : Int} (h : 0 ≤ v ∧ v ≤ 5000) : (Int32.ofInt v).toInt = v := Int32.toInt_ofInt_of_le (by have : Int32.minValue.toInt = -2147483648 := rfl; omega) (by have : Int32.maxValue.toInt = 2147483647 := rfl; omega)
theorem RV.up {n : Nat} {k a b c : Int} (h : RV n k a b c) : RV (n + 1) k a b c := by
  obtain ⟨v0, v7, v1, v5, v8, v3⟩ := h
  refine ⟨v0, fun h => ?_, fun h => ?_, v5, v8, fun h1 h2 h3 => ?_⟩
  · have q := v7 h
    have := Nat.pow_le_pow_right (n := 2) (by decide) (show n ≤ n + 1 by omega)
    exact ⟨q.1, q.2.1, Nat.lt_of_lt_of_le q.2.2 this⟩
  · have q := v1 h; omega
  · have q := v3 h1 h2 h3; omega
theorem WF.zero : WF (fun _ => 0) (fun _ _ => 0) 0 0 0 0 := by
  have z : ((0 : Int32)).toInt = 0 := rfl
  refine ⟨⟨by omega, by omega, rfl, rfl, fun t ht => ⟨⟨by rw [z]; omega, by rw [z]; omega⟩, fun k hk => by rw [z] at hk; omega⟩, fun r hr => by omega⟩, ⟨by omega, fun k hk => by omega, fun k hk => by omega⟩, rfl, ⟨rfl, by decide⟩, ⟨by rw [z]; omega, by rw [z]; omega⟩, ⟨by rw [z]; omega, by rw [z]; omega⟩, ⟨by rw [z]; omega, by rw [z]; omega⟩, fun k hk => ⟨by rw [z]; omega, by rw [z]; omega⟩, fun r hr => by omega⟩
theorem WF.cell {I : Nat → Int32} {F : Nat → Nat → Int32} {n m en mk : Nat} {lo hh : Int32} (h : WF I F n m en mk) (hn : n < 10) (hr : -100 ≤ lo.toInt ∧ hh.toInt ≤ 100 ∧ lo.toInt ≤ hh.toInt) : WF (va_up I 1 (Int32.ofInt ((n : Int) + 1))) (G_cell F n lo hh) (n + 1) m en mk := by
  obtain ⟨⟨a1, a2, a3, a4, a5, a6⟩, ⟨b1, b2, b3⟩, w3, w4, w5, w6, w7, w8, w9⟩ := h
  refine ⟨⟨by omega, a2, ?_, a4, a5, fun r hr => (a6 r hr).up⟩, ⟨b1, fun k hk => ?_, fun e he => ?_⟩, w3, w4, ⟨w5.1, ?_⟩, w6, ⟨w7.1, ?_⟩, w8, w9⟩
  · rw [va_up_self, ofI5 (by omega)]; omega
  · show -100 ≤ (upd (F 2) n lo k).toInt ∧ (upd (F 2) n lo k).toInt ≤ (upd (F 3) n hh k).toInt ∧ (upd (F 3) n hh k).toInt ≤ 100
    simp only [upd]
    by_cases q : k = n
    · rw [if_pos q, if_pos q]; omega
    · rw [if_neg q, if_neg q]; exact b2 k (by omega)
  · have := b3 e he
    refine ⟨this.1, ?_, this.2.2⟩
    have h2 : ((F 14) e).toInt < n := this.2.1
    show ((F 14) e).toInt < _
    omega
  · have h2 : (I 28).toInt ≤ n := w5.2; show (I 28).toInt ≤ _; omega
  · have h2 : (I 32).toInt ≤ n := w7.2; show (I 32).toInt ≤ _; omega
theorem WF.rel {I : Nat → Int32} {F : Nat → Nat → Int32} {n m en mk : Nat} {k a b c : Int32} (h : WF I F n m en mk) (hm : m < 12) (hr : RO n k.toInt a.toInt b.toInt c.toInt) : WF (va_up I 4 (Int32.ofInt ((m : Int) + 1))) (G_rel F m k a b c) n (m + 1) en mk := by
  obtain ⟨⟨a1, a2, a3, a4, a5, a6⟩, w2, w3, w4, w5, w6, w7, w8, w9⟩ := h
  refine ⟨⟨a1, by omega, a3, ?_, a5, fun r hr9 => ?_⟩, w2, w3, w4, w5, w6, w7, w8, fun r hr9 => ?_⟩
  · rw [va_up_self, ofI5 (by omega)]; omega
  · by_cases q : r = m
    · subst q
      have g5 : (G_rel F r k a b c) 5 r = k := by simp [G_rel, va_up, upd]
      have g6 : (G_rel F r k a b c) 6 r = a := by simp [G_rel, va_up, upd]
      have g7 : (G_rel F r k a b c) 7 r = b := by simp [G_rel, va_up, upd]
      have g8 : (G_rel F r k a b c) 8 r = c := by simp [G_rel, va_up, upd]
      rw [g5, g6, g7, g8]; exact hr.1
    · have g5 : (G_rel F m k a b c) 5 r = F 5 r := by simp [G_rel, va_up, upd, q]
      have g6 : (G_rel F m k a b c) 6 r = F 6 r := by simp [G_rel, va_up, upd, q]
      have g7 : (G_rel F m k a b c) 7 r = F 7 r := by simp [G_rel, va_up, upd, q]
      have g8 : (G_rel F m k a b c) 8 r = F 8 r := by simp [G_rel, va_up, upd, q]
      rw [g5, g6, g7, g8]; exact a6 r (by omega)
  · unfold gB
    by_cases q : r = m
    · subst q
      rw [show (G_rel F r k a b c) 9 r = bi true by simp [G_rel, va_up, upd]]
      decide
    · rw [show (G_rel F m k a b c) 9 r = F 9 r by simp [G_rel, va_up, upd, q]]
      exact w9 r (by omega)
theorem WF.hold {I : Nat → Int32} {F : Nat → Nat → Int32} {n m en mk : Nat} {r : Int} {g : Bool} (h : WF I F n m en mk) : WF I (G_hold F m r g) n m en mk := by
  unfold G_hold
  split
  · obtain ⟨⟨a1, a2, a3, a4, a5, a6⟩, w2, w3, w4, w5, w6, w7, w8, w9⟩ := h
    refine ⟨⟨a1, a2, a3, a4, a5, a6⟩, w2, w3, w4, w5, w6, w7, w8, fun q hq => ?_⟩
    by_cases e : q = r.toNat
    · subst e
      rw [gB_up, va_up_self]; simp [upd]
    · rw [gB_ne e, va_up_self]; simp only [upd, if_neg e]; exact w9 q hq
  · exact h
theorem WF.row {I : Nat → Int32} {F : Nat → Nat → Int32} {n m en mk : Nat} {t : Int} {x y : Int32} (h : WF I F n m en mk) (hq : q_row F t x.toInt y.toInt) : WF I (G_row F t x y) n m en mk := by
  obtain ⟨⟨a1, a2, a3, a4, a5, a6⟩, w2, w3, w4, w5, w6, w7, w8, w9⟩ := h
  obtain ⟨q1, q2, q3, q4⟩ := hq
  refine ⟨⟨a1, a2, a3, a4, fun u hu => ?_, a6⟩, w2, w3, w4, w5, w6, w7, w8, w9⟩
  have ht := a5 t.toNat (by omega)
  have hu9 := a5 u hu
  have g10 : (G_row F t x y) 10 = upd (F 10) t.toNat (Int32.ofInt ((F 10 t.toNat).toInt + 1)) := rfl
  have g11 : (G_row F t x y) 11 = upd (F 11) (10 * t.toNat + (F 10 t.toNat).toInt.toNat) x := rfl
  have g12 : (G_row F t x y) 12 = upd (F 12) (10 * t.toNat + (F 10 t.toNat).toInt.toNat) y := rfl
  rw [g10, g11, g12]
  by_cases e : u = t.toNat
  · subst e
    have e1 : (upd (F 10) t.toNat (Int32.ofInt ((F 10 t.toNat).toInt + 1)) t.toNat).toInt = (F 10 t.toNat).toInt + 1 := by simp only [upd, if_true]; exact ofI5 (by have := ht.1; omega)
    rw [e1]
    have h1 := ht.1
    refine ⟨by omega, fun k hk => ?_⟩
    simp only [upd]
    by_cases e2 : k = (F 10 t.toNat).toInt.toNat
    · rw [if_pos (by omega), if_pos (by omega)]; omega
    · rw [if_neg (by omega), if_neg (by omega)]; exact ht.2 k (by omega)
  · have e1 : upd (F 10) t.toNat (Int32.ofInt ((F 10 t.toNat).toInt + 1)) u = F 10 u := by simp only [upd, if_neg e]
    rw [e1]
    refine ⟨hu9.1, fun k hk => ?_⟩
    have h1 := ht.1
    have h2 := hu9.1
    simp only [upd]
    rw [if_neg (by omega), if_neg (by omega)]
    exact hu9.2 k hk
theorem WF.set {I : Nat → Int32} {F : Nat → Nat → Int32} {n m en mk : Nat} {k lo hh : Int32} (h : WF I F n m en mk) (hn : en < 12) (hr : (0 ≤ k.toInt ∧ k.toInt < (n : Int)) ∧ -100 ≤ lo.toInt ∧ hh.toInt ≤ 100 ∧ lo.toInt ≤ hh.toInt) : WF (J_set I en mk) (G_set F en k lo hh) n m (en + 1) (mk ||| 2 ^ en) := by
  obtain ⟨⟨a1, a2, a3, a4, a5, a6⟩, ⟨b1, b2, b3⟩, w3, w4, w5, w6, w7, w8, w9⟩ := h
  have p1 : 2 ^ en < 2 ^ (en + 1) := Nat.pow_lt_pow_right (by decide) (by omega)
  have p2 : 2 ^ (en + 1) ≤ 2 ^ 12 := Nat.pow_le_pow_right (by decide) (by omega)
  have p3 : mk ||| 2 ^ en < 2 ^ (en + 1) := Nat.or_lt_two_pow (Nat.lt_trans w4.2 p1) p1
  refine ⟨⟨a1, a2, a3, a4, a5, a6⟩, ⟨by omega, b2, fun e he => ?_⟩, ?_, ⟨?_, p3⟩, w5, w6, w7, w8, w9⟩
  · show 0 ≤ (upd (F 14) en k e).toInt ∧ (upd (F 14) en k e).toInt < n ∧ -100 ≤ (upd (F 15) en lo e).toInt ∧ (upd (F 15) en lo e).toInt ≤ (upd (F 16) en hh e).toInt ∧ (upd (F 16) en hh e).toInt ≤ 100
    simp only [upd]
    by_cases q : e = en
    · rw [if_pos q, if_pos q, if_pos q]; omega
    · rw [if_neg q, if_neg q, if_neg q]; exact b3 e (by omega)
  · show (Int32.ofInt ((en : Int) + 1)).toInt = _
    rw [ofI5 (by omega)]; omega
  · show (Int32.ofInt ((mk ||| 2 ^ en : Nat) : Int)).toInt = _
    have : (2 : Nat) ^ 12 = 4096 := rfl
    rw [ofI5 (by omega)]
theorem WF.force {I : Nat → Int32} {F : Nat → Nat → Int32} {n m en mk : Nat} {e : Int} {on : Bool} (h : WF I F n m en mk) : ∃ mk', WF (J_force I en mk e on) F n m en mk' := by
  unfold J_force
  split
  · rename_i q
    have q := of_decide_eq_true q
    obtain ⟨⟨a1, a2, a3, a4, a5, a6⟩, w2, w3, w4, w5, w6, w7, w8, w9⟩ := h
    have p1 := xor_lt w4.2 (show e.toNat < en by omega)
    have p2 : 2 ^ en ≤ 2 ^ 12 := Nat.pow_le_pow_right (by decide) w2.1
    have : (2 : Nat) ^ 12 = 4096 := rfl
    exact ⟨mk ^^^ 2 ^ e.toNat, ⟨a1, a2, a3, a4, a5, a6⟩, w2, w3, ⟨by rw [va_up_self]; exact ofI5 (by omega), p1⟩, w5, w6, w7, w8, w9⟩
  · exact ⟨mk, h⟩
theorem WF.nar {I : Nat → Int32} {F : Nat → Nat → Int32} {n m en mk : Nat} {o : Option Bx} (h : WF I F n m en mk) : WF (J_nar I o) (G_nar F n o) n m en mk := by
  obtain ⟨⟨a1, a2, a3, a4, a5, a6⟩, w2, w3, w4, w5, w6, w7, w8, w9⟩ := h
  cases o with
  | none => exact ⟨⟨a1, a2, a3, a4, a5, a6⟩, w2, w3, w4, ⟨by show 0 ≤ (0 : Int32).toInt; decide, by show (0 : Int32).toInt ≤ _; have : (0 : Int32).toInt = 0 := rfl; omega⟩, w6, w7, w8, w9⟩
  | some y => exact ⟨⟨a1, a2, a3, a4, a5, a6⟩, w2, w3, w4, ⟨by show 0 ≤ (I 1).toInt; omega, by show (I 1).toInt ≤ _; omega⟩, w6, w7, w8, w9⟩
theorem WF.fnd {I : Nat → Int32} {F : Nat → Nat → Int32} {n m en mk : Nat} {r : Int × Nat × Bx} (h : WF I F n m en mk) (h1 : r.2.1 ≤ 300) (h2 : r.1 = 1 → ∀ k, k < n → -100 ≤ r.2.2.1 k ∧ r.2.2.1 k ≤ 100) : WF (J_fnd I r) (G_fnd F n r) n m en mk := by
  obtain ⟨⟨a1, a2, a3, a4, a5, a6⟩, w2, w3, w4, w5, w6, w7, w8, w9⟩ := h
  refine ⟨⟨a1, a2, a3, a4, a5, a6⟩, w2, w3, w4, w5, ?_, ?_, fun k hk => ?_, w9⟩
  · show 0 ≤ (Int32.ofInt (r.2.1 : Int)).toInt ∧ (Int32.ofInt (r.2.1 : Int)).toInt ≤ 300
    rw [ofN32 h1]; omega
  · show 0 ≤ (if r.1 = 1 then I 1 else I 32).toInt ∧ (if r.1 = 1 then I 1 else I 32).toInt ≤ n
    split
    · omega
    · exact w7
  · show -100 ≤ ((if r.1 = 1 then (fun k => if k < n then Int32.ofInt (r.2.2.1 k) else F 33 k) else F 33) k).toInt ∧ ((if r.1 = 1 then (fun k => if k < n then Int32.ofInt (r.2.2.1 k) else F 33 k) else F 33) k).toInt ≤ 100
    by_cases q : r.1 = 1
    · rw [if_pos q]
      by_cases z : k < n
      · simp only [if_pos z]
        have := h2 q k z
        rw [ofI32 this]
        exact this
      · simp only [if_neg z]; exact w8 k hk
    · rw [if_neg q]; exact w8 k hk
