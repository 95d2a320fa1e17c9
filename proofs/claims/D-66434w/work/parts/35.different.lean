/-! intervals that are full -/
/-- what Fx7 asks of one interval -/
def Flp (mb : Nat → Bool) (lo hi : Nat → Int) (p q : Int) : Prop := cnt 10 mb lo hi p q ≤ q - p + 1 ∧ (cnt 10 mb lo hi p q = q - p + 1 → ∀ j, j < 10 → mb j = true → ¬ (p ≤ lo j ∧ hi j ≤ q) → ¬ (p ≤ lo j ∧ lo j ≤ q) ∧ ¬ (p ≤ hi j ∧ hi j ≤ q))
theorem fil_le {mb : Nat → Bool} {n : Nat} {xl xh bl bh : Nat → Int} {p q : Int} (hm : ∀ j, j < 10 → mb j = true → j < n) (hs : Sb n bl bh xl xh) : cnt 10 mb xl xh p q ≤ cnt 10 mb bl bh p q :=
  cnt_mono (fun j hj hu h1 h2 => by have := hs j (hm j hj hu); exact ⟨hu, by omega, by omega⟩)
theorem fil_no {mb : Nat → Bool} {n : Nat} {xl xh : Nat → Int} {p q : Int} (hm : ∀ j, j < 10 → mb j = true → j < n) (hpq : p ≤ q) (h : q - p + 1 < cnt 10 mb xl xh p q) : No n (Fx7 mb) xl xh := fun bl bh hs _ hf => by
  have h1 := fil_le (p := p) (q := q) hm hs
  have h2 := (hf p q hpq).1
  omega
theorem fil_just {mb : Nat → Bool} {n k : Nat} {xl xh bl bh : Nat → Int} {p q : Int} (hm : ∀ j, j < 10 → mb j = true → j < n) (hpq : p ≤ q) (hc : cnt 10 mb xl xh p q = q - p + 1) (hk : k < 10) (hmk : mb k = true) (hw : ¬ (p ≤ xl k ∧ xh k ≤ q)) (hs : Sb n bl bh xl xh) (hf : Fx7 mb bl bh) : ¬ (p ≤ bl k ∧ bl k ≤ q) ∧ ¬ (p ≤ bh k ∧ bh k ≤ q) := by
  have h1 := hf p q hpq
  have hle := fil_le (p := p) (q := q) hm hs
  have heq : cnt 10 mb bl bh p q = q - p + 1 := by omega
  refine h1.2 heq k hk hmk (fun hb => ?_)
  have d1 := cnt_del (m := 10) (U := mb) (lo := bl) (hi := bh) (p := p) (q := q) (k := k) hk
  have d2 := cnt_del (m := 10) (U := mb) (lo := xl) (hi := xh) (p := p) (q := q) (k := k) hk
  rw [if_pos ⟨hmk, hb⟩] at d1
  rw [if_neg (fun h => hw h.2)] at d2
  have h3 : cnt 10 (fun j => mb j && (j != k)) xl xh p q ≤ cnt 10 (fun j => mb j && (j != k)) bl bh p q := cnt_mono (fun j hj hu h1 h2 => by
    rw [Bool.and_eq_true] at hu
    have := hs j (hm j hj hu.1)
    exact ⟨by rw [Bool.and_eq_true]; exact hu, by omega, by omega⟩)
  omega
theorem Fx7.cg {mb : Nat → Bool} {n : Nat} {xl xh yl yh : Nat → Int} (hm : ∀ j, j < 10 → mb j = true → j < n) (h : Fx7 mb xl xh) (e : Eqb n xl xh yl yh) : Fx7 mb yl yh := by
  have he : ∀ p q, cnt 10 mb xl xh p q = cnt 10 mb yl yh p q := fun p q =>
    Int.le_antisymm (cnt_mono (fun j hj hu h1 h2 => by have := e j (hm j hj hu); exact ⟨hu, by omega, by omega⟩)) (cnt_mono (fun j hj hu h1 h2 => by have := e j (hm j hj hu); exact ⟨hu, by omega, by omega⟩))
  intro p q hpq
  have := h p q hpq
  rw [he] at this
  refine ⟨this.1, fun hc j hj hu => ?_⟩
  have h2 := this.2 hc j hj hu
  have h3 := e j (hm j hj hu)
  rw [h3.1, h3.2] at h2
  exact h2
theorem Flp.cg {mb : Nat → Bool} {n : Nat} {xl xh yl yh : Nat → Int} {p q : Int} (hm : ∀ j, j < 10 → mb j = true → j < n) (h : Flp mb xl xh p q) (e : Eqb n xl xh yl yh) : Flp mb yl yh p q := by
  have he : cnt 10 mb xl xh p q = cnt 10 mb yl yh p q :=
    Int.le_antisymm (cnt_mono (fun j hj hu h1 h2 => by have := e j (hm j hj hu); exact ⟨hu, by omega, by omega⟩)) (cnt_mono (fun j hj hu h1 h2 => by have := e j (hm j hj hu); exact ⟨hu, by omega, by omega⟩))
  unfold Flp at *
  rw [he] at h
  refine ⟨h.1, fun hc j hj hu => ?_⟩
  have h2 := h.2 hc j hj hu
  have h3 := e j (hm j hj hu)
  rw [h3.1, h3.2] at h2
  exact h2
/-- the least of some cells' lows, the greatest of their highs -/
theorem ext_ex (m : Nat) (W : Nat → Prop) (lo : Nat → Int) (h : ∃ j, j < m ∧ W j) : ∃ i, i < m ∧ W i ∧ ∀ j, j < m → W j → lo i ≤ lo j := by
  induction m with
  | zero => obtain ⟨j, hj, _⟩ := h; omega
  | succ m ih =>
    by_cases hp : ∃ j, j < m ∧ W j
    · obtain ⟨i, hi, wi, hl⟩ := ih hp
      by_cases hw : W m ∧ lo m < lo i
      · refine ⟨m, by omega, hw.1, fun j hj wj => ?_⟩
        rcases (by omega : j < m ∨ j = m) with z | z
        · have := hl j z wj; omega
        · rw [z]; exact Int.le_refl _
      · refine ⟨i, by omega, wi, fun j hj wj => ?_⟩
        rcases (by omega : j < m ∨ j = m) with z | z
        · exact hl j z wj
        · subst z
          rcases (by omega : lo j < lo i ∨ lo i ≤ lo j) with q | q
          · exact absurd ⟨wj, q⟩ hw
          · exact q
    · obtain ⟨j, hj, wj⟩ := h
      have : j = m := by
        rcases (by omega : j < m ∨ j = m) with z | z
        · exact absurd ⟨j, z, wj⟩ hp
        · exact z
      subst this
      refine ⟨j, by omega, wj, fun i hi wi => ?_⟩
      rcases (by omega : i < j ∨ i = j) with z | z
      · exact absurd ⟨i, z, wi⟩ hp
      · rw [z]; exact Int.le_refl _
theorem Fx7.pairs {mb : Nat → Bool} {xl xh : Nat → Int} (hn : ∀ j, j < 10 → mb j = true → xl j ≤ xh j) (h : ∀ i j, i < 10 → j < 10 → mb i = true → mb j = true → xl i ≤ xh j → Flp mb xl xh (xl i) (xh j)) : Fx7 mb xl xh := by
  intro p q hpq
  by_cases hw : ∃ j, j < 10 ∧ (mb j = true ∧ p ≤ xl j ∧ xh j ≤ q)
  · obtain ⟨i, hi, wi, hl⟩ := ext_ex 10 (fun j => mb j = true ∧ p ≤ xl j ∧ xh j ≤ q) xl hw
    obtain ⟨j, hj, wj, hh⟩ := ext_ex 10 (fun j => mb j = true ∧ p ≤ xl j ∧ xh j ≤ q) (fun j => -(xh j)) hw
    have h0 := hh i hi wi
    have h1 := hn i hi wi.1
    have hF := h i j hi hj wi.1 wj.1 (by omega)
    have e : cnt 10 mb xl xh p q = cnt 10 mb xl xh (xl i) (xh j) := Int.le_antisymm (cnt_mono (fun k hk hu a1 a2 => by
        have b1 := hl k hk ⟨hu, a1, a2⟩
        have b2 := hh k hk ⟨hu, a1, a2⟩
        exact ⟨hu, by omega, by omega⟩)) (cnt_mono (fun k hk hu a1 a2 => ⟨hu, by have := wi.2.1; omega, by have := wj.2.2; omega⟩))
    have w1 := wi.2.1
    have w2 := wj.2.2
    have hF1 := hF.1
    refine ⟨by omega, fun hc => ?_⟩
    have e1 : xl i = p := by omega
    have e2 : xh j = q := by omega
    rw [e1, e2] at hF
    exact hF.2 hc
  · have h0 : cnt 10 mb xl xh p q = 0 := cnt_0 (fun j hj hq => hw ⟨j, hj, hq⟩)
    exact ⟨by omega, fun hc => by omega⟩
/-- two narrowings, one after the other -/
theorem PN.comb {n : Nat} {Fx : (Nat → Int) → (Nat → Int) → Prop} {p0l p0h xl xh yl yh : Nat → Int} {c0 c c' : Bool} (h : PN n Fx p0l p0h xl xh c0 c) (g : PN n Fx xl xh yl yh false c') : PN n Fx p0l p0h yl yh c0 (c || c') := by
  obtain ⟨h1, h2, h3, h4⟩ := h
  obtain ⟨g1, g2, g3, g4⟩ := g
  refine ⟨g1.tr h1, g2, fun bl bh hs hn hf => g3 bl bh (h3 bl bh hs hn hf) hn hf, ?_⟩
  rw [Bool.or_eq_true, h4, g4, or_assoc]
  constructor
  · rintro (q | q | q | q)
    · exact Or.inl q
    · refine Or.inr (fun e => q (fun k hk => ?_))
      have a1 := e k hk; have a2 := g1 k hk; have a3 := h1 k hk; omega
    · cases q
    · refine Or.inr (fun e => q (fun k hk => ?_))
      have a1 := e k hk; have a2 := g1 k hk; have a3 := h1 k hk; omega
  · rintro (q | q)
    · exact Or.inl q
    · by_cases e : Eqb n xl xh p0l p0h
      · refine Or.inr (Or.inr (Or.inr (fun e2 => q (fun k hk => ?_))))
        have a1 := e k hk; have a2 := e2 k hk; omega
      · exact Or.inr (Or.inl e)
/-- a narrowing goes on -/
theorem PN.on {n : Nat} {Fx : (Nat → Int) → (Nat → Int) → Prop} {p0l p0h xl xh yl yh : Nat → Int} {c0 c c' : Bool} (h : PN n Fx p0l p0h xl xh c0 c) (g : PN n Fx xl xh yl yh c c') : PN n Fx p0l p0h yl yh c0 c' := by
  obtain ⟨h1, h2, h3, h4⟩ := h
  obtain ⟨g1, g2, g3, g4⟩ := g
  refine ⟨g1.tr h1, g2, fun bl bh hs hn hf => g3 bl bh (h3 bl bh hs hn hf) hn hf, ?_⟩
  rw [g4, h4, or_assoc]
  constructor
  · rintro (q | q | q)
    · exact Or.inl q
    · refine Or.inr (fun e => q (fun k hk => ?_))
      have a1 := e k hk; have a2 := g1 k hk; have a3 := h1 k hk; omega
    · refine Or.inr (fun e => q (fun k hk => ?_))
      have a1 := e k hk; have a2 := g1 k hk; have a3 := h1 k hk; omega
  · rintro (q | q)
    · exact Or.inl q
    · by_cases e : Eqb n xl xh p0l p0h
      · refine Or.inr (Or.inr (fun e2 => q (fun k hk => ?_)))
        have a1 := e k hk; have a2 := e2 k hk; omega
      · exact Or.inr (Or.inl e)
theorem cnt_le {m : Nat} {U : Nat → Bool} {lo hi : Nat → Int} {p q : Int} : cnt m U lo hi p q ≤ m := by
  induction m with
  | zero => simp [cnt]
  | succ m ih => simp only [cnt]; split <;> omega
/-- fine, or there is a contradiction -/
def FI (n : Nat) (Fx : (Nat → Int) → (Nat → Int) → Prop) (xl xh yl yh : Nat → Int) (fn c0 c : Bool) : Prop := Sb n yl yh xl xh ∧ (fn = true → PN n Fx xl xh yl yh c0 c) ∧ (fn = false → No n Fx xl xh)
theorem FI.cut {n k : Nat} {Fx : (Nat → Int) → (Nat → Int) → Prop} {xl xh yl yh wl wh : Nat → Int} {fn c0 c c' : Bool} {a b : Int} (h : FI n Fx xl xh yl yh fn c0 c) (hk : k < n) (hc : Cutb n yl yh k a b wl wh) (hcc : c' = (c || decide (yl k < a ∨ b < yh k))) (hj : ∀ bl bh, Sb n bl bh yl yh → Ne n bl bh → Fx bl bh → a ≤ bl k ∧ bh k ≤ b) : FI n Fx xl xh wl wh (fn && decide (wl k ≤ wh k)) c0 c' := by
  refine ⟨hc.sb.tr h.1, fun hq => ?_, fun hq => ?_⟩
  · rw [Bool.and_eq_true, decide_eq_true_eq] at hq
    exact ((h.2.1 hq.1).cut hk hc hcc hj).1 hq.2
  · cases hf : fn with
    | false => exact h.2.2 hf
    | true =>
      rw [hf, Bool.true_and, decide_eq_false_iff_not] at hq
      exact ((h.2.1 hf).cut hk hc hcc hj).2 hq
theorem d_Different_has_0 : decode b_Different_has 0 = .ok (.aload_n 0, 1) := by decide +kernel
theorem d_Different_has_1 : decode b_Different_has 1 = .ok (.getfield 9, 3) := by decide +kernel
theorem d_Different_has_4 : decode b_Different_has 4 = .ok (.iload_n 1, 1) := by decide +kernel
theorem d_Different_has_5 : decode b_Different_has 5 = .ok (.ishr, 1) := by decide +kernel
theorem d_Different_has_6 : decode b_Different_has 6 = .ok (.iconst 1, 1) := by decide +kernel
theorem d_Different_has_7 : decode b_Different_has 7 = .ok (.iand, 1) := by decide +kernel
theorem d_Different_has_8 : decode b_Different_has 8 = .ok (.iconst 1, 1) := by decide +kernel
theorem d_Different_has_9 : decode b_Different_has 9 = .ok (.if_icmp .ne 7, 3) := by decide +kernel
theorem d_Different_has_12 : decode b_Different_has 12 = .ok (.iconst 1, 1) := by decide +kernel
theorem d_Different_has_13 : decode b_Different_has 13 = .ok (.goto 4, 3) := by decide +kernel
theorem d_Different_has_16 : decode b_Different_has 16 = .ok (.iconst 0, 1) := by decide +kernel
theorem d_Different_has_17 : decode b_Different_has 17 = .ok (.ireturn, 1) := by decide +kernel
set_option maxHeartbeats 4000000 in
set_option maxRecDepth 20000 in
theorem k_Different_has (l : Launch) (D : va_G) (cA : Nat → ClassId) (adr : Nat → Nat) (N : List Nat) (hi : wI N adr) (cn : Nat → va_E) (t : Nat) (xm : Int32) (gd : Bool) (hT : cn t = .inr (5, [.int xm, .int (bi gd)])) (hN : t ∈ N) (mk : Nat) (hxm : xm.toInt = (mk : Int)) (kx : Nat) (xk : Int32) (hxk : xk.toInt = (kx : Int)) (hk : kx < 10) : Ct l y_Different_has b_Different_has 2 (some .boolean) 1 D cA [.ref (adr t), .int xk] (fun H => va_P D classes (wl N adr cn) H) (fun r H => r = some (.int (bi (mk.testBit kx))) ∧ va_P D classes (wl N adr cn) H) (wA N adr) := by
  refine Ct.mk (by decide) (Nat.le_of_ble_eq_true rfl) ?_
  intro p e s m args below meth c Q H locs ls hx hb hr hml hlk hown hin hK hQ hS hP hl
  have hl : lv_has ls 2 [(0, .ref (adr t)), (1, .int xk)] := hl
  have hown : s.vm.findClass "RangeSheet$Different" = some m.cls := hown
  refine lv_aload_n hx hb d_Different_has_0 rfl (lv_at hl 0 rfl) ?_
  refine w_gf hx hb hK i_Different hown hP hN hT rfl 0 (by decide) t_650 rfl rfl d_Different_has_1 ?_
  refine lv_iload_n hx hb d_Different_has_4 rfl (lv_at hl 1 rfl) ?_
  refine lv_ishr hx hb d_Different_has_5 ?_
  refine lv_iconst (v := 1) hx hb d_Different_has_6 (by decide) ?_
  refine x_bit hx hb d_Different_has_7 hxm hxk (by omega) (by omega) ?_
  refine lv_iconst (v := 1) hx hb d_Different_has_8 (by decide) ?_
  have K_201 : ∀ (b_201_0 : Bool), (b_201_0 = true ↔ (hasN (mk : Int) (kx : Int)) = true) → W p l e (rl 1) s m args below meth c H locs 0 0 Q (F0 m 17 ls [.int (bi b_201_0)]) := by
    intro b_201_0 hb_201_0
    refine e_z hx hb hr hlk hQ hS d_Different_has_17 ?_
    exact ⟨by rw [show b_201_0 = mk.testBit kx from by rw [Bool.eq_iff_iff, hb_201_0, hasN_nat]], hP⟩
  refine b1_icmp_ne (tgt := 16) hx hb d_Different_has_9 (by decide) (fun c_202 => ?_) (fun c_202 => ?_)
  · refine lv_iconst (v := 0) hx hb d_Different_has_16 (by decide) ?_
    exact K_201 false ⟨fun h => absurd h (by decide), fun h => absurd h (by first | omega | (simp [c_202]; done) | (simp [c_202]; omega) | (simp only [decide_eq_true_eq, decide_eq_false_iff_not]; omega))⟩
  · refine lv_iconst (v := 1) hx hb d_Different_has_12 (by decide) ?_
    refine lv_goto (tgt := 17) hx hb d_Different_has_13 (by decide) ?_
    exact K_201 true ⟨fun _ => by first | omega | (simp [c_202]; done) | (simp [c_202]; omega) | (simp only [decide_eq_true_eq, decide_eq_false_iff_not]; omega), fun _ => rfl⟩
theorem d_Different_isWithin_0 : decode b_Different_isWithin 0 = .ok (.aload_n 0, 1) := by decide +kernel
theorem d_Different_isWithin_1 : decode b_Different_isWithin 1 = .ok (.iload_n 2, 1) := by decide +kernel
theorem d_Different_isWithin_2 : decode b_Different_isWithin 2 = .ok (.invokevirtual 15, 3) := by decide +kernel
theorem d_Different_isWithin_5 : decode b_Different_isWithin 5 = .ok (.ifCond .eq 28, 3) := by decide +kernel
theorem d_Different_isWithin_8 : decode b_Different_isWithin 8 = .ok (.aload_n 1, 1) := by decide +kernel
theorem d_Different_isWithin_9 : decode b_Different_isWithin 9 = .ok (.getfield 19, 3) := by decide +kernel
theorem d_Different_isWithin_12 : decode b_Different_isWithin 12 = .ok (.iload_n 2, 1) := by decide +kernel
theorem d_Different_isWithin_13 : decode b_Different_isWithin 13 = .ok (.iaload, 1) := by decide +kernel
theorem d_Different_isWithin_14 : decode b_Different_isWithin 14 = .ok (.iload_n 3, 1) := by decide +kernel
theorem d_Different_isWithin_15 : decode b_Different_isWithin 15 = .ok (.if_icmp .lt 18, 3) := by decide +kernel
theorem d_Different_isWithin_18 : decode b_Different_isWithin 18 = .ok (.aload_n 1, 1) := by decide +kernel
theorem d_Different_isWithin_19 : decode b_Different_isWithin 19 = .ok (.getfield 25, 3) := by decide +kernel
theorem d_Different_isWithin_22 : decode b_Different_isWithin 22 = .ok (.iload_n 2, 1) := by decide +kernel
theorem d_Different_isWithin_23 : decode b_Different_isWithin 23 = .ok (.iaload, 1) := by decide +kernel
theorem d_Different_isWithin_24 : decode b_Different_isWithin 24 = .ok (.iload 4, 2) := by decide +kernel
theorem d_Different_isWithin_26 : decode b_Different_isWithin 26 = .ok (.if_icmp .gt 7, 3) := by decide +kernel
theorem d_Different_isWithin_29 : decode b_Different_isWithin 29 = .ok (.iconst 1, 1) := by decide +kernel
theorem d_Different_isWithin_30 : decode b_Different_isWithin 30 = .ok (.goto 4, 3) := by decide +kernel
theorem d_Different_isWithin_33 : decode b_Different_isWithin 33 = .ok (.iconst 0, 1) := by decide +kernel
theorem d_Different_isWithin_34 : decode b_Different_isWithin 34 = .ok (.ireturn, 1) := by decide +kernel
set_option maxHeartbeats 4000000 in
set_option maxRecDepth 20000 in
theorem k_Different_isWithin (l : Launch) (D : va_G) (cA : Nat → ClassId) (adr : Nat → Nat) (N : List Nat) (hi : wI N adr) (cn : Nat → va_E) (t : Nat) (xm : Int32) (gd : Bool) (hT : cn t = .inr (5, [.int xm, .int (bi gd)])) (hN : t ∈ N) (mk : Nat) (hxm : xm.toInt = (mk : Int)) (b : Nat) (f g : Nat → Int32) (ch : Bool) (hB : BP cA adr cn b f g ch) (hMb : BM N b) (hdt : t ≠ b ∧ t ≠ b + 1 ∧ t ≠ b + 2) (kx : Nat) (xk xp xq : Int32) (hxk : xk.toInt = (kx : Int)) (hk : kx < 10) : Ct l y_Different_isWithin b_Different_isWithin 5 (some .boolean) 3 D cA [.ref (adr t), .ref (adr b), .int xk, .int xp, .int xq] (fun H => va_P D classes (wl N adr cn) H) (fun r H => r = some (.int (bi (decide (mk.testBit kx = true ∧ xp.toInt ≤ (f kx).toInt ∧ (g kx).toInt ≤ xq.toInt)))) ∧ va_P D classes (wl N adr cn) H) (wA N adr) := by
  refine Ct.mk (by decide) (Nat.le_of_ble_eq_true rfl) ?_
  intro p e s m args below meth c Q H locs ls hx hb hr hml hlk hown hin hK hQ hS hP hl
  have hl : lv_has ls 5 [(0, .ref (adr t)), (1, .ref (adr b)), (2, .int xk), (3, .int xp), (4, .int xq)] := hl
  have hown : s.vm.findClass "RangeSheet$Different" = some m.cls := hown
  refine lv_aload_n hx hb d_Different_isWithin_0 rfl (lv_at hl 0 rfl) ?_
  refine lv_iload_n hx hb d_Different_isWithin_1 rfl (lv_at hl 2 rfl) ?_
  refine x_V (As := [.int xk]) (rest := []) hx hb hml hown hK (k_Different_has l D cA adr N hi cn t xm gd hT hN mk hxm kx xk hxk (by omega)) t_205 t_19 t_202 t_204 ts_3 yk_Different_has ⟨Nat.le_of_ble_eq_true rfl, Nat.le_of_ble_eq_true rfl⟩ (w_rec hK hP hN hT rfl) hP rfl hl.1 rfl (Nat.le_of_ble_eq_true rfl) d_Different_isWithin_2 ⟨Nat.le_of_ble_eq_true rfl, Nat.le_of_ble_eq_true rfl⟩ hS (fun q h => h) (fun r H locs hq _ hS => ?_)
  obtain ⟨rfl, hP⟩ := hq
  refine W.eq (g2 := F0 m 5 ls [.int (bi (mk.testBit kx))]) rfl ?_
  refine b_bool_eq (tgt := 33) hx hb d_Different_isWithin_5 (by decide) (fun c_1 => ?_) (fun c_1 => ?_)
  · refine lv_iconst (v := 0) hx hb d_Different_isWithin_33 (by decide) ?_
    refine W.eq (g2 := F0 m 34 ls [.int (bi false)]) rfl ?_
    refine e_z hx hb hr hlk hQ hS d_Different_isWithin_34 ?_
    exact ⟨by rw [decide_eq_false (fun h => by have := h.1; rw [c_1] at this; cases this)], hP⟩
  · refine lv_aload_n hx hb d_Different_isWithin_8 rfl (lv_at hl 1 rfl) ?_
    refine w_gfN hx hb hK i_Box hown hP hMb.1 hB.1 rfl 0 (by decide) t_40 rfl rfl d_Different_isWithin_9 ?_
    refine lv_iload_n hx hb d_Different_isWithin_12 rfl (lv_at hl 2 rfl) ?_
    refine w_ld hx hb hK hP hMb.2.1 hB.2.1 (kx) hxk (by omega) (show kx < 10 by omega) d_Different_isWithin_13 (fun z_2 ez_2 => ?_)
    subst ez_2
    refine lv_iload_n hx hb d_Different_isWithin_14 rfl (lv_at hl 3 rfl) ?_
    refine b_icmp_lt (tgt := 33) hx hb d_Different_isWithin_15 (by decide) rfl rfl (fun c_3 => ?_) (fun c_3 => ?_)
    · refine lv_iconst (v := 0) hx hb d_Different_isWithin_33 (by decide) ?_
      refine W.eq (g2 := F0 m 34 ls [.int (bi false)]) rfl ?_
      refine e_z hx hb hr hlk hQ hS d_Different_isWithin_34 ?_
      exact ⟨by rw [decide_eq_false (fun h => by have := h.2; omega)], hP⟩
    · refine lv_aload_n hx hb d_Different_isWithin_18 rfl (lv_at hl 1 rfl) ?_
      refine w_gfN hx hb hK i_Box hown hP hMb.1 hB.1 rfl 1 (by decide) t_46 rfl rfl d_Different_isWithin_19 ?_
      refine lv_iload_n hx hb d_Different_isWithin_22 rfl (lv_at hl 2 rfl) ?_
      refine w_ld hx hb hK hP hMb.2.2 hB.2.2 (kx) hxk (by omega) (show kx < 10 by omega) d_Different_isWithin_23 (fun z_4 ez_4 => ?_)
      subst ez_4
      refine lv_iload hx hb d_Different_isWithin_24 (lv_at hl 4 rfl) ?_
      refine b_icmp_gt (tgt := 33) hx hb d_Different_isWithin_26 (by decide) rfl rfl (fun c_5 => ?_) (fun c_5 => ?_)
      · refine lv_iconst (v := 0) hx hb d_Different_isWithin_33 (by decide) ?_
        refine W.eq (g2 := F0 m 34 ls [.int (bi false)]) rfl ?_
        refine e_z hx hb hr hlk hQ hS d_Different_isWithin_34 ?_
        exact ⟨by rw [decide_eq_false (fun h => by have := h.2; omega)], hP⟩
      · refine lv_iconst (v := 1) hx hb d_Different_isWithin_29 (by decide) ?_
        refine lv_goto (tgt := 34) hx hb d_Different_isWithin_30 (by decide) ?_
        refine W.eq (g2 := F0 m 34 ls [.int (bi true)]) rfl ?_
        refine e_z hx hb hr hlk hQ hS d_Different_isWithin_34 ?_
        exact ⟨by rw [decide_eq_true ⟨c_1, by omega, by omega⟩], hP⟩
theorem d_Different_fill_0 : decode b_Different_fill 0 = .ok (.iconst 0, 1) := by decide +kernel
theorem d_Different_fill_1 : decode b_Different_fill 1 = .ok (.istore 4, 2) := by decide +kernel
theorem d_Different_fill_3 : decode b_Different_fill 3 = .ok (.iconst 0, 1) := by decide +kernel
theorem d_Different_fill_4 : decode b_Different_fill 4 = .ok (.istore 5, 2) := by decide +kernel
theorem d_Different_fill_6 : decode b_Different_fill 6 = .ok (.iload 5, 2) := by decide +kernel
theorem d_Different_fill_8 : decode b_Different_fill 8 = .ok (.bipush 10, 2) := by decide +kernel
theorem d_Different_fill_10 : decode b_Different_fill 10 = .ok (.if_icmp .ge 31, 3) := by decide +kernel
theorem d_Different_fill_13 : decode b_Different_fill 13 = .ok (.iload 4, 2) := by decide +kernel
theorem d_Different_fill_15 : decode b_Different_fill 15 = .ok (.aload_n 0, 1) := by decide +kernel
theorem d_Different_fill_16 : decode b_Different_fill 16 = .ok (.aload_n 1, 1) := by decide +kernel
theorem d_Different_fill_17 : decode b_Different_fill 17 = .ok (.iload 5, 2) := by decide +kernel
theorem d_Different_fill_19 : decode b_Different_fill 19 = .ok (.iload_n 2, 1) := by decide +kernel
theorem d_Different_fill_20 : decode b_Different_fill 20 = .ok (.iload_n 3, 1) := by decide +kernel
theorem d_Different_fill_21 : decode b_Different_fill 21 = .ok (.invokevirtual 28, 3) := by decide +kernel
theorem d_Different_fill_24 : decode b_Different_fill 24 = .ok (.ifCond .eq 7, 3) := by decide +kernel
theorem d_Different_fill_27 : decode b_Different_fill 27 = .ok (.iconst 1, 1) := by decide +kernel
theorem d_Different_fill_28 : decode b_Different_fill 28 = .ok (.goto 4, 3) := by decide +kernel
theorem d_Different_fill_31 : decode b_Different_fill 31 = .ok (.iconst 0, 1) := by decide +kernel
theorem d_Different_fill_32 : decode b_Different_fill 32 = .ok (.iadd, 1) := by decide +kernel
theorem d_Different_fill_33 : decode b_Different_fill 33 = .ok (.istore 4, 2) := by decide +kernel
theorem d_Different_fill_35 : decode b_Different_fill 35 = .ok (.iinc 5 1, 3) := by decide +kernel
theorem d_Different_fill_38 : decode b_Different_fill 38 = .ok (.goto (-32), 3) := by decide +kernel
theorem d_Different_fill_41 : decode b_Different_fill 41 = .ok (.iload 4, 2) := by decide +kernel
theorem d_Different_fill_43 : decode b_Different_fill 43 = .ok (.iload_n 3, 1) := by decide +kernel
theorem d_Different_fill_44 : decode b_Different_fill 44 = .ok (.iload_n 2, 1) := by decide +kernel
theorem d_Different_fill_45 : decode b_Different_fill 45 = .ok (.isub, 1) := by decide +kernel
theorem d_Different_fill_46 : decode b_Different_fill 46 = .ok (.iconst 1, 1) := by decide +kernel
theorem d_Different_fill_47 : decode b_Different_fill 47 = .ok (.iadd, 1) := by decide +kernel
theorem d_Different_fill_48 : decode b_Different_fill 48 = .ok (.if_icmp .le 5, 3) := by decide +kernel
theorem d_Different_fill_51 : decode b_Different_fill 51 = .ok (.iconst 0, 1) := by decide +kernel
theorem d_Different_fill_52 : decode b_Different_fill 52 = .ok (.ireturn, 1) := by decide +kernel
theorem d_Different_fill_53 : decode b_Different_fill 53 = .ok (.iconst 1, 1) := by decide +kernel
theorem d_Different_fill_54 : decode b_Different_fill 54 = .ok (.istore 5, 2) := by decide +kernel
theorem d_Different_fill_56 : decode b_Different_fill 56 = .ok (.iconst 0, 1) := by decide +kernel
theorem d_Different_fill_57 : decode b_Different_fill 57 = .ok (.istore 6, 2) := by decide +kernel
theorem d_Different_fill_59 : decode b_Different_fill 59 = .ok (.iload 6, 2) := by decide +kernel
theorem d_Different_fill_61 : decode b_Different_fill 61 = .ok (.bipush 10, 2) := by decide +kernel
theorem d_Different_fill_63 : decode b_Different_fill 63 = .ok (.if_icmp .ge 129, 3) := by decide +kernel
theorem d_Different_fill_66 : decode b_Different_fill 66 = .ok (.iload 4, 2) := by decide +kernel
theorem d_Different_fill_68 : decode b_Different_fill 68 = .ok (.iload_n 3, 1) := by decide +kernel
theorem d_Different_fill_69 : decode b_Different_fill 69 = .ok (.iload_n 2, 1) := by decide +kernel
theorem d_Different_fill_70 : decode b_Different_fill 70 = .ok (.isub, 1) := by decide +kernel
theorem d_Different_fill_71 : decode b_Different_fill 71 = .ok (.iconst 1, 1) := by decide +kernel
theorem d_Different_fill_72 : decode b_Different_fill 72 = .ok (.iadd, 1) := by decide +kernel
theorem d_Different_fill_73 : decode b_Different_fill 73 = .ok (.if_icmp .ne 119, 3) := by decide +kernel
theorem d_Different_fill_76 : decode b_Different_fill 76 = .ok (.aload_n 0, 1) := by decide +kernel
theorem d_Different_fill_77 : decode b_Different_fill 77 = .ok (.iload 6, 2) := by decide +kernel
theorem d_Different_fill_79 : decode b_Different_fill 79 = .ok (.invokevirtual 15, 3) := by decide +kernel
theorem d_Different_fill_82 : decode b_Different_fill 82 = .ok (.ifCond .eq 104, 3) := by decide +kernel
theorem d_Different_fill_85 : decode b_Different_fill 85 = .ok (.aload_n 0, 1) := by decide +kernel
theorem d_Different_fill_86 : decode b_Different_fill 86 = .ok (.aload_n 1, 1) := by decide +kernel
theorem d_Different_fill_87 : decode b_Different_fill 87 = .ok (.iload 6, 2) := by decide +kernel
theorem d_Different_fill_89 : decode b_Different_fill 89 = .ok (.iload_n 2, 1) := by decide +kernel
theorem d_Different_fill_90 : decode b_Different_fill 90 = .ok (.iload_n 3, 1) := by decide +kernel
theorem d_Different_fill_91 : decode b_Different_fill 91 = .ok (.invokevirtual 28, 3) := by decide +kernel
theorem d_Different_fill_94 : decode b_Different_fill 94 = .ok (.ifCond .eq 6, 3) := by decide +kernel
theorem d_Different_fill_97 : decode b_Different_fill 97 = .ok (.goto 89, 3) := by decide +kernel
theorem d_Different_fill_100 : decode b_Different_fill 100 = .ok (.aload_n 1, 1) := by decide +kernel
theorem d_Different_fill_101 : decode b_Different_fill 101 = .ok (.getfield 19, 3) := by decide +kernel
theorem d_Different_fill_104 : decode b_Different_fill 104 = .ok (.iload 6, 2) := by decide +kernel
theorem d_Different_fill_106 : decode b_Different_fill 106 = .ok (.iaload, 1) := by decide +kernel
theorem d_Different_fill_107 : decode b_Different_fill 107 = .ok (.iload_n 2, 1) := by decide +kernel
theorem d_Different_fill_108 : decode b_Different_fill 108 = .ok (.if_icmp .lt 35, 3) := by decide +kernel
theorem d_Different_fill_111 : decode b_Different_fill 111 = .ok (.aload_n 1, 1) := by decide +kernel
theorem d_Different_fill_112 : decode b_Different_fill 112 = .ok (.getfield 19, 3) := by decide +kernel
theorem d_Different_fill_115 : decode b_Different_fill 115 = .ok (.iload 6, 2) := by decide +kernel
theorem d_Different_fill_117 : decode b_Different_fill 117 = .ok (.iaload, 1) := by decide +kernel
theorem d_Different_fill_118 : decode b_Different_fill 118 = .ok (.iload_n 3, 1) := by decide +kernel
theorem d_Different_fill_119 : decode b_Different_fill 119 = .ok (.if_icmp .gt 24, 3) := by decide +kernel
theorem d_Different_fill_122 : decode b_Different_fill 122 = .ok (.iload 5, 2) := by decide +kernel
theorem d_Different_fill_124 : decode b_Different_fill 124 = .ok (.aload_n 1, 1) := by decide +kernel
theorem d_Different_fill_125 : decode b_Different_fill 125 = .ok (.iload 6, 2) := by decide +kernel
theorem d_Different_fill_127 : decode b_Different_fill 127 = .ok (.iload_n 3, 1) := by decide +kernel
theorem d_Different_fill_128 : decode b_Different_fill 128 = .ok (.iconst 1, 1) := by decide +kernel
theorem d_Different_fill_129 : decode b_Different_fill 129 = .ok (.iadd, 1) := by decide +kernel
theorem d_Different_fill_130 : decode b_Different_fill 130 = .ok (.aload_n 1, 1) := by decide +kernel
theorem d_Different_fill_131 : decode b_Different_fill 131 = .ok (.getfield 25, 3) := by decide +kernel
theorem d_Different_fill_134 : decode b_Different_fill 134 = .ok (.iload 6, 2) := by decide +kernel
theorem d_Different_fill_136 : decode b_Different_fill 136 = .ok (.iaload, 1) := by decide +kernel
theorem d_Different_fill_137 : decode b_Different_fill 137 = .ok (.invokevirtual 32, 3) := by decide +kernel
theorem d_Different_fill_140 : decode b_Different_fill 140 = .ok (.iand, 1) := by decide +kernel
theorem d_Different_fill_141 : decode b_Different_fill 141 = .ok (.istore 5, 2) := by decide +kernel
theorem d_Different_fill_143 : decode b_Different_fill 143 = .ok (.aload_n 1, 1) := by decide +kernel
theorem d_Different_fill_144 : decode b_Different_fill 144 = .ok (.getfield 25, 3) := by decide +kernel
theorem d_Different_fill_147 : decode b_Different_fill 147 = .ok (.iload 6, 2) := by decide +kernel
theorem d_Different_fill_149 : decode b_Different_fill 149 = .ok (.iaload, 1) := by decide +kernel
theorem d_Different_fill_150 : decode b_Different_fill 150 = .ok (.iload_n 2, 1) := by decide +kernel
theorem d_Different_fill_151 : decode b_Different_fill 151 = .ok (.if_icmp .lt 35, 3) := by decide +kernel
theorem d_Different_fill_154 : decode b_Different_fill 154 = .ok (.aload_n 1, 1) := by decide +kernel
theorem d_Different_fill_155 : decode b_Different_fill 155 = .ok (.getfield 25, 3) := by decide +kernel
theorem d_Different_fill_158 : decode b_Different_fill 158 = .ok (.iload 6, 2) := by decide +kernel
theorem d_Different_fill_160 : decode b_Different_fill 160 = .ok (.iaload, 1) := by decide +kernel
theorem d_Different_fill_161 : decode b_Different_fill 161 = .ok (.iload_n 3, 1) := by decide +kernel
theorem d_Different_fill_162 : decode b_Different_fill 162 = .ok (.if_icmp .gt 24, 3) := by decide +kernel
theorem d_Different_fill_165 : decode b_Different_fill 165 = .ok (.iload 5, 2) := by decide +kernel
theorem d_Different_fill_167 : decode b_Different_fill 167 = .ok (.aload_n 1, 1) := by decide +kernel
theorem d_Different_fill_168 : decode b_Different_fill 168 = .ok (.iload 6, 2) := by decide +kernel
theorem d_Different_fill_170 : decode b_Different_fill 170 = .ok (.aload_n 1, 1) := by decide +kernel
theorem d_Different_fill_171 : decode b_Different_fill 171 = .ok (.getfield 19, 3) := by decide +kernel
theorem d_Different_fill_174 : decode b_Different_fill 174 = .ok (.iload 6, 2) := by decide +kernel
theorem d_Different_fill_176 : decode b_Different_fill 176 = .ok (.iaload, 1) := by decide +kernel
theorem d_Different_fill_177 : decode b_Different_fill 177 = .ok (.iload_n 2, 1) := by decide +kernel
theorem d_Different_fill_178 : decode b_Different_fill 178 = .ok (.iconst 1, 1) := by decide +kernel
theorem d_Different_fill_179 : decode b_Different_fill 179 = .ok (.isub, 1) := by decide +kernel
theorem d_Different_fill_180 : decode b_Different_fill 180 = .ok (.invokevirtual 32, 3) := by decide +kernel
theorem d_Different_fill_183 : decode b_Different_fill 183 = .ok (.iand, 1) := by decide +kernel
theorem d_Different_fill_184 : decode b_Different_fill 184 = .ok (.istore 5, 2) := by decide +kernel
theorem d_Different_fill_186 : decode b_Different_fill 186 = .ok (.iinc 6 1, 3) := by decide +kernel
theorem d_Different_fill_189 : decode b_Different_fill 189 = .ok (.goto (-130), 3) := by decide +kernel
theorem d_Different_fill_192 : decode b_Different_fill 192 = .ok (.iload 5, 2) := by decide +kernel
theorem d_Different_fill_194 : decode b_Different_fill 194 = .ok (.ireturn, 1) := by decide +kernel
set_option maxHeartbeats 4000000 in
set_option maxRecDepth 20000 in
theorem k_Different_fill (l : Launch) (D : va_G) (cA : Nat → ClassId) (adr : Nat → Nat) (N : List Nat) (hi : wI N adr) (cn : Nat → va_E) (t : Nat) (xm : Int32) (gd : Bool) (hT : cn t = .inr (5, [.int xm, .int (bi gd)])) (hN : t ∈ N) (mk : Nat) (hxm : xm.toInt = (mk : Int)) (b : Nat) (f g : Nat → Int32) (ch : Bool) (hB : BP cA adr cn b f g ch) (hMb : BM N b) (hdt : t ≠ b ∧ t ≠ b + 1 ∧ t ≠ b + 2) (nn : Nat) (hn10 : nn ≤ 10) (hne : Ne nn (tI f) (tI g)) (hrg : ∀ k, k < nn → -100 ≤ tI f k ∧ tI g k ≤ 100) (hm : ∀ j, j < 10 → mk.testBit j = true → j < nn) (xp xq : Int32) (hpq : xp.toInt ≤ xq.toInt) (hpr : -100 ≤ xp.toInt ∧ xq.toInt ≤ 100) : Ct l y_Different_fill b_Different_fill 7 (some .boolean) 5 D cA [.ref (adr t), .ref (adr b), .int xp, .int xq] (fun H => va_P D classes (wl N adr cn) H) (fun r H => ∃ (cn2 : Nat → va_E) (f2 g2 : Nat → Int32) (q c2 : Bool), r = some (.int (bi q)) ∧ FrB b cn cn2 ∧ BP cA adr cn2 b f2 g2 c2 ∧ Sb nn (tI f2) (tI g2) (tI f) (tI g) ∧ (q = true → PN nn (Fx7 (fun j => mk.testBit j)) (tI f) (tI g) (tI f2) (tI g2) ch c2 ∧ (Eqb nn (tI f2) (tI g2) (tI f) (tI g) → Flp (fun j => mk.testBit j) (tI f) (tI g) xp.toInt xq.toInt)) ∧ (q = false → No nn (Fx7 (fun j => mk.testBit j)) (tI f) (tI g)) ∧ va_P D classes (wl N adr cn2) H) (wA N adr) := by
  refine Ct.mk (by decide) (Nat.le_of_ble_eq_true rfl) ?_
  intro p e s m args below meth c Q H locs ls hx hb hr hml hlk hown hin hK hQ hS hP hl
  have hl : lv_has ls 7 [(0, .ref (adr t)), (1, .ref (adr b)), (2, .int xp), (3, .int xq)] := hl
  have hown : s.vm.findClass "RangeSheet$Different" = some m.cls := hown
  refine lv_iconst (v := 0) hx hb d_Different_fill_0 (by decide) ?_
  refine lv_istore (lv' := [(4, .int (0 : Int32)), (0, .ref (adr t)), (1, .ref (adr b)), (2, .int xp), (3, .int xq)]) hx hb d_Different_fill_1 hl (by decide) rfl (fun ls hl => ?_)
  refine lv_iconst (v := 0) hx hb d_Different_fill_3 (by decide) ?_
  refine lv_istore (lv' := [(5, .int (0 : Int32)), (4, .int (0 : Int32)), (0, .ref (adr t)), (1, .ref (adr b)), (2, .int xp), (3, .int xq)]) hx hb d_Different_fill_4 hl (by decide) rfl (fun ls hl => ?_)
  have L_1 : ∀ (n : Nat) (kx : Nat) (x4 : Int32) (x5 : Int32) (H : Heap) (locs : List Loc) (ls : Array Slot), (10 - kx) < n → (kx ≤ 10) → (x4.toInt = cnt kx (fun j => mk.testBit j) (tI f) (tI g) xp.toInt xq.toInt) → (x5.toInt = (kx : Int)) → va_P D classes (wl N adr cn) H → va_S (wA N adr) s.heap H locs → lv_has ls 7 [(0, .ref (adr t)), (1, .ref (adr b)), (2, .int xp), (3, .int xq), (4, .int x4), (5, .int x5)] → W p l e (rl 5) s m args below meth c H locs 0 0 Q (F0 m 6 ls []) := by
    intro n
    induction n with
    | zero => intro kx x4 x5 H locs ls hmu; exact absurd hmu (Nat.not_lt_zero _)
    | succ n ih_1 =>
      intro kx x4 x5 H locs ls hmu hkx h4 h5 hP hS hl
      have hcl := cnt_le (m := kx) (U := (fun j => mk.testBit j)) (lo := tI f) (hi := tI g) (p := xp.toInt) (q := xq.toInt); have hcn := cnt_nn (m := kx) (U := (fun j => mk.testBit j)) (lo := tI f) (hi := tI g) (p := xp.toInt) (q := xq.toInt)
      refine lv_iload hx hb d_Different_fill_6 (lv_at hl 5 rfl) ?_
      refine lv_bipush (v := 10) hx hb d_Different_fill_8 (by decide) ?_
      refine b_icmp_ge (tgt := 41) hx hb d_Different_fill_10 (by decide) h5 kc_10 (fun c_2 => ?_) (fun c_2 => ?_)
      · have hke : kx = 10 := by omega
        subst hke
        have hn4 := h4
        refine lv_iload hx hb d_Different_fill_41 (lv_at hl 4 rfl) ?_
        refine lv_iload_n hx hb d_Different_fill_43 rfl (lv_at hl 3 rfl) ?_
        refine lv_iload_n hx hb d_Different_fill_44 rfl (lv_at hl 2 rfl) ?_
        refine x_sub hx hb d_Different_fill_45 rfl rfl (by omega) (fun z_3 tz_3 => ?_)
        refine lv_iconst (v := 1) hx hb d_Different_fill_46 (by decide) ?_
        refine x_add hx hb d_Different_fill_47 tz_3 kc_1 (by omega) (fun z_4 tz_4 => ?_)
        refine b_icmp_le (tgt := 53) hx hb d_Different_fill_48 (by decide) h4 tz_4 (fun c_5 => ?_) (fun c_5 => ?_)
        · refine lv_iconst (v := 1) hx hb d_Different_fill_53 (by decide) ?_
          refine lv_istore (lv' := [(5, .int (1 : Int32)), (0, .ref (adr t)), (1, .ref (adr b)), (2, .int xp), (3, .int xq), (4, .int x4)]) hx hb d_Different_fill_54 hl (by decide) rfl (fun ls hl => ?_)
          refine lv_iconst (v := 0) hx hb d_Different_fill_56 (by decide) ?_
          refine lv_istore (lv' := [(6, .int (0 : Int32)), (5, .int (1 : Int32)), (0, .ref (adr t)), (1, .ref (adr b)), (2, .int xp), (3, .int xq), (4, .int x4)]) hx hb d_Different_fill_57 hl (by decide) rfl (fun ls hl => ?_)
          have L_6 : ∀ (n : Nat) (kz : Nat) (x6 : Int32) (fn : Bool) (cn1 : Nat → va_E) (f1 : Nat → Int32) (g1 : Nat → Int32) (c1 : Bool) (H : Heap) (locs : List Loc) (ls : Array Slot), (10 - kz) < n → (kz ≤ 10) → (x6.toInt = (kz : Int)) → (FrB b cn cn1) → (cn1 t = .inr (5, [.int xm, .int (bi gd)])) → (BP cA adr cn1 b f1 g1 c1) → (FI nn (Fx7 (fun j => mk.testBit j)) (tI f) (tI g) (tI f1) (tI g1) fn ch c1) → (Eqb nn (tI f1) (tI g1) (tI f) (tI g) → cnt 10 (fun j => mk.testBit j) (tI f) (tI g) xp.toInt xq.toInt = xq.toInt - xp.toInt + 1 → ∀ j, j < kz → mk.testBit j = true → ¬ (xp.toInt ≤ tI f j ∧ tI g j ≤ xq.toInt) → ¬ (xp.toInt ≤ tI f j ∧ tI f j ≤ xq.toInt) ∧ ¬ (xp.toInt ≤ tI g j ∧ tI g j ≤ xq.toInt)) → va_P D classes (wl N adr cn1) H → va_S (wA N adr) s.heap H locs → lv_has ls 7 [(0, .ref (adr t)), (1, .ref (adr b)), (2, .int xp), (3, .int xq), (4, .int x4), (5, .int (bi fn)), (6, .int x6)] → W p l e (rl 5) s m args below meth c H locs 0 0 Q (F0 m 59 ls []) := by
            intro n
            induction n with
            | zero => intro kz x6 fn cn1 f1 g1 c1 H locs ls hmu; exact absurd hmu (Nat.not_lt_zero _)
            | succ n ih_6 =>
              intro kz x6 fn cn1 f1 g1 c1 H locs ls hmu hkz h6 hF1 hT1 hB1 hFI hUC hP hS hl
              refine lv_iload hx hb d_Different_fill_59 (lv_at hl 6 rfl) ?_
              refine lv_bipush (v := 10) hx hb d_Different_fill_61 (by decide) ?_
              refine b_icmp_ge (tgt := 192) hx hb d_Different_fill_63 (by decide) h6 kc_10 (fun c_7 => ?_) (fun c_7 => ?_)
              · refine lv_iload hx hb d_Different_fill_192 (lv_at hl 5 rfl) ?_
                refine e_z hx hb hr hlk hQ hS d_Different_fill_194 ?_
                exact ⟨cn1, f1, g1, fn, c1, rfl, hF1, hB1, hFI.1, fun h => ⟨hFI.2.1 h, fun e9 => ⟨by omega, fun hcq => fun j hj hmj hw => hUC e9 hcq j (by omega) hmj hw⟩⟩, hFI.2.2, hP⟩
              · refine lv_iload hx hb d_Different_fill_66 (lv_at hl 4 rfl) ?_
                refine lv_iload_n hx hb d_Different_fill_68 rfl (lv_at hl 3 rfl) ?_
                refine lv_iload_n hx hb d_Different_fill_69 rfl (lv_at hl 2 rfl) ?_
                refine x_sub hx hb d_Different_fill_70 rfl rfl (by omega) (fun z_8 tz_8 => ?_)
                refine lv_iconst (v := 1) hx hb d_Different_fill_71 (by decide) ?_
                refine x_add hx hb d_Different_fill_72 tz_8 kc_1 (by omega) (fun z_9 tz_9 => ?_)
                refine b_icmp_ne (tgt := 192) hx hb d_Different_fill_73 (by decide) h4 tz_9 (fun c_10 => ?_) (fun c_10 => ?_)
                · refine lv_iload hx hb d_Different_fill_192 (lv_at hl 5 rfl) ?_
                  refine e_z hx hb hr hlk hQ hS d_Different_fill_194 ?_
                  exact ⟨cn1, f1, g1, fn, c1, rfl, hF1, hB1, hFI.1, fun h => ⟨hFI.2.1 h, fun e9 => ⟨by omega, fun hcq => absurd hcq (by omega)⟩⟩, hFI.2.2, hP⟩
                · refine lv_aload_n hx hb d_Different_fill_76 rfl (lv_at hl 0 rfl) ?_
                  refine lv_iload hx hb d_Different_fill_77 (lv_at hl 6 rfl) ?_
                  refine x_V (As := [.int x6]) (rest := []) hx hb hml hown hK (k_Different_has l D cA adr N hi cn1 t xm gd hT1 hN mk hxm kz x6 h6 (by omega)) t_205 t_19 t_202 t_204 ts_3 yk_Different_has ⟨Nat.le_of_ble_eq_true rfl, Nat.le_of_ble_eq_true rfl⟩ (w_rec hK hP hN hT1 rfl) hP rfl hl.1 rfl (Nat.le_of_ble_eq_true rfl) d_Different_fill_79 ⟨Nat.le_of_ble_eq_true rfl, Nat.le_of_ble_eq_true rfl⟩ hS (fun q h => h) (fun r H locs hq _ hS => ?_)
                  obtain ⟨rfl, hP⟩ := hq
                  refine W.eq (g2 := F0 m 82 ls [.int (bi (mk.testBit kz))]) rfl ?_
                  refine b_bool_eq (tgt := 186) hx hb d_Different_fill_82 (by decide) (fun c_11 => ?_) (fun c_11 => ?_)
                  · refine x_iinc (k := 6) (lv' := fun v_ => [(6, .int v_), (0, .ref (adr t)), (1, .ref (adr b)), (2, .int xp), (3, .int xq), (4, .int x4), (5, .int (bi fn))]) hx hb d_Different_fill_186 hl rfl h6 (by decide) (by omega) (by decide) (fun v_ => rfl) (fun z_12 tz_12 ls hl => ?_)
                    refine lv_goto (tgt := 59) hx hb d_Different_fill_189 (by decide) ?_
                    exact ih_6 (kz + 1) z_12 fn cn1 f1 g1 c1 _ _ _ (by omega) (by omega) (by omega) hF1 hT1 hB1 hFI (fun e9 hcq j hj hmj hw => by rcases (by omega : j < kz ∨ j = kz) with z | z; exact hUC e9 hcq j z hmj hw; (rw [z] at hmj hw ⊢; exact (by rw [c_11] at hmj; cases hmj))) hP hS (lv_sub hl [1, 2, 3, 4, 5, 6, 0] rfl)
                  · have hmk9 := c_11; have hkn := hm kz (by omega) hmk9
                    refine lv_aload_n hx hb d_Different_fill_85 rfl (lv_at hl 0 rfl) ?_
                    refine lv_aload_n hx hb d_Different_fill_86 rfl (lv_at hl 1 rfl) ?_
                    refine lv_iload hx hb d_Different_fill_87 (lv_at hl 6 rfl) ?_
                    refine lv_iload_n hx hb d_Different_fill_89 rfl (lv_at hl 2 rfl) ?_
                    refine lv_iload_n hx hb d_Different_fill_90 rfl (lv_at hl 3 rfl) ?_
                    refine x_V (As := [.ref (adr b), .int x6, .int xp, .int xq]) (rest := []) hx hb hml hown hK (k_Different_isWithin l D cA adr N hi cn1 t xm gd hT1 hN mk hxm b f1 g1 c1 ⟨hB1.1, hB1.2.1, hB1.2.2⟩ hMb hdt kz x6 xp xq h6 (by omega)) t_213 t_19 t_210 t_212 ts_5 yk_Different_isWithin ⟨Nat.le_of_ble_eq_true rfl, Nat.le_of_ble_eq_true rfl⟩ (w_rec hK hP hN hT1 rfl) hP rfl hl.1 rfl (Nat.le_of_ble_eq_true rfl) d_Different_fill_91 ⟨Nat.le_of_ble_eq_true rfl, Nat.le_of_ble_eq_true rfl⟩ hS (fun q h => h) (fun r H locs hq _ hS => ?_)
                    obtain ⟨rfl, hP⟩ := hq
                    refine W.eq (g2 := F0 m 94 ls [.int (bi (decide (mk.testBit kz = true ∧ xp.toInt ≤ (f1 kz).toInt ∧ (g1 kz).toInt ≤ xq.toInt)))]) rfl ?_
                    refine b_bool_eq (tgt := 100) hx hb d_Different_fill_94 (by decide) (fun c_13 => ?_) (fun c_13 => ?_)
                    · have hc_13 := of_decide_eq_false c_13
                      have hw9 : ¬ (xp.toInt ≤ tI f kz ∧ tI g kz ≤ xq.toInt) := fun h => by have := hFI.1 kz hkn; unfold tI at *; exact hc_13 ⟨hmk9, by omega, by omega⟩
                      have hj9 := fun bl bh (hs : Sb nn bl bh (tI f1) (tI g1)) (hf : Fx7 (fun j => mk.testBit j) bl bh) => fil_just (k := kz) hm hpq (by omega) (by omega) hmk9 hw9 (hs.tr hFI.1) hf
                      refine lv_aload_n hx hb d_Different_fill_100 rfl (lv_at hl 1 rfl) ?_
                      refine w_gfN hx hb hK i_Box hown hP hMb.1 hB1.1 rfl 0 (by decide) t_40 rfl rfl d_Different_fill_101 ?_
                      refine lv_iload hx hb d_Different_fill_104 (lv_at hl 6 rfl) ?_
                      refine w_ld hx hb hK hP hMb.2.1 hB1.2.1 (kz) h6 (by omega) (show kz < 10 by omega) d_Different_fill_106 (fun z_14 ez_14 => ?_)
                      subst ez_14
                      refine lv_iload_n hx hb d_Different_fill_107 rfl (lv_at hl 2 rfl) ?_
                      refine b_icmp_lt (tgt := 143) hx hb d_Different_fill_108 (by decide) rfl rfl (fun c_15 => ?_) (fun c_15 => ?_)
                      · refine lv_aload_n hx hb d_Different_fill_143 rfl (lv_at hl 1 rfl) ?_
                        refine w_gfN hx hb hK i_Box hown hP hMb.1 hB1.1 rfl 1 (by decide) t_46 rfl rfl d_Different_fill_144 ?_
                        refine lv_iload hx hb d_Different_fill_147 (lv_at hl 6 rfl) ?_
                        refine w_ld hx hb hK hP hMb.2.2 hB1.2.2 (kz) h6 (by omega) (show kz < 10 by omega) d_Different_fill_149 (fun z_16 ez_16 => ?_)
                        subst ez_16
                        refine lv_iload_n hx hb d_Different_fill_150 rfl (lv_at hl 2 rfl) ?_
                        refine b_icmp_lt (tgt := 186) hx hb d_Different_fill_151 (by decide) rfl rfl (fun c_17 => ?_) (fun c_17 => ?_)
                        · refine x_iinc (k := 6) (lv' := fun v_ => [(6, .int v_), (0, .ref (adr t)), (1, .ref (adr b)), (2, .int xp), (3, .int xq), (4, .int x4), (5, .int (bi fn))]) hx hb d_Different_fill_186 hl rfl h6 (by decide) (by omega) (by decide) (fun v_ => rfl) (fun z_18 tz_18 ls hl => ?_)
                          refine lv_goto (tgt := 59) hx hb d_Different_fill_189 (by decide) ?_
                          exact ih_6 (kz + 1) z_18 fn cn1 f1 g1 c1 _ _ _ (by omega) (by omega) (by omega) hF1 hT1 hB1 hFI (fun e9 hcq j hj hmj hw => by rcases (by omega : j < kz ∨ j = kz) with z | z; exact hUC e9 hcq j z hmj hw; (rw [z] at hmj hw ⊢; exact (by have e8 := e9 kz (hm kz (by omega) hmj); unfold tI at *; omega))) hP hS (lv_sub hl [1, 2, 3, 4, 5, 6, 0] rfl)
                        · refine lv_aload_n hx hb d_Different_fill_154 rfl (lv_at hl 1 rfl) ?_
                          refine w_gfN hx hb hK i_Box hown hP hMb.1 hB1.1 rfl 1 (by decide) t_46 rfl rfl d_Different_fill_155 ?_
                          refine lv_iload hx hb d_Different_fill_158 (lv_at hl 6 rfl) ?_
                          refine w_ld hx hb hK hP hMb.2.2 hB1.2.2 (kz) h6 (by omega) (show kz < 10 by omega) d_Different_fill_160 (fun z_19 ez_19 => ?_)
                          subst ez_19
                          refine lv_iload_n hx hb d_Different_fill_161 rfl (lv_at hl 3 rfl) ?_
                          refine b_icmp_gt (tgt := 186) hx hb d_Different_fill_162 (by decide) rfl rfl (fun c_20 => ?_) (fun c_20 => ?_)
                          · refine x_iinc (k := 6) (lv' := fun v_ => [(6, .int v_), (0, .ref (adr t)), (1, .ref (adr b)), (2, .int xp), (3, .int xq), (4, .int x4), (5, .int (bi fn))]) hx hb d_Different_fill_186 hl rfl h6 (by decide) (by omega) (by decide) (fun v_ => rfl) (fun z_21 tz_21 ls hl => ?_)
                            refine lv_goto (tgt := 59) hx hb d_Different_fill_189 (by decide) ?_
                            exact ih_6 (kz + 1) z_21 fn cn1 f1 g1 c1 _ _ _ (by omega) (by omega) (by omega) hF1 hT1 hB1 hFI (fun e9 hcq j hj hmj hw => by rcases (by omega : j < kz ∨ j = kz) with z | z; exact hUC e9 hcq j z hmj hw; (rw [z] at hmj hw ⊢; exact (by have e8 := e9 kz (hm kz (by omega) hmj); unfold tI at *; omega))) hP hS (lv_sub hl [1, 2, 3, 4, 5, 6, 0] rfl)
                          · refine lv_iload hx hb d_Different_fill_165 (lv_at hl 5 rfl) ?_
                            refine lv_aload_n hx hb d_Different_fill_167 rfl (lv_at hl 1 rfl) ?_
                            refine lv_iload hx hb d_Different_fill_168 (lv_at hl 6 rfl) ?_
                            refine lv_aload_n hx hb d_Different_fill_170 rfl (lv_at hl 1 rfl) ?_
                            refine w_gfN hx hb hK i_Box hown hP hMb.1 hB1.1 rfl 0 (by decide) t_40 rfl rfl d_Different_fill_171 ?_
                            refine lv_iload hx hb d_Different_fill_174 (lv_at hl 6 rfl) ?_
                            refine w_ld hx hb hK hP hMb.2.1 hB1.2.1 (kz) h6 (by omega) (show kz < 10 by omega) d_Different_fill_176 (fun z_22 ez_22 => ?_)
                            subst ez_22
                            refine lv_iload_n hx hb d_Different_fill_177 rfl (lv_at hl 2 rfl) ?_
                            refine lv_iconst (v := 1) hx hb d_Different_fill_178 (by decide) ?_
                            refine x_sub hx hb d_Different_fill_179 rfl kc_1 (by omega) (fun z_23 tz_23 => ?_)
                            refine x_V (As := [.int x6, .int (f1 kz), .int z_23]) (rest := [.int (bi fn)]) hx hb hml hown hK (k_Box_cut l D cA adr N hi cn1 b f1 g1 c1 ⟨hB1.1, hB1.2.1, hB1.2.2⟩ hMb kz x6 (f1 kz) z_23 h6 (by omega)) t_176 t_2 t_214 t_174 t_175 yk_Box_cut ⟨Nat.le_of_ble_eq_true rfl, Nat.le_of_ble_eq_true rfl⟩ (w_rec hK hP hMb.1 hB1.1 rfl) hP rfl hl.1 rfl (Nat.le_of_ble_eq_true rfl) d_Different_fill_180 ⟨Nat.le_of_ble_eq_true rfl, Nat.le_of_ble_eq_true rfl⟩ hS (fun q h => h) (fun r H locs hq _ hS => ?_)
                            obtain ⟨cn_24, lo_24, hh_24, hlo_24, hhh_24, rfl, hFb_24, hB_24, hP⟩ := hq
                            obtain ⟨ch_24, hch_24⟩ : ∃ q : Bool, q = (c1 || decide ((f1 kz).toInt < (f1 kz).toInt ∨ z_23.toInt < (g1 kz).toInt)) := ⟨_, rfl⟩
                            rw [← hch_24] at hB_24
                            rw [tz_23] at hhh_24 hch_24
                            have hx_24_25 : cn_24 t = .inr (5, [.int xm, .int (bi gd)]) := (hFb_24 t (by omega) (by omega) (by omega)).trans hT1
                            have hfr_24 : FrB b cn cn_24 := hF1.tr hFb_24
                            refine W.eq (g2 := F0 m 183 ls [.int (bi (decide (lo_24.toInt ≤ hh_24.toInt))), .int (bi fn)]) rfl ?_
                            have CB1 := tI_cut (n := nn) (f := f1) (g := g1) (k := kz) hlo_24 hhh_24
                            have hFI1 := hFI.cut hkn CB1 hch_24 (fun bl bh hs0 _ hf => by have hs := hs0; have a1 := hj9 bl bh hs hf; have a2 := hs0 kz hkn; unfold tI at a2; omega)
                            rw [tI_up, tI_up] at hFI1
                            have hch9 : ¬ Eqb nn (tI (upd f1 kz lo_24)) (tI (upd g1 kz hh_24)) (tI f) (tI g) := fun e => by have b3 : Eqb nn (tI (upd f1 kz lo_24)) (tI (upd g1 kz hh_24)) (tI f1) (tI g1) := fun j hj => (by have b1 := e j hj; have b2 := CB1.sb j hj; have b4 := hFI.1 j hj; omega); have b5 := (CB1.eq hkn).mp b3; unfold tI at b5; omega
                            refine x_and hx hb d_Different_fill_183 ?_
                            refine lv_istore (lv' := [(5, .int (bi (fn && (decide (lo_24.toInt ≤ hh_24.toInt))))), (0, .ref (adr t)), (1, .ref (adr b)), (2, .int xp), (3, .int xq), (4, .int x4), (6, .int x6)]) hx hb d_Different_fill_184 hl (by decide) rfl (fun ls hl => ?_)
                            refine x_iinc (k := 6) (lv' := fun v_ => [(6, .int v_), (5, .int (bi (fn && (decide (lo_24.toInt ≤ hh_24.toInt))))), (0, .ref (adr t)), (1, .ref (adr b)), (2, .int xp), (3, .int xq), (4, .int x4)]) hx hb d_Different_fill_186 hl rfl h6 (by decide) (by omega) (by decide) (fun v_ => rfl) (fun z_26 tz_26 ls hl => ?_)
                            refine lv_goto (tgt := 59) hx hb d_Different_fill_189 (by decide) ?_
                            exact ih_6 (kz + 1) z_26 (fn && (decide (lo_24.toInt ≤ hh_24.toInt))) cn_24 (upd f1 kz lo_24) (upd g1 kz hh_24) ch_24 _ _ _ (by omega) (by omega) (by omega) hfr_24 hx_24_25 ⟨hB_24.1, hB_24.2.1, hB_24.2.2⟩ hFI1 (fun e9 _ => absurd e9 hch9) hP hS (lv_sub hl [2, 3, 4, 5, 6, 1, 0] rfl)
                      · refine lv_aload_n hx hb d_Different_fill_111 rfl (lv_at hl 1 rfl) ?_
                        refine w_gfN hx hb hK i_Box hown hP hMb.1 hB1.1 rfl 0 (by decide) t_40 rfl rfl d_Different_fill_112 ?_
                        refine lv_iload hx hb d_Different_fill_115 (lv_at hl 6 rfl) ?_
                        refine w_ld hx hb hK hP hMb.2.1 hB1.2.1 (kz) h6 (by omega) (show kz < 10 by omega) d_Different_fill_117 (fun z_27 ez_27 => ?_)
                        subst ez_27
                        refine lv_iload_n hx hb d_Different_fill_118 rfl (lv_at hl 3 rfl) ?_
                        refine b_icmp_gt (tgt := 143) hx hb d_Different_fill_119 (by decide) rfl rfl (fun c_28 => ?_) (fun c_28 => ?_)
                        · refine lv_aload_n hx hb d_Different_fill_143 rfl (lv_at hl 1 rfl) ?_
                          refine w_gfN hx hb hK i_Box hown hP hMb.1 hB1.1 rfl 1 (by decide) t_46 rfl rfl d_Different_fill_144 ?_
                          refine lv_iload hx hb d_Different_fill_147 (lv_at hl 6 rfl) ?_
                          refine w_ld hx hb hK hP hMb.2.2 hB1.2.2 (kz) h6 (by omega) (show kz < 10 by omega) d_Different_fill_149 (fun z_29 ez_29 => ?_)
                          subst ez_29
                          refine lv_iload_n hx hb d_Different_fill_150 rfl (lv_at hl 2 rfl) ?_
                          refine b_icmp_lt (tgt := 186) hx hb d_Different_fill_151 (by decide) rfl rfl (fun c_30 => ?_) (fun c_30 => ?_)
                          · refine x_iinc (k := 6) (lv' := fun v_ => [(6, .int v_), (0, .ref (adr t)), (1, .ref (adr b)), (2, .int xp), (3, .int xq), (4, .int x4), (5, .int (bi fn))]) hx hb d_Different_fill_186 hl rfl h6 (by decide) (by omega) (by decide) (fun v_ => rfl) (fun z_31 tz_31 ls hl => ?_)
                            refine lv_goto (tgt := 59) hx hb d_Different_fill_189 (by decide) ?_
                            exact ih_6 (kz + 1) z_31 fn cn1 f1 g1 c1 _ _ _ (by omega) (by omega) (by omega) hF1 hT1 hB1 hFI (fun e9 hcq j hj hmj hw => by rcases (by omega : j < kz ∨ j = kz) with z | z; exact hUC e9 hcq j z hmj hw; (rw [z] at hmj hw ⊢; exact (by have e8 := e9 kz (hm kz (by omega) hmj); unfold tI at *; omega))) hP hS (lv_sub hl [1, 2, 3, 4, 5, 6, 0] rfl)
                          · refine lv_aload_n hx hb d_Different_fill_154 rfl (lv_at hl 1 rfl) ?_
                            refine w_gfN hx hb hK i_Box hown hP hMb.1 hB1.1 rfl 1 (by decide) t_46 rfl rfl d_Different_fill_155 ?_
                            refine lv_iload hx hb d_Different_fill_158 (lv_at hl 6 rfl) ?_
                            refine w_ld hx hb hK hP hMb.2.2 hB1.2.2 (kz) h6 (by omega) (show kz < 10 by omega) d_Different_fill_160 (fun z_32 ez_32 => ?_)
                            subst ez_32
                            refine lv_iload_n hx hb d_Different_fill_161 rfl (lv_at hl 3 rfl) ?_
                            refine b_icmp_gt (tgt := 186) hx hb d_Different_fill_162 (by decide) rfl rfl (fun c_33 => ?_) (fun c_33 => ?_)
                            · refine x_iinc (k := 6) (lv' := fun v_ => [(6, .int v_), (0, .ref (adr t)), (1, .ref (adr b)), (2, .int xp), (3, .int xq), (4, .int x4), (5, .int (bi fn))]) hx hb d_Different_fill_186 hl rfl h6 (by decide) (by omega) (by decide) (fun v_ => rfl) (fun z_34 tz_34 ls hl => ?_)
                              refine lv_goto (tgt := 59) hx hb d_Different_fill_189 (by decide) ?_
                              exact ih_6 (kz + 1) z_34 fn cn1 f1 g1 c1 _ _ _ (by omega) (by omega) (by omega) hF1 hT1 hB1 hFI (fun e9 hcq j hj hmj hw => by rcases (by omega : j < kz ∨ j = kz) with z | z; exact hUC e9 hcq j z hmj hw; (rw [z] at hmj hw ⊢; exact (by have e8 := e9 kz (hm kz (by omega) hmj); unfold tI at *; omega))) hP hS (lv_sub hl [1, 2, 3, 4, 5, 6, 0] rfl)
                            · refine lv_iload hx hb d_Different_fill_165 (lv_at hl 5 rfl) ?_
                              refine lv_aload_n hx hb d_Different_fill_167 rfl (lv_at hl 1 rfl) ?_
                              refine lv_iload hx hb d_Different_fill_168 (lv_at hl 6 rfl) ?_
                              refine lv_aload_n hx hb d_Different_fill_170 rfl (lv_at hl 1 rfl) ?_
                              refine w_gfN hx hb hK i_Box hown hP hMb.1 hB1.1 rfl 0 (by decide) t_40 rfl rfl d_Different_fill_171 ?_
                              refine lv_iload hx hb d_Different_fill_174 (lv_at hl 6 rfl) ?_
                              refine w_ld hx hb hK hP hMb.2.1 hB1.2.1 (kz) h6 (by omega) (show kz < 10 by omega) d_Different_fill_176 (fun z_35 ez_35 => ?_)
                              subst ez_35
                              refine lv_iload_n hx hb d_Different_fill_177 rfl (lv_at hl 2 rfl) ?_
                              refine lv_iconst (v := 1) hx hb d_Different_fill_178 (by decide) ?_
                              refine x_sub hx hb d_Different_fill_179 rfl kc_1 (by omega) (fun z_36 tz_36 => ?_)
                              refine x_V (As := [.int x6, .int (f1 kz), .int z_36]) (rest := [.int (bi fn)]) hx hb hml hown hK (k_Box_cut l D cA adr N hi cn1 b f1 g1 c1 ⟨hB1.1, hB1.2.1, hB1.2.2⟩ hMb kz x6 (f1 kz) z_36 h6 (by omega)) t_176 t_2 t_214 t_174 t_175 yk_Box_cut ⟨Nat.le_of_ble_eq_true rfl, Nat.le_of_ble_eq_true rfl⟩ (w_rec hK hP hMb.1 hB1.1 rfl) hP rfl hl.1 rfl (Nat.le_of_ble_eq_true rfl) d_Different_fill_180 ⟨Nat.le_of_ble_eq_true rfl, Nat.le_of_ble_eq_true rfl⟩ hS (fun q h => h) (fun r H locs hq _ hS => ?_)
                              obtain ⟨cn_37, lo_37, hh_37, hlo_37, hhh_37, rfl, hFb_37, hB_37, hP⟩ := hq
                              obtain ⟨ch_37, hch_37⟩ : ∃ q : Bool, q = (c1 || decide ((f1 kz).toInt < (f1 kz).toInt ∨ z_36.toInt < (g1 kz).toInt)) := ⟨_, rfl⟩
                              rw [← hch_37] at hB_37
                              rw [tz_36] at hhh_37 hch_37
                              have hx_37_38 : cn_37 t = .inr (5, [.int xm, .int (bi gd)]) := (hFb_37 t (by omega) (by omega) (by omega)).trans hT1
                              have hfr_37 : FrB b cn cn_37 := hF1.tr hFb_37
                              refine W.eq (g2 := F0 m 183 ls [.int (bi (decide (lo_37.toInt ≤ hh_37.toInt))), .int (bi fn)]) rfl ?_
                              have CB1 := tI_cut (n := nn) (f := f1) (g := g1) (k := kz) hlo_37 hhh_37
                              have hFI1 := hFI.cut hkn CB1 hch_37 (fun bl bh hs0 _ hf => by have hs := hs0; have a1 := hj9 bl bh hs hf; have a2 := hs0 kz hkn; unfold tI at a2; omega)
                              rw [tI_up, tI_up] at hFI1
                              have hch9 : ¬ Eqb nn (tI (upd f1 kz lo_37)) (tI (upd g1 kz hh_37)) (tI f) (tI g) := fun e => by have b3 : Eqb nn (tI (upd f1 kz lo_37)) (tI (upd g1 kz hh_37)) (tI f1) (tI g1) := fun j hj => (by have b1 := e j hj; have b2 := CB1.sb j hj; have b4 := hFI.1 j hj; omega); have b5 := (CB1.eq hkn).mp b3; unfold tI at b5; omega
                              refine x_and hx hb d_Different_fill_183 ?_
                              refine lv_istore (lv' := [(5, .int (bi (fn && (decide (lo_37.toInt ≤ hh_37.toInt))))), (0, .ref (adr t)), (1, .ref (adr b)), (2, .int xp), (3, .int xq), (4, .int x4), (6, .int x6)]) hx hb d_Different_fill_184 hl (by decide) rfl (fun ls hl => ?_)
                              refine x_iinc (k := 6) (lv' := fun v_ => [(6, .int v_), (5, .int (bi (fn && (decide (lo_37.toInt ≤ hh_37.toInt))))), (0, .ref (adr t)), (1, .ref (adr b)), (2, .int xp), (3, .int xq), (4, .int x4)]) hx hb d_Different_fill_186 hl rfl h6 (by decide) (by omega) (by decide) (fun v_ => rfl) (fun z_39 tz_39 ls hl => ?_)
                              refine lv_goto (tgt := 59) hx hb d_Different_fill_189 (by decide) ?_
                              exact ih_6 (kz + 1) z_39 (fn && (decide (lo_37.toInt ≤ hh_37.toInt))) cn_37 (upd f1 kz lo_37) (upd g1 kz hh_37) ch_37 _ _ _ (by omega) (by omega) (by omega) hfr_37 hx_37_38 ⟨hB_37.1, hB_37.2.1, hB_37.2.2⟩ hFI1 (fun e9 _ => absurd e9 hch9) hP hS (lv_sub hl [2, 3, 4, 5, 6, 1, 0] rfl)
                        · refine lv_iload hx hb d_Different_fill_122 (lv_at hl 5 rfl) ?_
                          refine lv_aload_n hx hb d_Different_fill_124 rfl (lv_at hl 1 rfl) ?_
                          refine lv_iload hx hb d_Different_fill_125 (lv_at hl 6 rfl) ?_
                          refine lv_iload_n hx hb d_Different_fill_127 rfl (lv_at hl 3 rfl) ?_
                          refine lv_iconst (v := 1) hx hb d_Different_fill_128 (by decide) ?_
                          refine x_add hx hb d_Different_fill_129 rfl kc_1 (by omega) (fun z_40 tz_40 => ?_)
                          refine lv_aload_n hx hb d_Different_fill_130 rfl (lv_at hl 1 rfl) ?_
                          refine w_gfN hx hb hK i_Box hown hP hMb.1 hB1.1 rfl 1 (by decide) t_46 rfl rfl d_Different_fill_131 ?_
                          refine lv_iload hx hb d_Different_fill_134 (lv_at hl 6 rfl) ?_
                          refine w_ld hx hb hK hP hMb.2.2 hB1.2.2 (kz) h6 (by omega) (show kz < 10 by omega) d_Different_fill_136 (fun z_41 ez_41 => ?_)
                          subst ez_41
                          refine x_V (As := [.int x6, .int z_40, .int (g1 kz)]) (rest := [.int (bi fn)]) hx hb hml hown hK (k_Box_cut l D cA adr N hi cn1 b f1 g1 c1 ⟨hB1.1, hB1.2.1, hB1.2.2⟩ hMb kz x6 z_40 (g1 kz) h6 (by omega)) t_176 t_2 t_214 t_174 t_175 yk_Box_cut ⟨Nat.le_of_ble_eq_true rfl, Nat.le_of_ble_eq_true rfl⟩ (w_rec hK hP hMb.1 hB1.1 rfl) hP rfl hl.1 rfl (Nat.le_of_ble_eq_true rfl) d_Different_fill_137 ⟨Nat.le_of_ble_eq_true rfl, Nat.le_of_ble_eq_true rfl⟩ hS (fun q h => h) (fun r H locs hq _ hS => ?_)
                          obtain ⟨cn_42, lo_42, hh_42, hlo_42, hhh_42, rfl, hFb_42, hB_42, hP⟩ := hq
                          obtain ⟨ch_42, hch_42⟩ : ∃ q : Bool, q = (c1 || decide ((f1 kz).toInt < z_40.toInt ∨ (g1 kz).toInt < (g1 kz).toInt)) := ⟨_, rfl⟩
                          rw [← hch_42] at hB_42
                          rw [tz_40] at hlo_42 hch_42
                          have hx_42_43 : cn_42 t = .inr (5, [.int xm, .int (bi gd)]) := (hFb_42 t (by omega) (by omega) (by omega)).trans hT1
                          have hfr_42 : FrB b cn cn_42 := hF1.tr hFb_42
                          refine W.eq (g2 := F0 m 140 ls [.int (bi (decide (lo_42.toInt ≤ hh_42.toInt))), .int (bi fn)]) rfl ?_
                          have CB1 := tI_cut (n := nn) (f := f1) (g := g1) (k := kz) hlo_42 hhh_42
                          have hFI1 := hFI.cut hkn CB1 hch_42 (fun bl bh hs _ hf => by have a1 := hj9 bl bh hs hf; have a2 := hs kz hkn; unfold tI at a2; omega)
                          rw [tI_up, tI_up] at hFI1
                          have hch9 : ¬ Eqb nn (tI (upd f1 kz lo_42)) (tI (upd g1 kz hh_42)) (tI f) (tI g) := fun e => by have b3 : Eqb nn (tI (upd f1 kz lo_42)) (tI (upd g1 kz hh_42)) (tI f1) (tI g1) := fun j hj => (by have b1 := e j hj; have b2 := CB1.sb j hj; have b4 := hFI.1 j hj; omega); have b5 := (CB1.eq hkn).mp b3; unfold tI at b5; omega
                          refine x_and hx hb d_Different_fill_140 ?_
                          refine lv_istore (lv' := [(5, .int (bi (fn && (decide (lo_42.toInt ≤ hh_42.toInt))))), (0, .ref (adr t)), (1, .ref (adr b)), (2, .int xp), (3, .int xq), (4, .int x4), (6, .int x6)]) hx hb d_Different_fill_141 hl (by decide) rfl (fun ls hl => ?_)
                          refine lv_aload_n hx hb d_Different_fill_143 rfl (lv_at hl 2 rfl) ?_
                          refine w_gfN hx hb hK i_Box hown hP hMb.1 hB_42.1 rfl 1 (by decide) t_46 rfl rfl d_Different_fill_144 ?_
                          refine lv_iload hx hb d_Different_fill_147 (lv_at hl 6 rfl) ?_
                          refine w_ld hx hb hK hP hMb.2.2 hB_42.2.2 (kz) h6 (by omega) (show kz < 10 by omega) d_Different_fill_149 (fun z_44 ez_44 => ?_)
                          subst ez_44
                          refine lv_iload_n hx hb d_Different_fill_150 rfl (lv_at hl 3 rfl) ?_
                          refine b_icmp_lt (tgt := 186) hx hb d_Different_fill_151 (by decide) rfl rfl (fun c_45 => ?_) (fun c_45 => ?_)
                          · refine x_iinc (k := 6) (lv' := fun v_ => [(6, .int v_), (5, .int (bi (fn && (decide (lo_42.toInt ≤ hh_42.toInt))))), (0, .ref (adr t)), (1, .ref (adr b)), (2, .int xp), (3, .int xq), (4, .int x4)]) hx hb d_Different_fill_186 hl rfl h6 (by decide) (by omega) (by decide) (fun v_ => rfl) (fun z_46 tz_46 ls hl => ?_)
                            refine lv_goto (tgt := 59) hx hb d_Different_fill_189 (by decide) ?_
                            exact ih_6 (kz + 1) z_46 (fn && (decide (lo_42.toInt ≤ hh_42.toInt))) cn_42 (upd f1 kz lo_42) (upd g1 kz hh_42) ch_42 _ _ _ (by omega) (by omega) (by omega) hfr_42 hx_42_43 ⟨hB_42.1, hB_42.2.1, hB_42.2.2⟩ hFI1 (fun e9 _ => absurd e9 hch9) hP hS (lv_sub hl [2, 3, 4, 5, 6, 1, 0] rfl)
                          · refine lv_aload_n hx hb d_Different_fill_154 rfl (lv_at hl 2 rfl) ?_
                            refine w_gfN hx hb hK i_Box hown hP hMb.1 hB_42.1 rfl 1 (by decide) t_46 rfl rfl d_Different_fill_155 ?_
                            refine lv_iload hx hb d_Different_fill_158 (lv_at hl 6 rfl) ?_
                            refine w_ld hx hb hK hP hMb.2.2 hB_42.2.2 (kz) h6 (by omega) (show kz < 10 by omega) d_Different_fill_160 (fun z_47 ez_47 => ?_)
                            subst ez_47
                            refine lv_iload_n hx hb d_Different_fill_161 rfl (lv_at hl 4 rfl) ?_
                            refine b_icmp_gt (tgt := 186) hx hb d_Different_fill_162 (by decide) rfl rfl (fun c_48 => ?_) (fun c_48 => ?_)
                            · refine x_iinc (k := 6) (lv' := fun v_ => [(6, .int v_), (5, .int (bi (fn && (decide (lo_42.toInt ≤ hh_42.toInt))))), (0, .ref (adr t)), (1, .ref (adr b)), (2, .int xp), (3, .int xq), (4, .int x4)]) hx hb d_Different_fill_186 hl rfl h6 (by decide) (by omega) (by decide) (fun v_ => rfl) (fun z_49 tz_49 ls hl => ?_)
                              refine lv_goto (tgt := 59) hx hb d_Different_fill_189 (by decide) ?_
                              exact ih_6 (kz + 1) z_49 (fn && (decide (lo_42.toInt ≤ hh_42.toInt))) cn_42 (upd f1 kz lo_42) (upd g1 kz hh_42) ch_42 _ _ _ (by omega) (by omega) (by omega) hfr_42 hx_42_43 ⟨hB_42.1, hB_42.2.1, hB_42.2.2⟩ hFI1 (fun e9 _ => absurd e9 hch9) hP hS (lv_sub hl [2, 3, 4, 5, 6, 1, 0] rfl)
                            · refine lv_iload hx hb d_Different_fill_165 (lv_at hl 0 rfl) ?_
                              refine lv_aload_n hx hb d_Different_fill_167 rfl (lv_at hl 2 rfl) ?_
                              refine lv_iload hx hb d_Different_fill_168 (lv_at hl 6 rfl) ?_
                              refine lv_aload_n hx hb d_Different_fill_170 rfl (lv_at hl 2 rfl) ?_
                              refine w_gfN hx hb hK i_Box hown hP hMb.1 hB_42.1 rfl 0 (by decide) t_40 rfl rfl d_Different_fill_171 ?_
                              refine lv_iload hx hb d_Different_fill_174 (lv_at hl 6 rfl) ?_
                              refine w_ld hx hb hK hP hMb.2.1 hB_42.2.1 (kz) h6 (by omega) (show kz < 10 by omega) d_Different_fill_176 (fun z_50 ez_50 => ?_)
                              subst ez_50
                              refine lv_iload_n hx hb d_Different_fill_177 rfl (lv_at hl 3 rfl) ?_
                              refine lv_iconst (v := 1) hx hb d_Different_fill_178 (by decide) ?_
                              refine x_sub hx hb d_Different_fill_179 rfl kc_1 (by omega) (fun z_51 tz_51 => ?_)
                              refine x_V (As := [.int x6, .int ((upd f1 kz lo_42) kz), .int z_51]) (rest := [.int (bi (fn && (decide (lo_42.toInt ≤ hh_42.toInt))))]) hx hb hml hown hK (k_Box_cut l D cA adr N hi cn_42 b (upd f1 kz lo_42) (upd g1 kz hh_42) ch_42 ⟨hB_42.1, hB_42.2.1, hB_42.2.2⟩ hMb kz x6 ((upd f1 kz lo_42) kz) z_51 h6 (by omega)) t_176 t_2 t_214 t_174 t_175 yk_Box_cut ⟨Nat.le_of_ble_eq_true rfl, Nat.le_of_ble_eq_true rfl⟩ (w_rec hK hP hMb.1 hB_42.1 rfl) hP rfl hl.1 rfl (Nat.le_of_ble_eq_true rfl) d_Different_fill_180 ⟨Nat.le_of_ble_eq_true rfl, Nat.le_of_ble_eq_true rfl⟩ hS (fun q h => h) (fun r H locs hq _ hS => ?_)
                              obtain ⟨cn_52, lo_52, hh_52, hlo_52, hhh_52, rfl, hFb_52, hB_52, hP⟩ := hq
                              obtain ⟨ch_52, hch_52⟩ : ∃ q : Bool, q = (ch_42 || decide (((upd f1 kz lo_42) kz).toInt < ((upd f1 kz lo_42) kz).toInt ∨ z_51.toInt < ((upd g1 kz hh_42) kz).toInt)) := ⟨_, rfl⟩
                              rw [← hch_52] at hB_52
                              rw [tz_51] at hhh_52 hch_52
                              have hx_52_53 : cn_52 t = .inr (5, [.int xm, .int (bi gd)]) := (hFb_52 t (by omega) (by omega) (by omega)).trans hx_42_43
                              have hfr_52 : FrB b cn cn_52 := hfr_42.tr hFb_52
                              refine W.eq (g2 := F0 m 183 ls [.int (bi (decide (lo_52.toInt ≤ hh_52.toInt))), .int (bi (fn && (decide (lo_42.toInt ≤ hh_42.toInt))))]) rfl ?_
                              have CB2 := tI_cut (n := nn) (f := (upd f1 kz lo_42)) (g := (upd g1 kz hh_42)) (k := kz) hlo_52 hhh_52
                              have hFI2 := hFI1.cut hkn CB2 hch_52 (fun bl bh hs0 _ hf => by have hs := hs0; have hs := hs.tr CB1.sb; have a1 := hj9 bl bh hs hf; have a2 := hs0 kz hkn; unfold tI at a2; omega)
                              rw [tI_up, tI_up] at hFI2
                              have hch9 : ¬ Eqb nn (tI (upd (upd f1 kz lo_42) kz lo_52)) (tI (upd (upd g1 kz hh_42) kz hh_52)) (tI f) (tI g) := fun e => by have b3 : Eqb nn (tI (upd (upd f1 kz lo_42) kz lo_52)) (tI (upd (upd g1 kz hh_42) kz hh_52)) (tI (upd f1 kz lo_42)) (tI (upd g1 kz hh_42)) := fun j hj => (by have b1 := e j hj; have b2 := CB2.sb j hj; have b4 := hFI1.1 j hj; omega); have b5 := (CB2.eq hkn).mp b3; unfold tI at b5; omega
                              refine x_and hx hb d_Different_fill_183 ?_
                              refine lv_istore (lv' := [(5, .int (bi ((fn && (decide (lo_42.toInt ≤ hh_42.toInt))) && (decide (lo_52.toInt ≤ hh_52.toInt))))), (0, .ref (adr t)), (1, .ref (adr b)), (2, .int xp), (3, .int xq), (4, .int x4), (6, .int x6)]) hx hb d_Different_fill_184 hl (by decide) rfl (fun ls hl => ?_)
                              refine x_iinc (k := 6) (lv' := fun v_ => [(6, .int v_), (5, .int (bi ((fn && (decide (lo_42.toInt ≤ hh_42.toInt))) && (decide (lo_52.toInt ≤ hh_52.toInt))))), (0, .ref (adr t)), (1, .ref (adr b)), (2, .int xp), (3, .int xq), (4, .int x4)]) hx hb d_Different_fill_186 hl rfl h6 (by decide) (by omega) (by decide) (fun v_ => rfl) (fun z_54 tz_54 ls hl => ?_)
                              refine lv_goto (tgt := 59) hx hb d_Different_fill_189 (by decide) ?_
                              exact ih_6 (kz + 1) z_54 ((fn && (decide (lo_42.toInt ≤ hh_42.toInt))) && (decide (lo_52.toInt ≤ hh_52.toInt))) cn_52 (upd (upd f1 kz lo_42) kz lo_52) (upd (upd g1 kz hh_42) kz hh_52) ch_52 _ _ _ (by omega) (by omega) (by omega) hfr_52 hx_52_53 ⟨hB_52.1, hB_52.2.1, hB_52.2.2⟩ hFI2 (fun e9 _ => absurd e9 hch9) hP hS (lv_sub hl [2, 3, 4, 5, 6, 1, 0] rfl)
                    · have hc_13 := of_decide_eq_true c_13
                      refine lv_goto (tgt := 186) hx hb d_Different_fill_97 (by decide) ?_
                      refine x_iinc (k := 6) (lv' := fun v_ => [(6, .int v_), (0, .ref (adr t)), (1, .ref (adr b)), (2, .int xp), (3, .int xq), (4, .int x4), (5, .int (bi fn))]) hx hb d_Different_fill_186 hl rfl h6 (by decide) (by omega) (by decide) (fun v_ => rfl) (fun z_55 tz_55 ls hl => ?_)
                      refine lv_goto (tgt := 59) hx hb d_Different_fill_189 (by decide) ?_
                      exact ih_6 (kz + 1) z_55 fn cn1 f1 g1 c1 _ _ _ (by omega) (by omega) (by omega) hF1 hT1 hB1 hFI (fun e9 hcq j hj hmj hw => by rcases (by omega : j < kz ∨ j = kz) with z | z; exact hUC e9 hcq j z hmj hw; (rw [z] at hmj hw ⊢; exact (absurd (by have q := of_decide_eq_true c_13; have e8 := e9 kz (hm kz (by omega) hmj); unfold tI at *; omega) hw))) hP hS (lv_sub hl [1, 2, 3, 4, 5, 6, 0] rfl)
          exact L_6 (_ + 1) 0 (0 : Int32) true cn f g ch _ _ _ (Nat.lt_succ_self _) (by omega) kc_0 FrB.rf hT hB ⟨Sb.rf, fun _ => PN.rf hne, fun h => absurd h (by decide)⟩ (fun _ _ j hj => absurd hj (by omega)) hP hS (lv_sub hl [2, 3, 4, 5, 6, 1, 0] rfl)
        · refine lv_iconst (v := 0) hx hb d_Different_fill_51 (by decide) ?_
          refine W.eq (g2 := F0 m 52 ls [.int (bi false)]) rfl ?_
          refine e_z hx hb hr hlk hQ hS d_Different_fill_52 ?_
          exact ⟨cn, f, g, false, ch, rfl, FrB.rf, hB, Sb.rf, fun h => absurd h (by decide), fun _ => fil_no hm hpq (by have := hn4; omega), hP⟩
      · refine lv_iload hx hb d_Different_fill_13 (lv_at hl 4 rfl) ?_
        refine lv_aload_n hx hb d_Different_fill_15 rfl (lv_at hl 0 rfl) ?_
        refine lv_aload_n hx hb d_Different_fill_16 rfl (lv_at hl 1 rfl) ?_
        refine lv_iload hx hb d_Different_fill_17 (lv_at hl 5 rfl) ?_
        refine lv_iload_n hx hb d_Different_fill_19 rfl (lv_at hl 2 rfl) ?_
        refine lv_iload_n hx hb d_Different_fill_20 rfl (lv_at hl 3 rfl) ?_
        refine x_V (As := [.ref (adr b), .int x5, .int xp, .int xq]) (rest := [.int x4]) hx hb hml hown hK (k_Different_isWithin l D cA adr N hi cn t xm gd hT hN mk hxm b f g ch ⟨hB.1, hB.2.1, hB.2.2⟩ hMb hdt kx x5 xp xq h5 (by omega)) t_213 t_19 t_210 t_212 ts_5 yk_Different_isWithin ⟨Nat.le_of_ble_eq_true rfl, Nat.le_of_ble_eq_true rfl⟩ (w_rec hK hP hN hT rfl) hP rfl hl.1 rfl (Nat.le_of_ble_eq_true rfl) d_Different_fill_21 ⟨Nat.le_of_ble_eq_true rfl, Nat.le_of_ble_eq_true rfl⟩ hS (fun q h => h) (fun r H locs hq _ hS => ?_)
        obtain ⟨rfl, hP⟩ := hq
        refine W.eq (g2 := F0 m 24 ls [.int (bi (decide (mk.testBit kx = true ∧ xp.toInt ≤ (f kx).toInt ∧ (g kx).toInt ≤ xq.toInt))), .int x4]) rfl ?_
        refine b_bool_eq (tgt := 31) hx hb d_Different_fill_24 (by decide) (fun c_56 => ?_) (fun c_56 => ?_)
        · have hc_56 := of_decide_eq_false c_56
          refine lv_iconst (v := 0) hx hb d_Different_fill_31 (by decide) ?_
          refine x_add hx hb d_Different_fill_32 h4 kc_0 (by omega) (fun z_57 tz_57 => ?_)
          refine lv_istore (lv' := [(4, .int z_57), (0, .ref (adr t)), (1, .ref (adr b)), (2, .int xp), (3, .int xq), (5, .int x5)]) hx hb d_Different_fill_33 hl (by decide) rfl (fun ls hl => ?_)
          refine x_iinc (k := 5) (lv' := fun v_ => [(5, .int v_), (4, .int z_57), (0, .ref (adr t)), (1, .ref (adr b)), (2, .int xp), (3, .int xq)]) hx hb d_Different_fill_35 hl rfl h5 (by decide) (by omega) (by decide) (fun v_ => rfl) (fun z_58 tz_58 ls hl => ?_)
          refine lv_goto (tgt := 6) hx hb d_Different_fill_38 (by decide) ?_
          exact ih_1 (kx + 1) z_57 z_58 _ _ _ (by omega) (by omega) (by rw [tz_57]; simp only [cnt]; rw [if_neg (show ¬ (mk.testBit kx = true ∧ xp.toInt ≤ tI f kx ∧ tI g kx ≤ xq.toInt) from of_decide_eq_false c_56)]) (by omega) hP hS (lv_sub hl [2, 3, 4, 5, 1, 0] rfl)
        · have hc_56 := of_decide_eq_true c_56
          refine lv_iconst (v := 1) hx hb d_Different_fill_27 (by decide) ?_
          refine lv_goto (tgt := 32) hx hb d_Different_fill_28 (by decide) ?_
          refine x_add hx hb d_Different_fill_32 h4 kc_1 (by omega) (fun z_59 tz_59 => ?_)
          refine lv_istore (lv' := [(4, .int z_59), (0, .ref (adr t)), (1, .ref (adr b)), (2, .int xp), (3, .int xq), (5, .int x5)]) hx hb d_Different_fill_33 hl (by decide) rfl (fun ls hl => ?_)
          refine x_iinc (k := 5) (lv' := fun v_ => [(5, .int v_), (4, .int z_59), (0, .ref (adr t)), (1, .ref (adr b)), (2, .int xp), (3, .int xq)]) hx hb d_Different_fill_35 hl rfl h5 (by decide) (by omega) (by decide) (fun v_ => rfl) (fun z_60 tz_60 ls hl => ?_)
          refine lv_goto (tgt := 6) hx hb d_Different_fill_38 (by decide) ?_
          exact ih_1 (kx + 1) z_59 z_60 _ _ _ (by omega) (by omega) (by rw [tz_59]; simp only [cnt]; rw [if_pos (show mk.testBit kx = true ∧ xp.toInt ≤ tI f kx ∧ tI g kx ≤ xq.toInt from of_decide_eq_true c_56)]) (by omega) hP hS (lv_sub hl [2, 3, 4, 5, 1, 0] rfl)
  exact L_1 (_ + 1) 0 (0 : Int32) (0 : Int32) _ _ _ (Nat.lt_succ_self _) (by omega) kc_0 kc_0 hP hS (lv_sub hl [2, 3, 4, 5, 1, 0] rfl)
theorem d_Different_round_0 : decode b_Different_round 0 = .ok (.iconst 1, 1) := by decide +kernel
theorem d_Different_round_1 : decode b_Different_round 1 = .ok (.istore_n 2, 1) := by decide +kernel
theorem d_Different_round_2 : decode b_Different_round 2 = .ok (.iconst 0, 1) := by decide +kernel
theorem d_Different_round_3 : decode b_Different_round 3 = .ok (.istore_n 3, 1) := by decide +kernel
theorem d_Different_round_4 : decode b_Different_round 4 = .ok (.iload_n 3, 1) := by decide +kernel
theorem d_Different_round_5 : decode b_Different_round 5 = .ok (.bipush 10, 2) := by decide +kernel
theorem d_Different_round_7 : decode b_Different_round 7 = .ok (.if_icmp .ge 85, 3) := by decide +kernel
theorem d_Different_round_10 : decode b_Different_round 10 = .ok (.iload_n 2, 1) := by decide +kernel
theorem d_Different_round_11 : decode b_Different_round 11 = .ok (.ifCond .eq 81, 3) := by decide +kernel
theorem d_Different_round_14 : decode b_Different_round 14 = .ok (.iconst 0, 1) := by decide +kernel
theorem d_Different_round_15 : decode b_Different_round 15 = .ok (.istore 4, 2) := by decide +kernel
theorem d_Different_round_17 : decode b_Different_round 17 = .ok (.iload 4, 2) := by decide +kernel
theorem d_Different_round_19 : decode b_Different_round 19 = .ok (.bipush 10, 2) := by decide +kernel
theorem d_Different_round_21 : decode b_Different_round 21 = .ok (.if_icmp .ge 65, 3) := by decide +kernel
theorem d_Different_round_24 : decode b_Different_round 24 = .ok (.iload_n 2, 1) := by decide +kernel
theorem d_Different_round_25 : decode b_Different_round 25 = .ok (.ifCond .eq 61, 3) := by decide +kernel
theorem d_Different_round_28 : decode b_Different_round 28 = .ok (.aload_n 0, 1) := by decide +kernel
theorem d_Different_round_29 : decode b_Different_round 29 = .ok (.iload_n 3, 1) := by decide +kernel
theorem d_Different_round_30 : decode b_Different_round 30 = .ok (.invokevirtual 15, 3) := by decide +kernel
theorem d_Different_round_33 : decode b_Different_round 33 = .ok (.ifCond .eq 47, 3) := by decide +kernel
theorem d_Different_round_36 : decode b_Different_round 36 = .ok (.aload_n 0, 1) := by decide +kernel
theorem d_Different_round_37 : decode b_Different_round 37 = .ok (.iload 4, 2) := by decide +kernel
theorem d_Different_round_39 : decode b_Different_round 39 = .ok (.invokevirtual 15, 3) := by decide +kernel
theorem d_Different_round_42 : decode b_Different_round 42 = .ok (.ifCond .eq 38, 3) := by decide +kernel
theorem d_Different_round_45 : decode b_Different_round 45 = .ok (.aload_n 1, 1) := by decide +kernel
theorem d_Different_round_46 : decode b_Different_round 46 = .ok (.getfield 19, 3) := by decide +kernel
theorem d_Different_round_49 : decode b_Different_round 49 = .ok (.iload_n 3, 1) := by decide +kernel
theorem d_Different_round_50 : decode b_Different_round 50 = .ok (.iaload, 1) := by decide +kernel
theorem d_Different_round_51 : decode b_Different_round 51 = .ok (.aload_n 1, 1) := by decide +kernel
theorem d_Different_round_52 : decode b_Different_round 52 = .ok (.getfield 25, 3) := by decide +kernel
theorem d_Different_round_55 : decode b_Different_round 55 = .ok (.iload 4, 2) := by decide +kernel
theorem d_Different_round_57 : decode b_Different_round 57 = .ok (.iaload, 1) := by decide +kernel
theorem d_Different_round_58 : decode b_Different_round 58 = .ok (.if_icmp .gt 22, 3) := by decide +kernel
theorem d_Different_round_61 : decode b_Different_round 61 = .ok (.aload_n 0, 1) := by decide +kernel
theorem d_Different_round_62 : decode b_Different_round 62 = .ok (.aload_n 1, 1) := by decide +kernel
theorem d_Different_round_63 : decode b_Different_round 63 = .ok (.aload_n 1, 1) := by decide +kernel
theorem d_Different_round_64 : decode b_Different_round 64 = .ok (.getfield 19, 3) := by decide +kernel
theorem d_Different_round_67 : decode b_Different_round 67 = .ok (.iload_n 3, 1) := by decide +kernel
theorem d_Different_round_68 : decode b_Different_round 68 = .ok (.iaload, 1) := by decide +kernel
theorem d_Different_round_69 : decode b_Different_round 69 = .ok (.aload_n 1, 1) := by decide +kernel
theorem d_Different_round_70 : decode b_Different_round 70 = .ok (.getfield 25, 3) := by decide +kernel
theorem d_Different_round_73 : decode b_Different_round 73 = .ok (.iload 4, 2) := by decide +kernel
theorem d_Different_round_75 : decode b_Different_round 75 = .ok (.iaload, 1) := by decide +kernel
theorem d_Different_round_76 : decode b_Different_round 76 = .ok (.invokevirtual 36, 3) := by decide +kernel
theorem d_Different_round_79 : decode b_Different_round 79 = .ok (.istore_n 2, 1) := by decide +kernel
theorem d_Different_round_80 : decode b_Different_round 80 = .ok (.iinc 4 1, 3) := by decide +kernel
theorem d_Different_round_83 : decode b_Different_round 83 = .ok (.goto (-66), 3) := by decide +kernel
theorem d_Different_round_86 : decode b_Different_round 86 = .ok (.iinc 3 1, 3) := by decide +kernel
theorem d_Different_round_89 : decode b_Different_round 89 = .ok (.goto (-85), 3) := by decide +kernel
theorem d_Different_round_92 : decode b_Different_round 92 = .ok (.iload_n 2, 1) := by decide +kernel
theorem d_Different_round_93 : decode b_Different_round 93 = .ok (.ireturn, 1) := by decide +kernel
set_option maxHeartbeats 4000000 in
set_option maxRecDepth 20000 in
theorem k_Different_round (l : Launch) (D : va_G) (cA : Nat → ClassId) (adr : Nat → Nat) (N : List Nat) (hi : wI N adr) (cn : Nat → va_E) (t : Nat) (xm : Int32) (gd : Bool) (hT : cn t = .inr (5, [.int xm, .int (bi gd)])) (hN : t ∈ N) (mk : Nat) (hxm : xm.toInt = (mk : Int)) (b : Nat) (f g : Nat → Int32) (ch : Bool) (hB : BP cA adr cn b f g ch) (hMb : BM N b) (hdt : t ≠ b ∧ t ≠ b + 1 ∧ t ≠ b + 2) (nn : Nat) (hn10 : nn ≤ 10) (hne : Ne nn (tI f) (tI g)) (hrg : ∀ k, k < nn → -100 ≤ tI f k ∧ tI g k ≤ 100) (hm : ∀ j, j < 10 → mk.testBit j = true → j < nn) : Ct l y_Different_round b_Different_round 5 (some .boolean) 7 D cA [.ref (adr t), .ref (adr b)] (fun H => va_P D classes (wl N adr cn) H) (fun r H => ∃ (cn2 : Nat → va_E) (f2 g2 : Nat → Int32) (q c2 : Bool), r = some (.int (bi q)) ∧ FrB b cn cn2 ∧ BP cA adr cn2 b f2 g2 c2 ∧ NOK nn (Fx7 (fun j => mk.testBit j)) (tI f) (tI g) q (tI f2) (tI g2) ch c2 ∧ va_P D classes (wl N adr cn2) H) (wA N adr) := by
  refine Ct.mk (by decide) (Nat.le_of_ble_eq_true rfl) ?_
  intro p e s m args below meth c Q H locs ls hx hb hr hml hlk hown hin hK hQ hS hP hl
  have hl : lv_has ls 5 [(0, .ref (adr t)), (1, .ref (adr b))] := hl
  have hown : s.vm.findClass "RangeSheet$Different" = some m.cls := hown
  refine lv_iconst (v := 1) hx hb d_Different_round_0 (by decide) ?_
  refine lv_istore_n (lv' := [(2, .int (1 : Int32)), (0, .ref (adr t)), (1, .ref (adr b))]) hx hb d_Different_round_1 rfl hl (by decide) rfl (fun ls hl => ?_)
  refine lv_iconst (v := 0) hx hb d_Different_round_2 (by decide) ?_
  refine lv_istore_n (lv' := [(3, .int (0 : Int32)), (2, .int (1 : Int32)), (0, .ref (adr t)), (1, .ref (adr b))]) hx hb d_Different_round_3 rfl hl (by decide) rfl (fun ls hl => ?_)
  have L_1 : ∀ (n : Nat) (ix : Nat) (x3 : Int32) (cn1 : Nat → va_E) (f1 : Nat → Int32) (g1 : Nat → Int32) (c1 : Bool) (fn : Bool) (H : Heap) (locs : List Loc) (ls : Array Slot), (10 - ix) < n → (ix ≤ 10) → (x3.toInt = (ix : Int)) → (FrB b cn cn1) → (cn1 t = .inr (5, [.int xm, .int (bi gd)])) → (BP cA adr cn1 b f1 g1 c1) → (FI nn (Fx7 (fun j => mk.testBit j)) (tI f) (tI g) (tI f1) (tI g1) fn ch c1) → (fn = true → Eqb nn (tI f1) (tI g1) (tI f) (tI g) → ∀ i j, i < ix → j < 10 → mk.testBit i = true → mk.testBit j = true → tI f i ≤ tI g j → Flp (fun j => mk.testBit j) (tI f) (tI g) (tI f i) (tI g j)) → va_P D classes (wl N adr cn1) H → va_S (wA N adr) s.heap H locs → lv_has ls 5 [(0, .ref (adr t)), (1, .ref (adr b)), (2, .int (bi fn)), (3, .int x3)] → W p l e (rl 7) s m args below meth c H locs 0 0 Q (F0 m 4 ls []) := by
    intro n
    induction n with
    | zero => intro ix x3 cn1 f1 g1 c1 fn H locs ls hmu; exact absurd hmu (Nat.not_lt_zero _)
    | succ n ih_1 =>
      intro ix x3 cn1 f1 g1 c1 fn H locs ls hmu hix h3 hF1 hT1 hB1 hFI hUC hP hS hl
      refine lv_iload_n hx hb d_Different_round_4 rfl (lv_at hl 3 rfl) ?_
      refine lv_bipush (v := 10) hx hb d_Different_round_5 (by decide) ?_
      refine b_icmp_ge (tgt := 92) hx hb d_Different_round_7 (by decide) h3 kc_10 (fun c_2 => ?_) (fun c_2 => ?_)
      · refine lv_iload_n hx hb d_Different_round_92 rfl (lv_at hl 2 rfl) ?_
        refine e_z hx hb hr hlk hQ hS d_Different_round_93 ?_
        refine ⟨cn1, f1, g1, fn, c1, rfl, hF1, hB1, ⟨fun h => ⟨hFI.2.1 h, fun e9 => ?_⟩, hFI.2.2⟩, hP⟩
        exact Fx7.pairs (fun j hj hmj => hne j (hm j hj hmj)) (fun i j hi hj hmi hmj hij => hUC h e9 i j (by omega) hj hmi hmj hij)
      · refine lv_iload_n hx hb d_Different_round_10 rfl (lv_at hl 2 rfl) ?_
        refine b_bool_eq (tgt := 92) hx hb d_Different_round_11 (by decide) (fun c_3 => ?_) (fun c_3 => ?_)
        · refine lv_iload_n hx hb d_Different_round_92 rfl (lv_at hl 2 rfl) ?_
          refine e_z hx hb hr hlk hQ hS d_Different_round_93 ?_
          refine ⟨cn1, f1, g1, fn, c1, rfl, hF1, hB1, ⟨fun h => ⟨hFI.2.1 h, fun e9 => ?_⟩, hFI.2.2⟩, hP⟩
          rw [c_3] at h; cases h
        · refine lv_iconst (v := 0) hx hb d_Different_round_14 (by decide) ?_
          refine lv_istore (lv' := [(4, .int (0 : Int32)), (0, .ref (adr t)), (1, .ref (adr b)), (2, .int (bi fn)), (3, .int x3)]) hx hb d_Different_round_15 hl (by decide) rfl (fun ls hl => ?_)
          have L_4 : ∀ (n : Nat) (jx : Nat) (x4 : Int32) (cn1 : Nat → va_E) (f1 : Nat → Int32) (g1 : Nat → Int32) (c1 : Bool) (fn : Bool) (H : Heap) (locs : List Loc) (ls : Array Slot), (10 - jx) < n → (jx ≤ 10) → (x4.toInt = (jx : Int)) → (FrB b cn cn1) → (cn1 t = .inr (5, [.int xm, .int (bi gd)])) → (BP cA adr cn1 b f1 g1 c1) → (FI nn (Fx7 (fun j => mk.testBit j)) (tI f) (tI g) (tI f1) (tI g1) fn ch c1) → (fn = true → Eqb nn (tI f1) (tI g1) (tI f) (tI g) → ∀ i j, ((i < ix ∧ j < 10) ∨ (i = ix ∧ j < jx)) → mk.testBit i = true → mk.testBit j = true → tI f i ≤ tI g j → Flp (fun j => mk.testBit j) (tI f) (tI g) (tI f i) (tI g j)) → va_P D classes (wl N adr cn1) H → va_S (wA N adr) s.heap H locs → lv_has ls 5 [(0, .ref (adr t)), (1, .ref (adr b)), (2, .int (bi fn)), (3, .int x3), (4, .int x4)] → W p l e (rl 7) s m args below meth c H locs 0 0 Q (F0 m 17 ls []) := by
            intro n
            induction n with
            | zero => intro jx x4 cn1 f1 g1 c1 fn H locs ls hmu; exact absurd hmu (Nat.not_lt_zero _)
            | succ n ih_4 =>
              intro jx x4 cn1 f1 g1 c1 fn H locs ls hmu hjx h4 hF1 hT1 hB1 hFI hUJ hP hS hl
              refine lv_iload hx hb d_Different_round_17 (lv_at hl 4 rfl) ?_
              refine lv_bipush (v := 10) hx hb d_Different_round_19 (by decide) ?_
              refine b_icmp_ge (tgt := 86) hx hb d_Different_round_21 (by decide) h4 kc_10 (fun c_5 => ?_) (fun c_5 => ?_)
              · refine x_iinc (k := 3) (lv' := fun v_ => [(3, .int v_), (0, .ref (adr t)), (1, .ref (adr b)), (2, .int (bi fn)), (4, .int x4)]) hx hb d_Different_round_86 hl rfl h3 (by decide) (by omega) (by decide) (fun v_ => rfl) (fun z_6 tz_6 ls hl => ?_)
                refine lv_goto (tgt := 4) hx hb d_Different_round_89 (by decide) ?_
                exact ih_1 (ix + 1) z_6 cn1 f1 g1 c1 fn _ _ _ (by omega) (by omega) (by omega) hF1 hT1 hB1 hFI (fun hf e9 i j hi hj hmi hmj hij => hUJ hf e9 i j (by omega) hmi hmj hij) hP hS (lv_sub hl [1, 2, 3, 0] rfl)
              · refine lv_iload_n hx hb d_Different_round_24 rfl (lv_at hl 2 rfl) ?_
                refine b_bool_eq (tgt := 86) hx hb d_Different_round_25 (by decide) (fun c_7 => ?_) (fun c_7 => ?_)
                · refine x_iinc (k := 3) (lv' := fun v_ => [(3, .int v_), (0, .ref (adr t)), (1, .ref (adr b)), (2, .int (bi fn)), (4, .int x4)]) hx hb d_Different_round_86 hl rfl h3 (by decide) (by omega) (by decide) (fun v_ => rfl) (fun z_8 tz_8 ls hl => ?_)
                  refine lv_goto (tgt := 4) hx hb d_Different_round_89 (by decide) ?_
                  exact ih_1 (ix + 1) z_8 cn1 f1 g1 c1 fn _ _ _ (by omega) (by omega) (by omega) hF1 hT1 hB1 hFI (fun hf => by rw [c_7] at hf; cases hf) hP hS (lv_sub hl [1, 2, 3, 0] rfl)
                · have hfn := c_7; have hPN := hFI.2.1 hfn
                  have hrg1 : ∀ k, k < nn → -100 ≤ tI f1 k ∧ tI g1 k ≤ 100 := fun k hk => by have a1 := hPN.1 k hk; have a2 := hrg k hk; omega
                  refine lv_aload_n hx hb d_Different_round_28 rfl (lv_at hl 0 rfl) ?_
                  refine lv_iload_n hx hb d_Different_round_29 rfl (lv_at hl 3 rfl) ?_
                  refine x_V (As := [.int x3]) (rest := []) hx hb hml hown hK (k_Different_has l D cA adr N hi cn1 t xm gd hT1 hN mk hxm ix x3 h3 (by omega)) t_205 t_19 t_202 t_204 ts_3 yk_Different_has ⟨Nat.le_of_ble_eq_true rfl, Nat.le_of_ble_eq_true rfl⟩ (w_rec hK hP hN hT1 rfl) hP rfl hl.1 rfl (Nat.le_of_ble_eq_true rfl) d_Different_round_30 ⟨Nat.le_of_ble_eq_true rfl, Nat.le_of_ble_eq_true rfl⟩ hS (fun q h => h) (fun r H locs hq _ hS => ?_)
                  obtain ⟨rfl, hP⟩ := hq
                  refine W.eq (g2 := F0 m 33 ls [.int (bi (mk.testBit ix))]) rfl ?_
                  refine b_bool_eq (tgt := 80) hx hb d_Different_round_33 (by decide) (fun c_9 => ?_) (fun c_9 => ?_)
                  · refine x_iinc (k := 4) (lv' := fun v_ => [(4, .int v_), (0, .ref (adr t)), (1, .ref (adr b)), (2, .int (bi fn)), (3, .int x3)]) hx hb d_Different_round_80 hl rfl h4 (by decide) (by omega) (by decide) (fun v_ => rfl) (fun z_10 tz_10 ls hl => ?_)
                    refine lv_goto (tgt := 17) hx hb d_Different_round_83 (by decide) ?_
                    exact ih_4 (jx + 1) z_10 cn1 f1 g1 c1 fn _ _ _ (by omega) (by omega) (by omega) hF1 hT1 hB1 hFI (fun hf e9 i j hij hmi hmj hle => by rcases (by omega : ((i < ix ∧ j < 10) ∨ (i = ix ∧ j < jx)) ∨ (i = ix ∧ j = jx)) with z | ⟨z1, z2⟩; exact hUJ hf e9 i j z hmi hmj hle; (rw [z1] at hmi hle ⊢; rw [z2] at hmj hle ⊢; (rw [c_9] at hmi; cases hmi))) hP hS (lv_sub hl [1, 2, 3, 4, 0] rfl)
                  · refine lv_aload_n hx hb d_Different_round_36 rfl (lv_at hl 0 rfl) ?_
                    refine lv_iload hx hb d_Different_round_37 (lv_at hl 4 rfl) ?_
                    refine x_V (As := [.int x4]) (rest := []) hx hb hml hown hK (k_Different_has l D cA adr N hi cn1 t xm gd hT1 hN mk hxm jx x4 h4 (by omega)) t_205 t_19 t_202 t_204 ts_3 yk_Different_has ⟨Nat.le_of_ble_eq_true rfl, Nat.le_of_ble_eq_true rfl⟩ (w_rec hK hP hN hT1 rfl) hP rfl hl.1 rfl (Nat.le_of_ble_eq_true rfl) d_Different_round_39 ⟨Nat.le_of_ble_eq_true rfl, Nat.le_of_ble_eq_true rfl⟩ hS (fun q h => h) (fun r H locs hq _ hS => ?_)
                    obtain ⟨rfl, hP⟩ := hq
                    refine W.eq (g2 := F0 m 42 ls [.int (bi (mk.testBit jx))]) rfl ?_
                    refine b_bool_eq (tgt := 80) hx hb d_Different_round_42 (by decide) (fun c_11 => ?_) (fun c_11 => ?_)
                    · refine x_iinc (k := 4) (lv' := fun v_ => [(4, .int v_), (0, .ref (adr t)), (1, .ref (adr b)), (2, .int (bi fn)), (3, .int x3)]) hx hb d_Different_round_80 hl rfl h4 (by decide) (by omega) (by decide) (fun v_ => rfl) (fun z_12 tz_12 ls hl => ?_)
                      refine lv_goto (tgt := 17) hx hb d_Different_round_83 (by decide) ?_
                      exact ih_4 (jx + 1) z_12 cn1 f1 g1 c1 fn _ _ _ (by omega) (by omega) (by omega) hF1 hT1 hB1 hFI (fun hf e9 i j hij hmi hmj hle => by rcases (by omega : ((i < ix ∧ j < 10) ∨ (i = ix ∧ j < jx)) ∨ (i = ix ∧ j = jx)) with z | ⟨z1, z2⟩; exact hUJ hf e9 i j z hmi hmj hle; (rw [z1] at hmi hle ⊢; rw [z2] at hmj hle ⊢; (rw [c_11] at hmj; cases hmj))) hP hS (lv_sub hl [1, 2, 3, 4, 0] rfl)
                    · have hin := hm ix (by omega) c_9; have hjn := hm jx (by omega) c_11
                      have r1 := hrg1 ix hin; have r2 := hrg1 jx hjn; unfold tI at r1 r2
                      refine lv_aload_n hx hb d_Different_round_45 rfl (lv_at hl 1 rfl) ?_
                      refine w_gfN hx hb hK i_Box hown hP hMb.1 hB1.1 rfl 0 (by decide) t_40 rfl rfl d_Different_round_46 ?_
                      refine lv_iload_n hx hb d_Different_round_49 rfl (lv_at hl 3 rfl) ?_
                      refine w_ld hx hb hK hP hMb.2.1 hB1.2.1 (ix) h3 (by omega) (show ix < 10 by omega) d_Different_round_50 (fun z_13 ez_13 => ?_)
                      subst ez_13
                      refine lv_aload_n hx hb d_Different_round_51 rfl (lv_at hl 1 rfl) ?_
                      refine w_gfN hx hb hK i_Box hown hP hMb.1 hB1.1 rfl 1 (by decide) t_46 rfl rfl d_Different_round_52 ?_
                      refine lv_iload hx hb d_Different_round_55 (lv_at hl 4 rfl) ?_
                      refine w_ld hx hb hK hP hMb.2.2 hB1.2.2 (jx) h4 (by omega) (show jx < 10 by omega) d_Different_round_57 (fun z_14 ez_14 => ?_)
                      subst ez_14
                      refine b_icmp_gt (tgt := 80) hx hb d_Different_round_58 (by decide) rfl rfl (fun c_15 => ?_) (fun c_15 => ?_)
                      · refine x_iinc (k := 4) (lv' := fun v_ => [(4, .int v_), (0, .ref (adr t)), (1, .ref (adr b)), (2, .int (bi fn)), (3, .int x3)]) hx hb d_Different_round_80 hl rfl h4 (by decide) (by omega) (by decide) (fun v_ => rfl) (fun z_16 tz_16 ls hl => ?_)
                        refine lv_goto (tgt := 17) hx hb d_Different_round_83 (by decide) ?_
                        exact ih_4 (jx + 1) z_16 cn1 f1 g1 c1 fn _ _ _ (by omega) (by omega) (by omega) hF1 hT1 hB1 hFI (fun hf e9 i j hij hmi hmj hle => by rcases (by omega : ((i < ix ∧ j < 10) ∨ (i = ix ∧ j < jx)) ∨ (i = ix ∧ j = jx)) with z | ⟨z1, z2⟩; exact hUJ hf e9 i j z hmi hmj hle; (rw [z1] at hmi hle ⊢; rw [z2] at hmj hle ⊢; (exfalso; have b1 := e9 ix (hm ix (by omega) hmi); have b2 := e9 jx (hm jx (by omega) hmj); unfold tI at *; omega))) hP hS (lv_sub hl [1, 2, 3, 4, 0] rfl)
                      · refine lv_aload_n hx hb d_Different_round_61 rfl (lv_at hl 0 rfl) ?_
                        refine lv_aload_n hx hb d_Different_round_62 rfl (lv_at hl 1 rfl) ?_
                        refine lv_aload_n hx hb d_Different_round_63 rfl (lv_at hl 1 rfl) ?_
                        refine w_gfN hx hb hK i_Box hown hP hMb.1 hB1.1 rfl 0 (by decide) t_40 rfl rfl d_Different_round_64 ?_
                        refine lv_iload_n hx hb d_Different_round_67 rfl (lv_at hl 3 rfl) ?_
                        refine w_ld hx hb hK hP hMb.2.1 hB1.2.1 (ix) h3 (by omega) (show ix < 10 by omega) d_Different_round_68 (fun z_17 ez_17 => ?_)
                        subst ez_17
                        refine lv_aload_n hx hb d_Different_round_69 rfl (lv_at hl 1 rfl) ?_
                        refine w_gfN hx hb hK i_Box hown hP hMb.1 hB1.1 rfl 1 (by decide) t_46 rfl rfl d_Different_round_70 ?_
                        refine lv_iload hx hb d_Different_round_73 (lv_at hl 4 rfl) ?_
                        refine w_ld hx hb hK hP hMb.2.2 hB1.2.2 (jx) h4 (by omega) (show jx < 10 by omega) d_Different_round_75 (fun z_18 ez_18 => ?_)
                        subst ez_18
                        refine x_V (As := [.ref (adr b), .int (f1 ix), .int (g1 jx)]) (rest := []) hx hb hml hown hK (k_Different_fill l D cA adr N hi cn1 t xm gd hT1 hN mk hxm b f1 g1 c1 ⟨hB1.1, hB1.2.1, hB1.2.2⟩ hMb hdt nn hn10 hPN.2.1 hrg1 hm (f1 ix) (g1 jx) (by omega) (by omega)) t_209 t_19 t_206 t_208 ts_4 yk_Different_fill ⟨Nat.le_of_ble_eq_true rfl, Nat.le_of_ble_eq_true rfl⟩ (w_rec hK hP hN hT1 rfl) hP rfl hl.1 rfl (Nat.le_of_ble_eq_true rfl) d_Different_round_76 ⟨Nat.le_of_ble_eq_true rfl, Nat.le_of_ble_eq_true rfl⟩ hS (fun q h => h) (fun r H locs hq _ hS => ?_)
                        obtain ⟨cn_19, f_19, g_19, q_19, c_19, rfl, hFb_19, hB_19, hS9_19, hT9_19, hN9_19, hP⟩ := hq
                        have hx_19_20 : cn_19 t = .inr (5, [.int xm, .int (bi gd)]) := (hFb_19 t (by omega) (by omega) (by omega)).trans hT1
                        have hfr_19 : FrB b cn cn_19 := hF1.tr hFb_19
                        refine W.eq (g2 := F0 m 79 ls [.int (bi q_19)]) rfl ?_
                        refine lv_istore_n (lv' := [(2, .int (bi q_19)), (0, .ref (adr t)), (1, .ref (adr b)), (3, .int x3), (4, .int x4)]) hx hb d_Different_round_79 rfl hl (by decide) rfl (fun ls hl => ?_)
                        refine x_iinc (k := 4) (lv' := fun v_ => [(4, .int v_), (2, .int (bi q_19)), (0, .ref (adr t)), (1, .ref (adr b)), (3, .int x3)]) hx hb d_Different_round_80 hl rfl h4 (by decide) (by omega) (by decide) (fun v_ => rfl) (fun z_21 tz_21 ls hl => ?_)
                        refine lv_goto (tgt := 17) hx hb d_Different_round_83 (by decide) ?_
                        have hFI9 : FI nn (Fx7 (fun j => mk.testBit j)) (tI f) (tI g) (tI f_19) (tI g_19) q_19 ch c_19 := ⟨hS9_19.tr hFI.1, fun h => hPN.on (hT9_19 h).1, fun h bl bh hs hn hf => hN9_19 h bl bh (hPN.2.2.1 bl bh hs hn hf) hn hf⟩
                        have hUJ9 : q_19 = true → Eqb nn (tI f_19) (tI g_19) (tI f) (tI g) → ∀ i j, ((i < ix ∧ j < 10) ∨ (i = ix ∧ j < (jx + 1))) → mk.testBit i = true → mk.testBit j = true → tI f i ≤ tI g j → Flp (fun j => mk.testBit j) (tI f) (tI g) (tI f i) (tI g j) := by
                          intro hf e9 i j hij hmi hmj hle
                          have e1 : Eqb nn (tI f1) (tI g1) (tI f) (tI g) := fun j hj => by have b1 := e9 j hj; have b2 := hS9_19 j hj; have b3 := hFI.1 j hj; omega
                          have e2 : Eqb nn (tI f_19) (tI g_19) (tI f1) (tI g1) := fun j hj => by have b1 := e9 j hj; have b2 := e1 j hj; omega
                          rcases (by omega : ((i < ix ∧ j < 10) ∨ (i = ix ∧ j < jx)) ∨ (i = ix ∧ j = jx)) with z | ⟨z1, z2⟩
                          · exact hUJ hfn e1 i j z hmi hmj hle
                          · have hl := ((hT9_19 hf).2 e2).cg hm e1
                            have b1 := e1 ix (hm ix (by omega) (by rw [← z1]; exact hmi)); have b2 := e1 jx (hm jx (by omega) (by rw [← z2]; exact hmj))
                            rw [z1, z2, ← b1.1, ← b2.2]; exact hl
                        exact ih_4 (jx + 1) z_21 cn_19 f_19 g_19 c_19 q_19 _ _ _ (by omega) (by omega) (by omega) hfr_19 hx_19_20 hB_19 hFI9 hUJ9 hP hS (lv_sub hl [2, 3, 1, 4, 0] rfl)
          exact L_4 (_ + 1) 0 (0 : Int32) cn1 f1 g1 c1 fn _ _ _ (Nat.lt_succ_self _) (by omega) kc_0 hF1 hT1 hB1 hFI (fun hf e9 i j hij => hUC hf e9 i j (by omega) (by omega)) hP hS (lv_sub hl [1, 2, 3, 4, 0] rfl)
  exact L_1 (_ + 1) 0 (0 : Int32) cn f g ch true _ _ _ (Nat.lt_succ_self _) (by omega) kc_0 FrB.rf hT hB ⟨Sb.rf, fun _ => PN.rf hne, fun h => absurd h (by decide)⟩ (fun _ _ i j hi => absurd hi (by omega)) hP hS (lv_sub hl [2, 3, 1, 0] rfl)
theorem wd_dec {n : Nat} {Fx : (Nat → Int) → (Nat → Int) → Prop} {xl xh yl yh : Nat → Int} {c : Bool} {m : Nat} (hmu : wd n xl xh < m + 1) (h : PN n Fx xl xh yl yh false c) (hc : c = true) : wd n yl yh < m := by
  have e : ¬ Eqb n yl yh xl xh := by
    rcases h.2.2.2.mp hc with q | q
    · cases q
    · exact q
  have := wd_lt h.1 h.2.1 e
  omega
theorem d_Different_narrow_0 : decode b_Different_narrow 0 = .ok (.aload_n 1, 1) := by decide +kernel
theorem d_Different_narrow_1 : decode b_Different_narrow 1 = .ok (.getfield 40, 3) := by decide +kernel
theorem d_Different_narrow_4 : decode b_Different_narrow 4 = .ok (.istore_n 2, 1) := by decide +kernel
theorem d_Different_narrow_5 : decode b_Different_narrow 5 = .ok (.iconst 1, 1) := by decide +kernel
theorem d_Different_narrow_6 : decode b_Different_narrow 6 = .ok (.istore_n 3, 1) := by decide +kernel
theorem d_Different_narrow_7 : decode b_Different_narrow 7 = .ok (.iload_n 2, 1) := by decide +kernel
theorem d_Different_narrow_8 : decode b_Different_narrow 8 = .ok (.aload_n 1, 1) := by decide +kernel
theorem d_Different_narrow_9 : decode b_Different_narrow 9 = .ok (.getfield 40, 3) := by decide +kernel
theorem d_Different_narrow_12 : decode b_Different_narrow 12 = .ok (.ior, 1) := by decide +kernel
theorem d_Different_narrow_13 : decode b_Different_narrow 13 = .ok (.istore_n 2, 1) := by decide +kernel
theorem d_Different_narrow_14 : decode b_Different_narrow 14 = .ok (.aload_n 1, 1) := by decide +kernel
theorem d_Different_narrow_15 : decode b_Different_narrow 15 = .ok (.iconst 0, 1) := by decide +kernel
theorem d_Different_narrow_16 : decode b_Different_narrow 16 = .ok (.putfield 40, 3) := by decide +kernel
theorem d_Different_narrow_19 : decode b_Different_narrow 19 = .ok (.aload_n 0, 1) := by decide +kernel
theorem d_Different_narrow_20 : decode b_Different_narrow 20 = .ok (.aload_n 1, 1) := by decide +kernel
theorem d_Different_narrow_21 : decode b_Different_narrow 21 = .ok (.invokevirtual 44, 3) := by decide +kernel
theorem d_Different_narrow_24 : decode b_Different_narrow 24 = .ok (.istore_n 3, 1) := by decide +kernel
theorem d_Different_narrow_25 : decode b_Different_narrow 25 = .ok (.iload_n 3, 1) := by decide +kernel
theorem d_Different_narrow_26 : decode b_Different_narrow 26 = .ok (.ifCond .eq 10, 3) := by decide +kernel
theorem d_Different_narrow_29 : decode b_Different_narrow 29 = .ok (.aload_n 1, 1) := by decide +kernel
theorem d_Different_narrow_30 : decode b_Different_narrow 30 = .ok (.getfield 40, 3) := by decide +kernel
theorem d_Different_narrow_33 : decode b_Different_narrow 33 = .ok (.ifCond .ne (-26), 3) := by decide +kernel
theorem d_Different_narrow_36 : decode b_Different_narrow 36 = .ok (.aload_n 1, 1) := by decide +kernel
theorem d_Different_narrow_37 : decode b_Different_narrow 37 = .ok (.dup, 1) := by decide +kernel
theorem d_Different_narrow_38 : decode b_Different_narrow 38 = .ok (.getfield 40, 3) := by decide +kernel
theorem d_Different_narrow_41 : decode b_Different_narrow 41 = .ok (.iload_n 2, 1) := by decide +kernel
theorem d_Different_narrow_42 : decode b_Different_narrow 42 = .ok (.ior, 1) := by decide +kernel
theorem d_Different_narrow_43 : decode b_Different_narrow 43 = .ok (.putfield 40, 3) := by decide +kernel
theorem d_Different_narrow_46 : decode b_Different_narrow 46 = .ok (.iload_n 3, 1) := by decide +kernel
theorem d_Different_narrow_47 : decode b_Different_narrow 47 = .ok (.ireturn, 1) := by decide +kernel
set_option maxHeartbeats 4000000 in
set_option maxRecDepth 20000 in
theorem k_Different_narrow (l : Launch) (D : va_G) (cA : Nat → ClassId) (adr : Nat → Nat) (N : List Nat) (hi : wI N adr) (cn : Nat → va_E) (t : Nat) (xm : Int32) (gd : Bool) (hT : cn t = .inr (5, [.int xm, .int (bi gd)])) (hN : t ∈ N) (mk : Nat) (hxm : xm.toInt = (mk : Int)) (b : Nat) (f g : Nat → Int32) (ch : Bool) (hB : BP cA adr cn b f g ch) (hMb : BM N b) (hdt : t ≠ b ∧ t ≠ b + 1 ∧ t ≠ b + 2) (nn : Nat) (hn10 : nn ≤ 10) (hne : Ne nn (tI f) (tI g)) (hrg : ∀ k, k < nn → -100 ≤ tI f k ∧ tI g k ≤ 100) (hm : ∀ j, j < 10 → mk.testBit j = true → j < nn) : Ct l y_Different_narrow b_Different_narrow 4 (some .boolean) 9 D cA [.ref (adr t), .ref (adr b)] (fun H => va_P D classes (wl N adr cn) H) (fun r H => ∃ (cn2 : Nat → va_E) (f2 g2 : Nat → Int32) (q c2 : Bool), r = some (.int (bi q)) ∧ FrB b cn cn2 ∧ BP cA adr cn2 b f2 g2 c2 ∧ NOK nn (Fx7 (fun j => mk.testBit j)) (tI f) (tI g) q (tI f2) (tI g2) ch c2 ∧ va_P D classes (wl N adr cn2) H) (wA N adr) := by
  refine Ct.mk (by decide) (Nat.le_of_ble_eq_true rfl) ?_
  intro p e s m args below meth c Q H locs ls hx hb hr hml hlk hown hin hK hQ hS hP hl
  have hl : lv_has ls 4 [(0, .ref (adr t)), (1, .ref (adr b))] := hl
  have hown : s.vm.findClass "RangeSheet$Different" = some m.cls := hown
  refine lv_aload_n hx hb d_Different_narrow_0 rfl (lv_at hl 1 rfl) ?_
  refine w_gfN hx hb hK i_Box hown hP hMb.1 hB.1 rfl 2 (by decide) t_50 rfl rfl d_Different_narrow_1 ?_
  refine lv_istore_n (lv' := [(2, .int (bi ch)), (0, .ref (adr t)), (1, .ref (adr b))]) hx hb d_Different_narrow_4 rfl hl (by decide) rfl (fun ls hl => ?_)
  refine lv_iconst (v := 1) hx hb d_Different_narrow_5 (by decide) ?_
  refine lv_istore_n (lv' := [(3, .int (1 : Int32)), (2, .int (bi ch)), (0, .ref (adr t)), (1, .ref (adr b))]) hx hb d_Different_narrow_6 rfl hl (by decide) rfl (fun ls hl => ?_)
  have L_1 : ∀ (n : Nat) (cn1 : Nat → va_E) (f1 : Nat → Int32) (g1 : Nat → Int32) (c1 : Bool) (b1 : Bool) (H : Heap) (locs : List Loc) (ls : Array Slot), (wd nn (tI f1) (tI g1)) < n → (FrB b cn cn1) → (cn1 t = .inr (5, [.int xm, .int (bi gd)])) → (BP cA adr cn1 b f1 g1 c1) → (PN nn (Fx7 (fun j => mk.testBit j)) (tI f) (tI g) (tI f1) (tI g1) ch (b1 || c1)) → va_P D classes (wl N adr cn1) H → va_S (wA N adr) s.heap H locs → lv_has ls 4 [(0, .ref (adr t)), (1, .ref (adr b)), (2, .int (bi b1))] → W p l e (rl 9) s m args below meth c H locs 0 0 Q (F0 m 7 ls []) := by
    intro n
    induction n with
    | zero => intro cn1 f1 g1 c1 b1 H locs ls hmu; exact absurd hmu (Nat.not_lt_zero _)
    | succ n ih_1 =>
      intro cn1 f1 g1 c1 b1 H locs ls hmu hF1 hT1 hB1 hPN hP hS hl
      have hrg1 : ∀ k, k < nn → -100 ≤ tI f1 k ∧ tI g1 k ≤ 100 := fun k hk => by have a1 := hPN.1 k hk; have a2 := hrg k hk; omega
      refine lv_iload_n hx hb d_Different_narrow_7 rfl (lv_at hl 2 rfl) ?_
      refine lv_aload_n hx hb d_Different_narrow_8 rfl (lv_at hl 1 rfl) ?_
      refine w_gfN hx hb hK i_Box hown hP hMb.1 hB1.1 rfl 2 (by decide) t_50 rfl rfl d_Different_narrow_9 ?_
      refine x_or hx hb d_Different_narrow_12 ?_
      refine lv_istore_n (lv' := [(2, .int (bi (b1 || c1))), (0, .ref (adr t)), (1, .ref (adr b))]) hx hb d_Different_narrow_13 rfl hl (by decide) rfl (fun ls hl => ?_)
      refine lv_aload_n hx hb d_Different_narrow_14 rfl (lv_at hl 2 rfl) ?_
      refine lv_iconst (v := 0) hx hb d_Different_narrow_15 (by decide) ?_
      refine W.eq (g2 := F0 m 16 ls (.int (bi false) :: [.ref (adr b)])) rfl ?_
      refine w_pfN hx hb hK i_Box t_Box t_Box_ok n_Box hown hi hP hS wA_mem hMb.1 hB1.1 rfl 2 (by decide) t_50 rfl rfl (bi_nar _) (bi_fit _) rfl d_Different_narrow_16 (fun H locs hP hS => ?_)
      obtain ⟨cn_2, ecn_2⟩ : ∃ q : Nat → va_E, q = va_up cn1 b (.inr (2, [.ref (adr (b + 1)), .ref (adr (b + 2)), .int (bi false)])) := ⟨_, rfl⟩
      have hP : va_P D classes (wl N adr cn_2) H := by rw [ecn_2]; exact hP
      have ho_2_3 : cn_2 b = .inr (2, [.ref (adr (b + 1)), .ref (adr (b + 2)), .int (bi false)]) := by rw [ecn_2]; exact va_up_self _ _ _
      have ho_2_4 : cn_2 (b + 1) = .inl (cA 0, 10, .inl f1) := by rw [ecn_2, va_up_ne _ _ (by omega)]; exact hB1.2.1
      have ho_2_5 : cn_2 (b + 2) = .inl (cA 0, 10, .inl g1) := by rw [ecn_2, va_up_ne _ _ (by omega)]; exact hB1.2.2
      have ho_2_6 : cn_2 t = .inr (5, [.int xm, .int (bi gd)]) := by rw [ecn_2, va_up_ne _ _ (by omega)]; exact hT1
      have hfr_7 : FrB b cn cn_2 := fun k a1 a2 a3 => (congrFun ecn_2 k).trans ((va_up_ne _ _ a1).trans (hF1 k a1 a2 a3))
      refine lv_aload_n hx hb d_Different_narrow_19 rfl (lv_at hl 1 rfl) ?_
      refine lv_aload_n hx hb d_Different_narrow_20 rfl (lv_at hl 2 rfl) ?_
      refine x_V (As := [.ref (adr b)]) (rest := []) hx hb hml hown hK (k_Different_round l D cA adr N hi cn_2 t xm gd ho_2_6 hN mk hxm b f1 g1 false ⟨ho_2_3, ho_2_4, ho_2_5⟩ hMb hdt nn hn10 hPN.2.1 hrg1 hm) t_201 t_19 t_197 t_199 ts_2 yk_Different_round ⟨Nat.le_of_ble_eq_true rfl, Nat.le_of_ble_eq_true rfl⟩ (w_rec hK hP hN ho_2_6 rfl) hP rfl hl.1 rfl (Nat.le_of_ble_eq_true rfl) d_Different_narrow_21 ⟨Nat.le_of_ble_eq_true rfl, Nat.le_of_ble_eq_true rfl⟩ hS (fun q h => h) (fun r H locs hq _ hS => ?_)
      obtain ⟨cn_8, f_8, g_8, q_8, c_8, rfl, hFb_8, hB_8, hK9_8, hP⟩ := hq
      have hx_8_9 : cn_8 t = .inr (5, [.int xm, .int (bi gd)]) := (hFb_8 t (by omega) (by omega) (by omega)).trans ho_2_6
      have hfr_8 : FrB b cn cn_8 := hfr_7.tr hFb_8
      refine W.eq (g2 := F0 m 24 ls [.int (bi q_8)]) rfl ?_
      refine lv_istore_n (lv' := [(3, .int (bi q_8)), (2, .int (bi (b1 || c1))), (0, .ref (adr t)), (1, .ref (adr b))]) hx hb d_Different_narrow_24 rfl hl (by decide) rfl (fun ls hl => ?_)
      refine lv_iload_n hx hb d_Different_narrow_25 rfl (lv_at hl 0 rfl) ?_
      refine b_bool_eq (tgt := 36) hx hb d_Different_narrow_26 (by decide) (fun c_10 => ?_) (fun c_10 => ?_)
      · refine lv_aload_n hx hb d_Different_narrow_36 rfl (lv_at hl 3 rfl) ?_
        refine lv_dup hx hb d_Different_narrow_37 rfl ?_
        refine w_gfN hx hb hK i_Box hown hP hMb.1 hB_8.1 rfl 2 (by decide) t_50 rfl rfl d_Different_narrow_38 ?_
        refine lv_iload_n hx hb d_Different_narrow_41 rfl (lv_at hl 1 rfl) ?_
        refine x_or hx hb d_Different_narrow_42 ?_
        refine w_pfN hx hb hK i_Box t_Box t_Box_ok n_Box hown hi hP hS wA_mem hMb.1 hB_8.1 rfl 2 (by decide) t_50 rfl rfl (bi_nar _) (bi_fit _) rfl d_Different_narrow_43 (fun H locs hP hS => ?_)
        obtain ⟨cn_11, ecn_11⟩ : ∃ q : Nat → va_E, q = va_up cn_8 b (.inr (2, [.ref (adr (b + 1)), .ref (adr (b + 2)), .int (bi (c_8 || (b1 || c1)))])) := ⟨_, rfl⟩
        have hP : va_P D classes (wl N adr cn_11) H := by rw [ecn_11]; exact hP
        have ho_11_12 : cn_11 b = .inr (2, [.ref (adr (b + 1)), .ref (adr (b + 2)), .int (bi (c_8 || (b1 || c1)))]) := by rw [ecn_11]; exact va_up_self _ _ _
        have ho_11_13 : cn_11 (b + 1) = .inl (cA 0, 10, .inl f_8) := by rw [ecn_11, va_up_ne _ _ (by omega)]; exact hB_8.2.1
        have ho_11_14 : cn_11 (b + 2) = .inl (cA 0, 10, .inl g_8) := by rw [ecn_11, va_up_ne _ _ (by omega)]; exact hB_8.2.2
        have ho_11_15 : cn_11 t = .inr (5, [.int xm, .int (bi gd)]) := by rw [ecn_11, va_up_ne _ _ (by omega)]; exact hx_8_9
        have hfr_16 : FrB b cn cn_11 := fun k a1 a2 a3 => (congrFun ecn_11 k).trans ((va_up_ne _ _ a1).trans (hfr_8 k a1 a2 a3))
        refine lv_iload_n hx hb d_Different_narrow_46 rfl (lv_at hl 0 rfl) ?_
        refine e_z hx hb hr hlk hQ hS d_Different_narrow_47 ?_
        refine ⟨cn_11, f_8, g_8, q_8, (c_8 || (b1 || c1)), rfl, hfr_16, ⟨ho_11_12, ho_11_13, ho_11_14⟩, ⟨fun h => ?_, fun h bl bh hs hn hf => (hK9_8).2 h bl bh (hPN.2.2.1 bl bh hs hn hf) hn hf⟩, hP⟩
        rw [c_10] at h; cases h
      · refine lv_aload_n hx hb d_Different_narrow_29 rfl (lv_at hl 3 rfl) ?_
        refine w_gfN hx hb hK i_Box hown hP hMb.1 hB_8.1 rfl 2 (by decide) t_50 rfl rfl d_Different_narrow_30 ?_
        refine b_bool_ne (tgt := 7) hx hb d_Different_narrow_33 (by decide) (fun c_17 => ?_) (fun c_17 => ?_)
        · have hkk := hK9_8; have hqq := c_10; have hcc := c_17
          exact ih_1 cn_8 f_8 g_8 c_8 (b1 || c1) _ _ _ (wd_dec hmu (hkk.1 hqq).1 hcc) hfr_8 hx_8_9 hB_8 (hPN.comb ((hK9_8).1 c_10).1) hP hS (lv_sub hl [2, 3, 1] rfl)
        · refine lv_aload_n hx hb d_Different_narrow_36 rfl (lv_at hl 3 rfl) ?_
          refine lv_dup hx hb d_Different_narrow_37 rfl ?_
          refine w_gfN hx hb hK i_Box hown hP hMb.1 hB_8.1 rfl 2 (by decide) t_50 rfl rfl d_Different_narrow_38 ?_
          refine lv_iload_n hx hb d_Different_narrow_41 rfl (lv_at hl 1 rfl) ?_
          refine x_or hx hb d_Different_narrow_42 ?_
          refine w_pfN hx hb hK i_Box t_Box t_Box_ok n_Box hown hi hP hS wA_mem hMb.1 hB_8.1 rfl 2 (by decide) t_50 rfl rfl (bi_nar _) (bi_fit _) rfl d_Different_narrow_43 (fun H locs hP hS => ?_)
          obtain ⟨cn_18, ecn_18⟩ : ∃ q : Nat → va_E, q = va_up cn_8 b (.inr (2, [.ref (adr (b + 1)), .ref (adr (b + 2)), .int (bi (c_8 || (b1 || c1)))])) := ⟨_, rfl⟩
          have hP : va_P D classes (wl N adr cn_18) H := by rw [ecn_18]; exact hP
          have ho_18_19 : cn_18 b = .inr (2, [.ref (adr (b + 1)), .ref (adr (b + 2)), .int (bi (c_8 || (b1 || c1)))]) := by rw [ecn_18]; exact va_up_self _ _ _
          have ho_18_20 : cn_18 (b + 1) = .inl (cA 0, 10, .inl f_8) := by rw [ecn_18, va_up_ne _ _ (by omega)]; exact hB_8.2.1
          have ho_18_21 : cn_18 (b + 2) = .inl (cA 0, 10, .inl g_8) := by rw [ecn_18, va_up_ne _ _ (by omega)]; exact hB_8.2.2
          have ho_18_22 : cn_18 t = .inr (5, [.int xm, .int (bi gd)]) := by rw [ecn_18, va_up_ne _ _ (by omega)]; exact hx_8_9
          have hfr_23 : FrB b cn cn_18 := fun k a1 a2 a3 => (congrFun ecn_18 k).trans ((va_up_ne _ _ a1).trans (hfr_8 k a1 a2 a3))
          refine lv_iload_n hx hb d_Different_narrow_46 rfl (lv_at hl 0 rfl) ?_
          refine e_z hx hb hr hlk hQ hS d_Different_narrow_47 ?_
          refine ⟨cn_18, f_8, g_8, q_8, (c_8 || (b1 || c1)), rfl, hfr_23, ⟨ho_18_19, ho_18_20, ho_18_21⟩, ⟨fun h => ?_, fun h bl bh hs hn hf => (hK9_8).2 h bl bh (hPN.2.2.1 bl bh hs hn hf) hn hf⟩, hP⟩
          have hR := (hK9_8).1 h
          have hX := hPN.comb hR.1
          refine ⟨by rw [Bool.or_comm]; exact hX, fun e9 => ?_⟩
          have e1 : Eqb nn (tI f1) (tI g1) (tI f) (tI g) := fun j hj => by have b1 := e9 j hj; have b2 := hR.1.1 j hj; have b3 := hPN.1 j hj; omega
          exact (hR.2 (fun j hj => by have b1 := e9 j hj; have b2 := e1 j hj; omega)).cg hm e1
  exact L_1 (_ + 1) cn f g ch ch _ _ _ (Nat.lt_succ_self _) FrB.rf hT hB (by rw [Bool.or_self]; exact PN.rf hne) hP hS (lv_sub hl [2, 3, 1] rfl)
