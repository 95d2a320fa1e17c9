/-- what the others can be when the first is x -/
def SpT (R : Int → Int → Int → Prop) (x fb tb fc tc : Int) (tw : Bool) (y z : Int) : Prop := (fb ≤ y ∧ y ≤ tb) ∧ (fc ≤ z ∧ z ≤ tc) ∧ (tw = true → y = z) ∧ R x y z
/-- the second cell goes from fb to tb in U, the third from fc to tc -/
def RcO (U : Int → Int → Prop) (fb tb fc tc : Int) : Prop := (∀ y z, U y z → fb ≤ y ∧ y ≤ tb ∧ fc ≤ z ∧ z ≤ tc) ∧ (fb ≤ tb → fc ≤ tc → (∃ z, U fb z) ∧ (∃ z, U tb z) ∧ (∃ y, U y fc) ∧ (∃ y, U y tc))
theorem AddR.rc {S : Int → Int → Int → Prop} {U : Int → Int → Prop} {e e' : Nat → Int32} {x fb tb fc tc : Int} (h : AddR e e' x fb tb fc tc) (hE : EE S e) (hx : -200 ≤ x ∧ x ≤ 200) (hU : ∀ y z, U y z → (-200 ≤ y ∧ y ≤ 200) ∧ (-200 ≤ z ∧ z ≤ 200)) (hR : RcO U fb tb fc tc) : EE (fun a y z => S a y z ∨ (a = x ∧ U y z)) e' := by
  refine h.ends hE hx (fun h1 h2 => ?_) hR.1 hR.2
  obtain ⟨⟨z1, t1⟩, ⟨z2, t2⟩, ⟨y3, t3⟩, ⟨y4, t4⟩⟩ := hR.2 h1 h2
  have a1 := hU _ _ t1
  have a2 := hU _ _ t2
  have a3 := hU _ _ t3
  have a4 := hU _ _ t4
  omega
theorem EE.no {S : Int → Int → Int → Prop} {U : Int → Int → Prop} {e : Nat → Int32} {x : Int} (hE : EE S e) (h : ∀ y z, ¬ U y z) : EE (fun a y z => S a y z ∨ (a = x ∧ U y z)) e := hE.congr (fun a y z => ⟨Or.inl, fun q => q.elim id (fun q => absurd q.2 (h y z))⟩)
theorem SpT.rg {R : Int → Int → Int → Prop} {x fb tb fc tc : Int} {tw : Bool} (h : -100 ≤ fb ∧ tb ≤ 100 ∧ -100 ≤ fc ∧ tc ≤ 100) : ∀ y z, SpT R x fb tb fc tc tw y z → (-200 ≤ y ∧ y ≤ 200) ∧ (-200 ≤ z ∧ z ≤ 200) := fun y z q => by
  obtain ⟨q1, q2, -⟩ := q
  omega
section SPN
variable {x fb tb fc tc : Int}
theorem r_sumT (hx : x = 0) (h1 : fb = fc ∧ tb = tc) : RcO (SpT (R3 0) x fb tb fc tc true) fb tb fc tc := by
  refine ⟨fun y z h => by obtain ⟨a, b, -⟩ := h; omega, fun h2 h3 => ⟨⟨fb, ?_⟩, ⟨tb, ?_⟩, ⟨fc, ?_⟩, ⟨tc, ?_⟩⟩⟩
  all_goals exact ⟨by omega, by omega, fun _ => by omega, by show x + _ = _; omega⟩
theorem r_sumN (hx : ¬ x = 0) : RcO (SpT (R3 0) x fb tb fc tc true) fb (fb - 1) fc tc := by
  refine ⟨fun y z h => ?_, fun h2 => absurd h2 (by omega)⟩
  obtain ⟨a, b, c, d⟩ := h
  have c := c rfl
  have d : x + y = z := d
  omega
theorem r_sum : RcO (SpT (R3 0) x fb tb fc tc false) (max fb (fc - x)) (min tb (tc - x)) (max fb (fc - x) + x) (min tb (tc - x) + x) := by
  refine ⟨fun y z h => ?_, fun h2 h3 => ⟨⟨max fb (fc - x) + x, ?_⟩, ⟨min tb (tc - x) + x, ?_⟩, ⟨max fb (fc - x), ?_⟩, ⟨min tb (tc - x), ?_⟩⟩⟩
  · obtain ⟨a, b, c, d⟩ := h
    have d : x + y = z := d
    omega
  all_goals exact ⟨by omega, by omega, fun h => (Bool.false_ne_true h).elim, by show x + _ = _; omega⟩
theorem r_lesT (h1 : fb = fc ∧ tb = tc) (h0 : fb ≤ tb) : RcO (SpT (R3 3) x fb tb fc tc true) fb (min tb x) fb (min tb x) := by
  refine ⟨fun y z h => ?_, fun h2 h3 => ⟨⟨fb, ?_⟩, ⟨min tb x, ?_⟩, ⟨fb, ?_⟩, ⟨min tb x, ?_⟩⟩⟩
  · obtain ⟨a, b, c, d⟩ := h
    have c := c rfl
    have d : min x y = z := d
    omega
  all_goals exact ⟨by omega, by omega, fun _ => by omega, by show min x _ = _; omega⟩
theorem r_les1 (h1 : fc ≤ x ∧ x ≤ tc) : RcO (fun y z => SpT (R3 3) x fb tb fc tc false y z ∧ z = x) (max fb x) tb x x := by
  refine ⟨fun y z h => ?_, fun h2 h3 => ⟨⟨x, ?_⟩, ⟨x, ?_⟩, ⟨max fb x, ?_⟩, ⟨max fb x, ?_⟩⟩⟩
  · obtain ⟨⟨a, b, c, d⟩, e⟩ := h
    have d : min x y = z := d
    omega
  all_goals exact ⟨⟨by omega, by omega, fun h => (Bool.false_ne_true h).elim, by show min x _ = _; omega⟩, rfl⟩
theorem r_les2 : RcO (fun y z => SpT (R3 3) x fb tb fc tc false y z ∧ ¬ z = x) (max fb fc) (min (x - 1) (min tb tc)) (max fb fc) (min (x - 1) (min tb tc)) := by
  refine ⟨fun y z h => ?_, fun h2 h3 => ⟨⟨max fb fc, ?_⟩, ⟨min (x - 1) (min tb tc), ?_⟩, ⟨max fb fc, ?_⟩, ⟨min (x - 1) (min tb tc), ?_⟩⟩⟩
  · obtain ⟨⟨a, b, c, d⟩, e⟩ := h
    have d : min x y = z := d
    omega
  all_goals exact ⟨⟨by omega, by omega, fun h => (Bool.false_ne_true h).elim, by show min x _ = _; omega⟩, by omega⟩
theorem r_greT (h1 : fb = fc ∧ tb = tc) (h0 : fb ≤ tb) : RcO (SpT (R3 4) x fb tb fc tc true) (max fb x) tb (max fb x) tb := by
  refine ⟨fun y z h => ?_, fun h2 h3 => ⟨⟨max fb x, ?_⟩, ⟨tb, ?_⟩, ⟨max fb x, ?_⟩, ⟨tb, ?_⟩⟩⟩
  · obtain ⟨a, b, c, d⟩ := h
    have c := c rfl
    have d : max x y = z := d
    omega
  all_goals exact ⟨by omega, by omega, fun _ => by omega, by show max x _ = _; omega⟩
theorem r_gre1 (h1 : fc ≤ x ∧ x ≤ tc) : RcO (fun y z => SpT (R3 4) x fb tb fc tc false y z ∧ z = x) fb (min tb x) x x := by
  refine ⟨fun y z h => ?_, fun h2 h3 => ⟨⟨x, ?_⟩, ⟨x, ?_⟩, ⟨min tb x, ?_⟩, ⟨min tb x, ?_⟩⟩⟩
  · obtain ⟨⟨a, b, c, d⟩, e⟩ := h
    have d : max x y = z := d
    omega
  all_goals exact ⟨⟨by omega, by omega, fun h => (Bool.false_ne_true h).elim, by show max x _ = _; omega⟩, rfl⟩
theorem r_gre2 : RcO (fun y z => SpT (R3 4) x fb tb fc tc false y z ∧ ¬ z = x) (max (x + 1) (max fb fc)) (min tb tc) (max (x + 1) (max fb fc)) (min tb tc) := by
  refine ⟨fun y z h => ?_, fun h2 h3 => ⟨⟨max (x + 1) (max fb fc), ?_⟩, ⟨min tb tc, ?_⟩, ⟨max (x + 1) (max fb fc), ?_⟩, ⟨min tb tc, ?_⟩⟩⟩
  · obtain ⟨⟨a, b, c, d⟩, e⟩ := h
    have d : max x y = z := d
    omega
  all_goals exact ⟨⟨by omega, by omega, fun h => (Bool.false_ne_true h).elim, by show max x _ = _; omega⟩, by omega⟩
theorem r_if1 {tw : Bool} (hx : x < 1 ∨ tw = true) (h1 : tw = true → fb = fc ∧ tb = tc) : RcO (SpT (R3 6) x fb tb fc tc tw) fb tb fc tc := by
  refine ⟨fun y z h => by obtain ⟨a, b, -⟩ := h; omega, fun h2 h3 => ?_⟩
  cases tw with
  | true =>
    have h1 := h1 rfl
    refine ⟨⟨fb, ?_⟩, ⟨tb, ?_⟩, ⟨fc, ?_⟩, ⟨tc, ?_⟩⟩
    all_goals exact ⟨by omega, by omega, fun _ => by omega, Or.inr (by omega)⟩
  | false =>
    have hx : x < 1 := hx.elim id (fun h => (Bool.false_ne_true h).elim)
    refine ⟨⟨fc, ?_⟩, ⟨fc, ?_⟩, ⟨fb, ?_⟩, ⟨fb, ?_⟩⟩
    all_goals exact ⟨by omega, by omega, fun h => (Bool.false_ne_true h).elim, Or.inl hx⟩
theorem r_if2 (hx : ¬ x < 1) (h0 : fb ≤ tb ∧ fc ≤ tc) : RcO (SpT (R3 6) x fb tb fc tc false) fb (min tb tc) (max fc fb) tc := by
  refine ⟨fun y z h => ?_, fun h2 h3 => ⟨⟨tc, ?_⟩, ⟨tc, ?_⟩, ⟨fb, ?_⟩, ⟨fb, ?_⟩⟩⟩
  · obtain ⟨a, b, c, d⟩ := h
    have d : x < 1 ∨ y ≤ z := d
    omega
  all_goals exact ⟨by omega, by omega, fun h => (Bool.false_ne_true h).elim, Or.inr (by omega)⟩
theorem r_pro1 (hx : x = 1) (h1 : fb = fc ∧ tb = tc) : RcO (SpT (R3 1) x fb tb fc tc true) fb tb fc tc := by
  refine ⟨fun y z h => by obtain ⟨a, b, -⟩ := h; omega, fun h2 h3 => ⟨⟨fb, ?_⟩, ⟨tb, ?_⟩, ⟨fc, ?_⟩, ⟨tc, ?_⟩⟩⟩
  all_goals exact ⟨by omega, by omega, fun _ => by omega, by show x * _ = _; rw [hx, Int.one_mul]; try omega⟩
theorem pro_t {y : Int} (hx : ¬ x = 1) (h : x * y = y) : y = 0 := by
  have : (x - 1) * y = 0 := by rw [Int.sub_mul, Int.one_mul]; omega
  rcases Int.mul_eq_zero.mp this with q | q
  · omega
  · exact q
theorem r_pro0 (hx : ¬ x = 1) (hz : fc ≤ 0 ∧ 0 ≤ tc) (h1 : fb = fc ∧ tb = tc) : RcO (SpT (R3 1) x fb tb fc tc true) 0 0 0 0 := by
  refine ⟨fun y z h => ?_, fun h2 h3 => ⟨⟨0, ?_⟩, ⟨0, ?_⟩, ⟨0, ?_⟩, ⟨0, ?_⟩⟩⟩
  · obtain ⟨a, b, c, d⟩ := h
    have c := c rfl
    have d : x * y = z := d
    have := pro_t hx (d.trans c.symm)
    omega
  all_goals exact ⟨by omega, by omega, fun _ => rfl, Int.mul_zero x⟩
theorem r_proN (hx : ¬ x = 1) (hz : ¬ (fc ≤ 0 ∧ 0 ≤ tc)) : ∀ y z, ¬ SpT (R3 1) x fb tb fc tc true y z := fun y z h => by
  obtain ⟨a, b, c, d⟩ := h
  have c := c rfl
  have d : x * y = z := d
  have := pro_t hx (d.trans c.symm)
  omega
theorem r_prz (hx : x = 0) (hz : fc ≤ 0 ∧ 0 ≤ tc) (h0 : fb ≤ tb) : RcO (SpT (R3 1) x fb tb fc tc false) fb tb 0 0 := by
  refine ⟨fun y z h => ?_, fun h2 h3 => ⟨⟨0, ?_⟩, ⟨0, ?_⟩, ⟨fb, ?_⟩, ⟨fb, ?_⟩⟩⟩
  · obtain ⟨a, b, c, d⟩ := h
    have d : x * y = z := d
    rw [hx, Int.zero_mul] at d
    omega
  all_goals exact ⟨by omega, by omega, fun h => (Bool.false_ne_true h).elim, by show x * _ = 0; rw [hx, Int.zero_mul]⟩
theorem r_przN (hx : x = 0) (hz : ¬ (fc ≤ 0 ∧ 0 ≤ tc)) : ∀ y z, ¬ SpT (R3 1) x fb tb fc tc false y z := fun y z h => by
  obtain ⟨a, b, c, d⟩ := h
  have d : x * y = z := d
  rw [hx, Int.zero_mul] at d
  omega
theorem mu_le {a b c : Int} (h : a ≤ b) (hc : 0 < c) : c * a ≤ c * b := Int.mul_le_mul_of_nonneg_left h (by omega)
theorem mu_ge {a b c : Int} (h : a ≤ b) (hc : c < 0) : c * b ≤ c * a := by
  have := Int.mul_le_mul_of_nonneg_left (c := -c) h (by omega)
  rw [Int.neg_mul, Int.neg_mul] at this
  omega
/-- floors and ceilings -/
theorem fl_p {n y : Int} (hx : 0 < x) : y ≤ fl n x ↔ x * y ≤ n := by
  obtain ⟨g1, g2⟩ := fl_pos (x := n) hx
  constructor
  · intro h
    have := mu_le h hx
    rw [Int.mul_comm x (fl n x)] at this
    omega
  · intro h
    rcases (by omega : y ≤ fl n x ∨ fl n x + 1 ≤ y) with q | q
    · exact q
    · have := mu_le q hx
      rw [Int.mul_add, Int.mul_one, Int.mul_comm x (fl n x)] at this
      omega
theorem fl_n {n y : Int} (hx : x < 0) : y ≤ fl n x ↔ n ≤ x * y := by
  obtain ⟨g1, g2⟩ := fl_neg (x := n) hx
  constructor
  · intro h
    have := mu_ge h hx
    rw [Int.mul_comm x (fl n x)] at this
    omega
  · intro h
    rcases (by omega : y ≤ fl n x ∨ fl n x + 1 ≤ y) with q | q
    · exact q
    · have := mu_ge q hx
      rw [Int.mul_add, Int.mul_one, Int.mul_comm x (fl n x)] at this
      omega
theorem ce_p {n y : Int} (hx : 0 < x) : -(fl (-n) x) ≤ y ↔ n ≤ x * y := by
  have h := fl_p (x := x) (n := -n) (y := -y) hx
  rw [Int.mul_neg] at h
  omega
theorem ce_n {n y : Int} (hx : x < 0) : -(fl (-n) x) ≤ y ↔ x * y ≤ n := by
  have h := fl_n (x := x) (n := -n) (y := -y) hx
  rw [Int.mul_neg] at h
  omega
theorem r_proP (hx : 0 < x) {f t : Int} (hf : f = max fb (-(fl (-fc) x))) (ht : t = min tb (fl tc x)) : RcO (SpT (R3 1) x fb tb fc tc false) f t (x * f) (x * t) := by
  have k1 : ∀ y, f ≤ y ↔ fb ≤ y ∧ fc ≤ x * y := fun y => by have := ce_p (n := fc) (y := y) hx; omega
  have k2 : ∀ y, y ≤ t ↔ y ≤ tb ∧ x * y ≤ tc := fun y => by have := fl_p (n := tc) (y := y) hx; omega
  have uu : ∀ y, f ≤ y → y ≤ t → SpT (R3 1) x fb tb fc tc false y (x * y) := fun y a b => ⟨⟨((k1 y).mp a).1, ((k2 y).mp b).1⟩, ⟨((k1 y).mp a).2, ((k2 y).mp b).2⟩, fun h => (Bool.false_ne_true h).elim, rfl⟩
  refine ⟨fun y z h => ?_, fun h2 h3 => ⟨⟨_, uu f (Int.le_refl _) h2⟩, ⟨_, uu t h2 (Int.le_refl _)⟩, ⟨f, uu f (Int.le_refl _) h2⟩, ⟨t, uu t h2 (Int.le_refl _)⟩⟩⟩
  obtain ⟨a, b, c, d⟩ := h
  have d : x * y = z := d
  subst d
  have q1 := (k1 y).mpr ⟨a.1, b.1⟩
  have q2 := (k2 y).mpr ⟨a.2, b.2⟩
  exact ⟨q1, q2, mu_le q1 hx, mu_le q2 hx⟩
theorem r_proM (hx : x < 0) {f t : Int} (hf : f = max fb (-(fl (-tc) x))) (ht : t = min tb (fl fc x)) : RcO (SpT (R3 1) x fb tb fc tc false) f t (x * t) (x * f) := by
  have k1 : ∀ y, f ≤ y ↔ fb ≤ y ∧ x * y ≤ tc := fun y => by have := ce_n (n := tc) (y := y) hx; omega
  have k2 : ∀ y, y ≤ t ↔ y ≤ tb ∧ fc ≤ x * y := fun y => by have := fl_n (n := fc) (y := y) hx; omega
  have uu : ∀ y, f ≤ y → y ≤ t → SpT (R3 1) x fb tb fc tc false y (x * y) := fun y a b => ⟨⟨((k1 y).mp a).1, ((k2 y).mp b).1⟩, ⟨((k2 y).mp b).2, ((k1 y).mp a).2⟩, fun h => (Bool.false_ne_true h).elim, rfl⟩
  refine ⟨fun y z h => ?_, fun h2 h3 => ?_⟩
  · obtain ⟨a, b, c, d⟩ := h
    have d : x * y = z := d
    subst d
    have q1 := (k1 y).mpr ⟨a.1, b.2⟩
    have q2 := (k2 y).mpr ⟨a.2, b.1⟩
    exact ⟨q1, q2, mu_ge q2 hx, mu_ge q1 hx⟩
  · exact ⟨⟨_, uu f (Int.le_refl _) h2⟩, ⟨_, uu t h2 (Int.le_refl _)⟩, ⟨t, uu t h2 (Int.le_refl _)⟩, ⟨f, uu f (Int.le_refl _) h2⟩⟩
/-- the divisor is first -/
def RQ (x y z : Int) : Prop := R3 2 y x z
theorem r_quo0 (hx : x = 0) {tw : Bool} : ∀ y z, ¬ SpT RQ x fb tb fc tc tw y z := fun y z h => h.2.2.2.1 hx
theorem fl_mono {a b : Int} (h : a ≤ b) : (0 < x → fl a x ≤ fl b x) ∧ (x < 0 → fl b x ≤ fl a x) := by
  refine ⟨fun hx => ?_, fun hx => ?_⟩
  · rw [fl_p hx]; have := (fl_p (n := a) (y := fl a x) hx).mp (Int.le_refl _); omega
  · rw [fl_n hx]; have := (fl_n (n := b) (y := fl b x) hx).mp (Int.le_refl _); omega
theorem r_quoP (hx : 0 < x) {f t : Int} (hf : f = max fb (fc * x)) (ht : t = min tb ((tc + 1) * x - 1)) : RcO (SpT RQ x fb tb fc tc false) f t (min (fl f x) (fl t x)) (max (fl f x) (fl t x)) := by
  have k1 : ∀ y, f ≤ y ↔ fb ≤ y ∧ fc ≤ fl y x := fun y => by have := fl_p (n := y) (y := fc) hx; rw [Int.mul_comm] at this; omega
  have k2 : ∀ y, y ≤ t ↔ y ≤ tb ∧ fl y x ≤ tc := fun y => by have := fl_p (n := y) (y := tc + 1) hx; rw [Int.mul_comm] at this; omega
  have uu : ∀ y, f ≤ y → y ≤ t → SpT RQ x fb tb fc tc false y (fl y x) := fun y a b => ⟨⟨((k1 y).mp a).1, ((k2 y).mp b).1⟩, ⟨((k1 y).mp a).2, ((k2 y).mp b).2⟩, fun h => (Bool.false_ne_true h).elim, by omega, rfl⟩
  refine ⟨fun y z h => ?_, fun h2 h3 => ?_⟩
  · obtain ⟨a, b, c, -, d⟩ := h
    subst d
    have q1 := (k1 y).mpr ⟨a.1, b.1⟩
    have q2 := (k2 y).mpr ⟨a.2, b.2⟩
    have m1 := (fl_mono (x := x) q1).1 hx
    have m2 := (fl_mono (x := x) q2).1 hx
    omega
  · have m1 := (fl_mono (x := x) h2).1 hx
    rw [show min (fl f x) (fl t x) = fl f x by omega, show max (fl f x) (fl t x) = fl t x by omega]
    exact ⟨⟨_, uu f (Int.le_refl _) h2⟩, ⟨_, uu t h2 (Int.le_refl _)⟩, ⟨f, uu f (Int.le_refl _) h2⟩, ⟨t, uu t h2 (Int.le_refl _)⟩⟩
theorem r_quoM (hx : x < 0) {f t : Int} (hf : f = max fb ((tc + 1) * x + 1)) (ht : t = min tb (fc * x)) : RcO (SpT RQ x fb tb fc tc false) f t (min (fl f x) (fl t x)) (max (fl f x) (fl t x)) := by
  have k1 : ∀ y, f ≤ y ↔ fb ≤ y ∧ fl y x ≤ tc := fun y => by have := fl_n (n := y) (y := tc + 1) hx; rw [Int.mul_comm] at this; omega
  have k2 : ∀ y, y ≤ t ↔ y ≤ tb ∧ fc ≤ fl y x := fun y => by have := fl_n (n := y) (y := fc) hx; rw [Int.mul_comm] at this; omega
  have uu : ∀ y, f ≤ y → y ≤ t → SpT RQ x fb tb fc tc false y (fl y x) := fun y a b => ⟨⟨((k1 y).mp a).1, ((k2 y).mp b).1⟩, ⟨((k2 y).mp b).2, ((k1 y).mp a).2⟩, fun h => (Bool.false_ne_true h).elim, by omega, rfl⟩
  refine ⟨fun y z h => ?_, fun h2 h3 => ?_⟩
  · obtain ⟨a, b, c, -, d⟩ := h
    subst d
    have q1 := (k1 y).mpr ⟨a.1, b.2⟩
    have q2 := (k2 y).mpr ⟨a.2, b.1⟩
    have m1 := (fl_mono (x := x) q1).2 hx
    have m2 := (fl_mono (x := x) q2).2 hx
    omega
  · have m1 := (fl_mono (x := x) h2).2 hx
    rw [show min (fl f x) (fl t x) = fl t x by omega, show max (fl f x) (fl t x) = fl f x by omega]
    exact ⟨⟨_, uu f (Int.le_refl _) h2⟩, ⟨_, uu t h2 (Int.le_refl _)⟩, ⟨t, uu t h2 (Int.le_refl _)⟩, ⟨f, uu f (Int.le_refl _) h2⟩⟩
end SPN
theorem d_Sum_span_0 : decode b_Sum_span 0 = .ok (.iload 6, 2) := by decide +kernel
theorem d_Sum_span_2 : decode b_Sum_span 2 = .ok (.ifCond .eq 27, 3) := by decide +kernel
theorem d_Sum_span_5 : decode b_Sum_span 5 = .ok (.aload_n 0, 1) := by decide +kernel
theorem d_Sum_span_6 : decode b_Sum_span 6 = .ok (.iload_n 1, 1) := by decide +kernel
theorem d_Sum_span_7 : decode b_Sum_span 7 = .ok (.iload_n 2, 1) := by decide +kernel
theorem d_Sum_span_8 : decode b_Sum_span 8 = .ok (.iload_n 1, 1) := by decide +kernel
theorem d_Sum_span_9 : decode b_Sum_span 9 = .ok (.ifCond .ne 7, 3) := by decide +kernel
theorem d_Sum_span_12 : decode b_Sum_span 12 = .ok (.iload_n 3, 1) := by decide +kernel
theorem d_Sum_span_13 : decode b_Sum_span 13 = .ok (.goto 6, 3) := by decide +kernel
theorem d_Sum_span_16 : decode b_Sum_span 16 = .ok (.iload_n 2, 1) := by decide +kernel
theorem d_Sum_span_17 : decode b_Sum_span 17 = .ok (.iconst 1, 1) := by decide +kernel
theorem d_Sum_span_18 : decode b_Sum_span 18 = .ok (.isub, 1) := by decide +kernel
theorem d_Sum_span_19 : decode b_Sum_span 19 = .ok (.iload 4, 2) := by decide +kernel
theorem d_Sum_span_21 : decode b_Sum_span 21 = .ok (.iload 5, 2) := by decide +kernel
theorem d_Sum_span_23 : decode b_Sum_span 23 = .ok (.invokevirtual 7, 3) := by decide +kernel
theorem d_Sum_span_26 : decode b_Sum_span 26 = .ok (.goto 40, 3) := by decide +kernel
theorem d_Sum_span_29 : decode b_Sum_span 29 = .ok (.iload_n 2, 1) := by decide +kernel
theorem d_Sum_span_30 : decode b_Sum_span 30 = .ok (.iload 4, 2) := by decide +kernel
theorem d_Sum_span_32 : decode b_Sum_span 32 = .ok (.iload_n 1, 1) := by decide +kernel
theorem d_Sum_span_33 : decode b_Sum_span 33 = .ok (.isub, 1) := by decide +kernel
theorem d_Sum_span_34 : decode b_Sum_span 34 = .ok (.invokestatic 13, 3) := by decide +kernel
theorem d_Sum_span_37 : decode b_Sum_span 37 = .ok (.istore 7, 2) := by decide +kernel
theorem d_Sum_span_39 : decode b_Sum_span 39 = .ok (.iload_n 3, 1) := by decide +kernel
theorem d_Sum_span_40 : decode b_Sum_span 40 = .ok (.iload 5, 2) := by decide +kernel
theorem d_Sum_span_42 : decode b_Sum_span 42 = .ok (.iload_n 1, 1) := by decide +kernel
theorem d_Sum_span_43 : decode b_Sum_span 43 = .ok (.isub, 1) := by decide +kernel
theorem d_Sum_span_44 : decode b_Sum_span 44 = .ok (.invokestatic 19, 3) := by decide +kernel
theorem d_Sum_span_47 : decode b_Sum_span 47 = .ok (.istore 8, 2) := by decide +kernel
theorem d_Sum_span_49 : decode b_Sum_span 49 = .ok (.aload_n 0, 1) := by decide +kernel
theorem d_Sum_span_50 : decode b_Sum_span 50 = .ok (.iload_n 1, 1) := by decide +kernel
theorem d_Sum_span_51 : decode b_Sum_span 51 = .ok (.iload 7, 2) := by decide +kernel
theorem d_Sum_span_53 : decode b_Sum_span 53 = .ok (.iload 8, 2) := by decide +kernel
theorem d_Sum_span_55 : decode b_Sum_span 55 = .ok (.iload 7, 2) := by decide +kernel
theorem d_Sum_span_57 : decode b_Sum_span 57 = .ok (.iload_n 1, 1) := by decide +kernel
theorem d_Sum_span_58 : decode b_Sum_span 58 = .ok (.iadd, 1) := by decide +kernel
theorem d_Sum_span_59 : decode b_Sum_span 59 = .ok (.iload 8, 2) := by decide +kernel
theorem d_Sum_span_61 : decode b_Sum_span 61 = .ok (.iload_n 1, 1) := by decide +kernel
theorem d_Sum_span_62 : decode b_Sum_span 62 = .ok (.iadd, 1) := by decide +kernel
theorem d_Sum_span_63 : decode b_Sum_span 63 = .ok (.invokevirtual 7, 3) := by decide +kernel
theorem d_Sum_span_66 : decode b_Sum_span 66 = .ok (.return_, 1) := by decide +kernel
set_option maxHeartbeats 4000000 in
set_option maxRecDepth 20000 in
theorem k_Sum_span (l : Launch) (D : va_G) (cA : Nat → ClassId) (adr : Nat → Nat) (N : List Nat) (hi : wI N adr) (cn : Nat → va_E) (t : Nat) (xa xb xc : Int32) (e0 : Nat → Int32) (gd : Bool) (hT : TP cn t 7 xa xb xc e0 gd) (hN : t ∈ N) (x fb tb fc tc : Int32) (tw : Bool) (hrx : -100 ≤ x.toInt ∧ x.toInt ≤ 100) (hrb : -100 ≤ fb.toInt ∧ fb.toInt ≤ tb.toInt ∧ tb.toInt ≤ 100) (hrc : -100 ≤ fc.toInt ∧ fc.toInt ≤ tc.toInt ∧ tc.toInt ≤ 100) (htw : tw = true → fb.toInt = fc.toInt ∧ tb.toInt = tc.toInt) : Ct l y_Sum_span b_Sum_span 9 none 4 D cA [.ref (adr t), .int x, .int fb, .int tb, .int fc, .int tc, .int (bi tw)] (fun H => va_P D classes (wl N adr cn) H) (fun r H => ∃ (cn2 : Nat → va_E) (e2 : Nat → Int32), r = none ∧ FrT t cn cn2 ∧ TP cn2 t 7 xa xb xc e2 gd ∧ (∀ S : Int → Int → Int → Prop, EE S e0 → EE (fun a y z => S a y z ∨ (a = x.toInt ∧ SpT (R3 0) x.toInt fb.toInt tb.toInt fc.toInt tc.toInt tw y z)) e2) ∧ va_P D classes (wl N adr cn2) H) (wA N adr) := by
  refine Ct.mk (by decide) (Nat.le_of_ble_eq_true rfl) ?_
  intro p e s m args below meth c Q H locs ls hx hb hr hml hlk hown hin hK hQ hS hP hl
  have hl : lv_has ls 9 [(0, .ref (adr t)), (1, .int x), (2, .int fb), (3, .int tb), (4, .int fc), (5, .int tc), (6, .int (bi tw))] := hl
  have hown : s.vm.findClass "RangeSheet$Sum" = some m.cls := hown
  refine lv_iload hx hb d_Sum_span_0 (lv_at hl 6 rfl) ?_
  refine b_bool_eq (tgt := 29) hx hb d_Sum_span_2 (by decide) (fun c_1 => ?_) (fun c_1 => ?_)
  · refine lv_iload_n hx hb d_Sum_span_29 rfl (lv_at hl 2 rfl) ?_
    refine lv_iload hx hb d_Sum_span_30 (lv_at hl 4 rfl) ?_
    refine lv_iload_n hx hb d_Sum_span_32 rfl (lv_at hl 1 rfl) ?_
    refine x_sub hx hb d_Sum_span_33 rfl rfl (by omega) (fun z_2 tz_2 => ?_)
    refine x_max hx hb hml hown hK hl.1 t_280 (Nat.le_of_ble_eq_true rfl) (Nat.le_of_ble_eq_true rfl) ⟨Nat.le_of_ble_eq_true rfl, Nat.le_of_ble_eq_true rfl⟩ (Nat.le_of_ble_eq_true rfl) rfl tz_2  d_Sum_span_34 (fun z_3 tz_3 => ?_)
    refine lv_istore (lv' := [(7, .int z_3), (0, .ref (adr t)), (1, .int x), (2, .int fb), (3, .int tb), (4, .int fc), (5, .int tc), (6, .int (bi tw))]) hx hb d_Sum_span_37 hl (by decide) rfl (fun ls hl => ?_)
    refine lv_iload_n hx hb d_Sum_span_39 rfl (lv_at hl 4 rfl) ?_
    refine lv_iload hx hb d_Sum_span_40 (lv_at hl 6 rfl) ?_
    refine lv_iload_n hx hb d_Sum_span_42 rfl (lv_at hl 2 rfl) ?_
    refine x_sub hx hb d_Sum_span_43 rfl rfl (by omega) (fun z_4 tz_4 => ?_)
    refine x_min hx hb hml hown hK hl.1 t_281 (Nat.le_of_ble_eq_true rfl) (Nat.le_of_ble_eq_true rfl) ⟨Nat.le_of_ble_eq_true rfl, Nat.le_of_ble_eq_true rfl⟩ (Nat.le_of_ble_eq_true rfl) rfl tz_4  d_Sum_span_44 (fun z_5 tz_5 => ?_)
    refine lv_istore (lv' := [(8, .int z_5), (7, .int z_3), (0, .ref (adr t)), (1, .int x), (2, .int fb), (3, .int tb), (4, .int fc), (5, .int tc), (6, .int (bi tw))]) hx hb d_Sum_span_47 hl (by decide) rfl (fun ls hl => ?_)
    refine lv_aload_n hx hb d_Sum_span_49 rfl (lv_at hl 2 rfl) ?_
    refine lv_iload_n hx hb d_Sum_span_50 rfl (lv_at hl 3 rfl) ?_
    refine lv_iload hx hb d_Sum_span_51 (lv_at hl 1 rfl) ?_
    refine lv_iload hx hb d_Sum_span_53 (lv_at hl 0 rfl) ?_
    refine lv_iload hx hb d_Sum_span_55 (lv_at hl 1 rfl) ?_
    refine lv_iload_n hx hb d_Sum_span_57 rfl (lv_at hl 3 rfl) ?_
    refine x_add hx hb d_Sum_span_58 tz_3 rfl (by omega) (fun z_6 tz_6 => ?_)
    refine lv_iload hx hb d_Sum_span_59 (lv_at hl 0 rfl) ?_
    refine lv_iload_n hx hb d_Sum_span_61 rfl (lv_at hl 3 rfl) ?_
    refine x_add hx hb d_Sum_span_62 tz_5 rfl (by omega) (fun z_7 tz_7 => ?_)
    refine x_A (As := [.int x, .int z_3, .int z_5, .int z_6, .int z_7]) (rest := []) hx hb hml hown hK (k_add_Sum l D cA adr N hi cn t xa xb xc e0 gd hT hN x z_3 z_5 z_6 z_7) t_230 t_11 t_277 t_278 t_227 t_279 t_229 yk_Three_add ⟨Nat.le_of_ble_eq_true rfl, Nat.le_of_ble_eq_true rfl⟩ (w_rec hK hP hN hT rfl) hP rfl hl.1 rfl (Nat.le_of_ble_eq_true rfl) d_Sum_span_63 ⟨Nat.le_of_ble_eq_true rfl, Nat.le_of_ble_eq_true rfl⟩ hS (fun q h => h) (fun r H locs hq _ hS => ?_)
    obtain ⟨cn_8, e_8, rfl, hFt_8, hT_8, hA_8, hP⟩ := hq
    have hA_8 : AddR e0 e_8 x.toInt (max fb.toInt (fc.toInt - x.toInt)) (min tb.toInt (tc.toInt - x.toInt)) ((max fb.toInt (fc.toInt - x.toInt)) + x.toInt) ((min tb.toInt (tc.toInt - x.toInt)) + x.toInt) := by have q := hA_8; rw [tz_3, tz_5, tz_6, tz_7] at q; exact q
    have hfr_8 : FrT t cn cn_8 := hFt_8
    refine W.eq (g2 := F0 m 66 ls []) rfl ?_
    refine e_v hx hb hr hlk hQ hS d_Sum_span_66 ?_
    refine ⟨cn_8, e_8, rfl, hfr_8, hT_8, fun S hE => ?_, hP⟩
    rw [c_1]
    exact hA_8.rc (U := SpT (R3 0) x.toInt fb.toInt tb.toInt fc.toInt tc.toInt false) hE (by omega) (SpT.rg (by omega)) r_sum
  · refine lv_aload_n hx hb d_Sum_span_5 rfl (lv_at hl 0 rfl) ?_
    refine lv_iload_n hx hb d_Sum_span_6 rfl (lv_at hl 1 rfl) ?_
    refine lv_iload_n hx hb d_Sum_span_7 rfl (lv_at hl 2 rfl) ?_
    refine lv_iload_n hx hb d_Sum_span_8 rfl (lv_at hl 1 rfl) ?_
    refine b_if_ne (tgt := 16) hx hb d_Sum_span_9 (by decide) rfl (fun c_9 => ?_) (fun c_9 => ?_)
    · refine lv_iload_n hx hb d_Sum_span_16 rfl (lv_at hl 2 rfl) ?_
      refine lv_iconst (v := 1) hx hb d_Sum_span_17 (by decide) ?_
      refine x_sub hx hb d_Sum_span_18 rfl kc_1 (by omega) (fun z_10 tz_10 => ?_)
      refine lv_iload hx hb d_Sum_span_19 (lv_at hl 4 rfl) ?_
      refine lv_iload hx hb d_Sum_span_21 (lv_at hl 5 rfl) ?_
      refine x_A (As := [.int x, .int fb, .int z_10, .int fc, .int tc]) (rest := []) hx hb hml hown hK (k_add_Sum l D cA adr N hi cn t xa xb xc e0 gd hT hN x fb z_10 fc tc) t_230 t_11 t_277 t_278 t_227 t_279 t_229 yk_Three_add ⟨Nat.le_of_ble_eq_true rfl, Nat.le_of_ble_eq_true rfl⟩ (w_rec hK hP hN hT rfl) hP rfl hl.1 rfl (Nat.le_of_ble_eq_true rfl) d_Sum_span_23 ⟨Nat.le_of_ble_eq_true rfl, Nat.le_of_ble_eq_true rfl⟩ hS (fun q h => h) (fun r H locs hq _ hS => ?_)
      obtain ⟨cn_11, e_11, rfl, hFt_11, hT_11, hA_11, hP⟩ := hq
      have hA_11 : AddR e0 e_11 x.toInt fb.toInt (fb.toInt - 1) fc.toInt tc.toInt := by have q := hA_11; rw [tz_10] at q; exact q
      have hfr_11 : FrT t cn cn_11 := hFt_11
      refine W.eq (g2 := F0 m 26 ls []) rfl ?_
      refine lv_goto (tgt := 66) hx hb d_Sum_span_26 (by decide) ?_
      refine e_v hx hb hr hlk hQ hS d_Sum_span_66 ?_
      refine ⟨cn_11, e_11, rfl, hfr_11, hT_11, fun S hE => ?_, hP⟩
      rw [c_1]
      exact hA_11.rc (U := SpT (R3 0) x.toInt fb.toInt tb.toInt fc.toInt tc.toInt true) hE (by omega) (SpT.rg (by omega)) (r_sumN c_9)
    · refine lv_iload_n hx hb d_Sum_span_12 rfl (lv_at hl 3 rfl) ?_
      refine lv_goto (tgt := 19) hx hb d_Sum_span_13 (by decide) ?_
      refine lv_iload hx hb d_Sum_span_19 (lv_at hl 4 rfl) ?_
      refine lv_iload hx hb d_Sum_span_21 (lv_at hl 5 rfl) ?_
      refine x_A (As := [.int x, .int fb, .int tb, .int fc, .int tc]) (rest := []) hx hb hml hown hK (k_add_Sum l D cA adr N hi cn t xa xb xc e0 gd hT hN x fb tb fc tc) t_230 t_11 t_277 t_278 t_227 t_279 t_229 yk_Three_add ⟨Nat.le_of_ble_eq_true rfl, Nat.le_of_ble_eq_true rfl⟩ (w_rec hK hP hN hT rfl) hP rfl hl.1 rfl (Nat.le_of_ble_eq_true rfl) d_Sum_span_23 ⟨Nat.le_of_ble_eq_true rfl, Nat.le_of_ble_eq_true rfl⟩ hS (fun q h => h) (fun r H locs hq _ hS => ?_)
      obtain ⟨cn_12, e_12, rfl, hFt_12, hT_12, hA_12, hP⟩ := hq
      have hfr_12 : FrT t cn cn_12 := hFt_12
      refine W.eq (g2 := F0 m 26 ls []) rfl ?_
      refine lv_goto (tgt := 66) hx hb d_Sum_span_26 (by decide) ?_
      refine e_v hx hb hr hlk hQ hS d_Sum_span_66 ?_
      refine ⟨cn_12, e_12, rfl, hfr_12, hT_12, fun S hE => ?_, hP⟩
      rw [c_1]
      exact hA_12.rc (U := SpT (R3 0) x.toInt fb.toInt tb.toInt fc.toInt tc.toInt true) hE (by omega) (SpT.rg (by omega)) (r_sumT c_9 (htw c_1))
theorem d_If_span_0 : decode b_If_span 0 = .ok (.iload_n 1, 1) := by decide +kernel
theorem d_If_span_1 : decode b_If_span 1 = .ok (.iconst 1, 1) := by decide +kernel
theorem d_If_span_2 : decode b_If_span 2 = .ok (.if_icmp .lt 8, 3) := by decide +kernel
theorem d_If_span_5 : decode b_If_span 5 = .ok (.iload 6, 2) := by decide +kernel
theorem d_If_span_7 : decode b_If_span 7 = .ok (.ifCond .eq 17, 3) := by decide +kernel
theorem d_If_span_10 : decode b_If_span 10 = .ok (.aload_n 0, 1) := by decide +kernel
theorem d_If_span_11 : decode b_If_span 11 = .ok (.iload_n 1, 1) := by decide +kernel
theorem d_If_span_12 : decode b_If_span 12 = .ok (.iload_n 2, 1) := by decide +kernel
theorem d_If_span_13 : decode b_If_span 13 = .ok (.iload_n 3, 1) := by decide +kernel
theorem d_If_span_14 : decode b_If_span 14 = .ok (.iload 4, 2) := by decide +kernel
theorem d_If_span_16 : decode b_If_span 16 = .ok (.iload 5, 2) := by decide +kernel
theorem d_If_span_18 : decode b_If_span 18 = .ok (.invokevirtual 7, 3) := by decide +kernel
theorem d_If_span_21 : decode b_If_span 21 = .ok (.goto 23, 3) := by decide +kernel
theorem d_If_span_24 : decode b_If_span 24 = .ok (.aload_n 0, 1) := by decide +kernel
theorem d_If_span_25 : decode b_If_span 25 = .ok (.iload_n 1, 1) := by decide +kernel
theorem d_If_span_26 : decode b_If_span 26 = .ok (.iload_n 2, 1) := by decide +kernel
theorem d_If_span_27 : decode b_If_span 27 = .ok (.iload_n 3, 1) := by decide +kernel
theorem d_If_span_28 : decode b_If_span 28 = .ok (.iload 5, 2) := by decide +kernel
theorem d_If_span_30 : decode b_If_span 30 = .ok (.invokestatic 13, 3) := by decide +kernel
theorem d_If_span_33 : decode b_If_span 33 = .ok (.iload 4, 2) := by decide +kernel
theorem d_If_span_35 : decode b_If_span 35 = .ok (.iload_n 2, 1) := by decide +kernel
theorem d_If_span_36 : decode b_If_span 36 = .ok (.invokestatic 19, 3) := by decide +kernel
theorem d_If_span_39 : decode b_If_span 39 = .ok (.iload 5, 2) := by decide +kernel
theorem d_If_span_41 : decode b_If_span 41 = .ok (.invokevirtual 7, 3) := by decide +kernel
theorem d_If_span_44 : decode b_If_span 44 = .ok (.return_, 1) := by decide +kernel
set_option maxHeartbeats 4000000 in
set_option maxRecDepth 20000 in
theorem k_If_span (l : Launch) (D : va_G) (cA : Nat → ClassId) (adr : Nat → Nat) (N : List Nat) (hi : wI N adr) (cn : Nat → va_E) (t : Nat) (xa xb xc : Int32) (e0 : Nat → Int32) (gd : Bool) (hT : TP cn t 12 xa xb xc e0 gd) (hN : t ∈ N) (x fb tb fc tc : Int32) (tw : Bool) (hrx : -100 ≤ x.toInt ∧ x.toInt ≤ 100) (hrb : -100 ≤ fb.toInt ∧ fb.toInt ≤ tb.toInt ∧ tb.toInt ≤ 100) (hrc : -100 ≤ fc.toInt ∧ fc.toInt ≤ tc.toInt ∧ tc.toInt ≤ 100) (htw : tw = true → fb.toInt = fc.toInt ∧ tb.toInt = tc.toInt) : Ct l y_If_span b_If_span 7 none 4 D cA [.ref (adr t), .int x, .int fb, .int tb, .int fc, .int tc, .int (bi tw)] (fun H => va_P D classes (wl N adr cn) H) (fun r H => ∃ (cn2 : Nat → va_E) (e2 : Nat → Int32), r = none ∧ FrT t cn cn2 ∧ TP cn2 t 12 xa xb xc e2 gd ∧ (∀ S : Int → Int → Int → Prop, EE S e0 → EE (fun a y z => S a y z ∨ (a = x.toInt ∧ SpT (R3 6) x.toInt fb.toInt tb.toInt fc.toInt tc.toInt tw y z)) e2) ∧ va_P D classes (wl N adr cn2) H) (wA N adr) := by
  refine Ct.mk (by decide) (Nat.le_of_ble_eq_true rfl) ?_
  intro p e s m args below meth c Q H locs ls hx hb hr hml hlk hown hin hK hQ hS hP hl
  have hl : lv_has ls 7 [(0, .ref (adr t)), (1, .int x), (2, .int fb), (3, .int tb), (4, .int fc), (5, .int tc), (6, .int (bi tw))] := hl
  have hown : s.vm.findClass "RangeSheet$If" = some m.cls := hown
  refine lv_iload_n hx hb d_If_span_0 rfl (lv_at hl 1 rfl) ?_
  refine lv_iconst (v := 1) hx hb d_If_span_1 (by decide) ?_
  refine b_icmp_lt (tgt := 10) hx hb d_If_span_2 (by decide) rfl kc_1 (fun c_1 => ?_) (fun c_1 => ?_)
  · refine lv_aload_n hx hb d_If_span_10 rfl (lv_at hl 0 rfl) ?_
    refine lv_iload_n hx hb d_If_span_11 rfl (lv_at hl 1 rfl) ?_
    refine lv_iload_n hx hb d_If_span_12 rfl (lv_at hl 2 rfl) ?_
    refine lv_iload_n hx hb d_If_span_13 rfl (lv_at hl 3 rfl) ?_
    refine lv_iload hx hb d_If_span_14 (lv_at hl 4 rfl) ?_
    refine lv_iload hx hb d_If_span_16 (lv_at hl 5 rfl) ?_
    refine x_A (As := [.int x, .int fb, .int tb, .int fc, .int tc]) (rest := []) hx hb hml hown hK (k_add_If l D cA adr N hi cn t xa xb xc e0 gd hT hN x fb tb fc tc) t_230 t_11 t_237 t_238 t_227 t_239 t_229 yk_Three_add ⟨Nat.le_of_ble_eq_true rfl, Nat.le_of_ble_eq_true rfl⟩ (w_rec hK hP hN hT rfl) hP rfl hl.1 rfl (Nat.le_of_ble_eq_true rfl) d_If_span_18 ⟨Nat.le_of_ble_eq_true rfl, Nat.le_of_ble_eq_true rfl⟩ hS (fun q h => h) (fun r H locs hq _ hS => ?_)
    obtain ⟨cn_2, e_2, rfl, hFt_2, hT_2, hA_2, hP⟩ := hq
    have hfr_2 : FrT t cn cn_2 := hFt_2
    refine W.eq (g2 := F0 m 21 ls []) rfl ?_
    refine lv_goto (tgt := 44) hx hb d_If_span_21 (by decide) ?_
    refine e_v hx hb hr hlk hQ hS d_If_span_44 ?_
    refine ⟨cn_2, e_2, rfl, hfr_2, hT_2, fun S hE => ?_, hP⟩
    exact hA_2.rc (U := SpT (R3 6) x.toInt fb.toInt tb.toInt fc.toInt tc.toInt tw) hE (by omega) (SpT.rg (by omega)) (r_if1 (Or.inl c_1) htw)
  · refine lv_iload hx hb d_If_span_5 (lv_at hl 6 rfl) ?_
    refine b_bool_eq (tgt := 24) hx hb d_If_span_7 (by decide) (fun c_3 => ?_) (fun c_3 => ?_)
    · refine lv_aload_n hx hb d_If_span_24 rfl (lv_at hl 0 rfl) ?_
      refine lv_iload_n hx hb d_If_span_25 rfl (lv_at hl 1 rfl) ?_
      refine lv_iload_n hx hb d_If_span_26 rfl (lv_at hl 2 rfl) ?_
      refine lv_iload_n hx hb d_If_span_27 rfl (lv_at hl 3 rfl) ?_
      refine lv_iload hx hb d_If_span_28 (lv_at hl 5 rfl) ?_
      refine x_min hx hb hml hown hK hl.1 t_240 (Nat.le_of_ble_eq_true rfl) (Nat.le_of_ble_eq_true rfl) ⟨Nat.le_of_ble_eq_true rfl, Nat.le_of_ble_eq_true rfl⟩ (Nat.le_of_ble_eq_true rfl) rfl rfl  d_If_span_30 (fun z_4 tz_4 => ?_)
      refine lv_iload hx hb d_If_span_33 (lv_at hl 4 rfl) ?_
      refine lv_iload_n hx hb d_If_span_35 rfl (lv_at hl 2 rfl) ?_
      refine x_max hx hb hml hown hK hl.1 t_241 (Nat.le_of_ble_eq_true rfl) (Nat.le_of_ble_eq_true rfl) ⟨Nat.le_of_ble_eq_true rfl, Nat.le_of_ble_eq_true rfl⟩ (Nat.le_of_ble_eq_true rfl) rfl rfl  d_If_span_36 (fun z_5 tz_5 => ?_)
      refine lv_iload hx hb d_If_span_39 (lv_at hl 5 rfl) ?_
      refine x_A (As := [.int x, .int fb, .int z_4, .int z_5, .int tc]) (rest := []) hx hb hml hown hK (k_add_If l D cA adr N hi cn t xa xb xc e0 gd hT hN x fb z_4 z_5 tc) t_230 t_11 t_237 t_238 t_227 t_239 t_229 yk_Three_add ⟨Nat.le_of_ble_eq_true rfl, Nat.le_of_ble_eq_true rfl⟩ (w_rec hK hP hN hT rfl) hP rfl hl.1 rfl (Nat.le_of_ble_eq_true rfl) d_If_span_41 ⟨Nat.le_of_ble_eq_true rfl, Nat.le_of_ble_eq_true rfl⟩ hS (fun q h => h) (fun r H locs hq _ hS => ?_)
      obtain ⟨cn_6, e_6, rfl, hFt_6, hT_6, hA_6, hP⟩ := hq
      have hA_6 : AddR e0 e_6 x.toInt fb.toInt (min tb.toInt tc.toInt) (max fc.toInt fb.toInt) tc.toInt := by have q := hA_6; rw [tz_4, tz_5] at q; exact q
      have hfr_6 : FrT t cn cn_6 := hFt_6
      refine W.eq (g2 := F0 m 44 ls []) rfl ?_
      refine e_v hx hb hr hlk hQ hS d_If_span_44 ?_
      refine ⟨cn_6, e_6, rfl, hfr_6, hT_6, fun S hE => ?_, hP⟩
      rw [c_3]; exact hA_6.rc (U := SpT (R3 6) x.toInt fb.toInt tb.toInt fc.toInt tc.toInt false) hE (by omega) (SpT.rg (by omega)) (r_if2 (by omega) (by omega))
    · refine lv_aload_n hx hb d_If_span_10 rfl (lv_at hl 0 rfl) ?_
      refine lv_iload_n hx hb d_If_span_11 rfl (lv_at hl 1 rfl) ?_
      refine lv_iload_n hx hb d_If_span_12 rfl (lv_at hl 2 rfl) ?_
      refine lv_iload_n hx hb d_If_span_13 rfl (lv_at hl 3 rfl) ?_
      refine lv_iload hx hb d_If_span_14 (lv_at hl 4 rfl) ?_
      refine lv_iload hx hb d_If_span_16 (lv_at hl 5 rfl) ?_
      refine x_A (As := [.int x, .int fb, .int tb, .int fc, .int tc]) (rest := []) hx hb hml hown hK (k_add_If l D cA adr N hi cn t xa xb xc e0 gd hT hN x fb tb fc tc) t_230 t_11 t_237 t_238 t_227 t_239 t_229 yk_Three_add ⟨Nat.le_of_ble_eq_true rfl, Nat.le_of_ble_eq_true rfl⟩ (w_rec hK hP hN hT rfl) hP rfl hl.1 rfl (Nat.le_of_ble_eq_true rfl) d_If_span_18 ⟨Nat.le_of_ble_eq_true rfl, Nat.le_of_ble_eq_true rfl⟩ hS (fun q h => h) (fun r H locs hq _ hS => ?_)
      obtain ⟨cn_7, e_7, rfl, hFt_7, hT_7, hA_7, hP⟩ := hq
      have hfr_7 : FrT t cn cn_7 := hFt_7
      refine W.eq (g2 := F0 m 21 ls []) rfl ?_
      refine lv_goto (tgt := 44) hx hb d_If_span_21 (by decide) ?_
      refine e_v hx hb hr hlk hQ hS d_If_span_44 ?_
      refine ⟨cn_7, e_7, rfl, hfr_7, hT_7, fun S hE => ?_, hP⟩
      exact hA_7.rc (U := SpT (R3 6) x.toInt fb.toInt tb.toInt fc.toInt tc.toInt tw) hE (by omega) (SpT.rg (by omega)) (r_if1 (Or.inr c_3) htw)
theorem d_Lesser_span_0 : decode b_Lesser_span 0 = .ok (.iload 6, 2) := by decide +kernel
theorem d_Lesser_span_2 : decode b_Lesser_span 2 = .ok (.ifCond .eq 21, 3) := by decide +kernel
theorem d_Lesser_span_5 : decode b_Lesser_span 5 = .ok (.aload_n 0, 1) := by decide +kernel
theorem d_Lesser_span_6 : decode b_Lesser_span 6 = .ok (.iload_n 1, 1) := by decide +kernel
theorem d_Lesser_span_7 : decode b_Lesser_span 7 = .ok (.iload_n 2, 1) := by decide +kernel
theorem d_Lesser_span_8 : decode b_Lesser_span 8 = .ok (.iload_n 3, 1) := by decide +kernel
theorem d_Lesser_span_9 : decode b_Lesser_span 9 = .ok (.iload_n 1, 1) := by decide +kernel
theorem d_Lesser_span_10 : decode b_Lesser_span 10 = .ok (.invokestatic 7, 3) := by decide +kernel
theorem d_Lesser_span_13 : decode b_Lesser_span 13 = .ok (.iload_n 2, 1) := by decide +kernel
theorem d_Lesser_span_14 : decode b_Lesser_span 14 = .ok (.iload_n 3, 1) := by decide +kernel
theorem d_Lesser_span_15 : decode b_Lesser_span 15 = .ok (.iload_n 1, 1) := by decide +kernel
theorem d_Lesser_span_16 : decode b_Lesser_span 16 = .ok (.invokestatic 7, 3) := by decide +kernel
theorem d_Lesser_span_19 : decode b_Lesser_span 19 = .ok (.invokevirtual 13, 3) := by decide +kernel
theorem d_Lesser_span_22 : decode b_Lesser_span 22 = .ok (.return_, 1) := by decide +kernel
theorem d_Lesser_span_23 : decode b_Lesser_span 23 = .ok (.iload 4, 2) := by decide +kernel
theorem d_Lesser_span_25 : decode b_Lesser_span 25 = .ok (.iload_n 1, 1) := by decide +kernel
theorem d_Lesser_span_26 : decode b_Lesser_span 26 = .ok (.if_icmp .gt 22, 3) := by decide +kernel
theorem d_Lesser_span_29 : decode b_Lesser_span 29 = .ok (.iload_n 1, 1) := by decide +kernel
theorem d_Lesser_span_30 : decode b_Lesser_span 30 = .ok (.iload 5, 2) := by decide +kernel
theorem d_Lesser_span_32 : decode b_Lesser_span 32 = .ok (.if_icmp .gt 16, 3) := by decide +kernel
theorem d_Lesser_span_35 : decode b_Lesser_span 35 = .ok (.aload_n 0, 1) := by decide +kernel
theorem d_Lesser_span_36 : decode b_Lesser_span 36 = .ok (.iload_n 1, 1) := by decide +kernel
theorem d_Lesser_span_37 : decode b_Lesser_span 37 = .ok (.iload_n 2, 1) := by decide +kernel
theorem d_Lesser_span_38 : decode b_Lesser_span 38 = .ok (.iload_n 1, 1) := by decide +kernel
theorem d_Lesser_span_39 : decode b_Lesser_span 39 = .ok (.invokestatic 19, 3) := by decide +kernel
theorem d_Lesser_span_42 : decode b_Lesser_span 42 = .ok (.iload_n 3, 1) := by decide +kernel
theorem d_Lesser_span_43 : decode b_Lesser_span 43 = .ok (.iload_n 1, 1) := by decide +kernel
theorem d_Lesser_span_44 : decode b_Lesser_span 44 = .ok (.iload_n 1, 1) := by decide +kernel
theorem d_Lesser_span_45 : decode b_Lesser_span 45 = .ok (.invokevirtual 13, 3) := by decide +kernel
theorem d_Lesser_span_48 : decode b_Lesser_span 48 = .ok (.iload_n 2, 1) := by decide +kernel
theorem d_Lesser_span_49 : decode b_Lesser_span 49 = .ok (.iload 4, 2) := by decide +kernel
theorem d_Lesser_span_51 : decode b_Lesser_span 51 = .ok (.invokestatic 19, 3) := by decide +kernel
theorem d_Lesser_span_54 : decode b_Lesser_span 54 = .ok (.istore 7, 2) := by decide +kernel
theorem d_Lesser_span_56 : decode b_Lesser_span 56 = .ok (.iload_n 1, 1) := by decide +kernel
theorem d_Lesser_span_57 : decode b_Lesser_span 57 = .ok (.iconst 1, 1) := by decide +kernel
theorem d_Lesser_span_58 : decode b_Lesser_span 58 = .ok (.isub, 1) := by decide +kernel
theorem d_Lesser_span_59 : decode b_Lesser_span 59 = .ok (.iload_n 3, 1) := by decide +kernel
theorem d_Lesser_span_60 : decode b_Lesser_span 60 = .ok (.iload 5, 2) := by decide +kernel
theorem d_Lesser_span_62 : decode b_Lesser_span 62 = .ok (.invokestatic 7, 3) := by decide +kernel
theorem d_Lesser_span_65 : decode b_Lesser_span 65 = .ok (.invokestatic 7, 3) := by decide +kernel
theorem d_Lesser_span_68 : decode b_Lesser_span 68 = .ok (.istore 8, 2) := by decide +kernel
theorem d_Lesser_span_70 : decode b_Lesser_span 70 = .ok (.aload_n 0, 1) := by decide +kernel
theorem d_Lesser_span_71 : decode b_Lesser_span 71 = .ok (.iload_n 1, 1) := by decide +kernel
theorem d_Lesser_span_72 : decode b_Lesser_span 72 = .ok (.iload 7, 2) := by decide +kernel
theorem d_Lesser_span_74 : decode b_Lesser_span 74 = .ok (.iload 8, 2) := by decide +kernel
theorem d_Lesser_span_76 : decode b_Lesser_span 76 = .ok (.iload 7, 2) := by decide +kernel
theorem d_Lesser_span_78 : decode b_Lesser_span 78 = .ok (.iload 8, 2) := by decide +kernel
theorem d_Lesser_span_80 : decode b_Lesser_span 80 = .ok (.invokevirtual 13, 3) := by decide +kernel
theorem d_Lesser_span_83 : decode b_Lesser_span 83 = .ok (.return_, 1) := by decide +kernel
set_option maxHeartbeats 4000000 in
set_option maxRecDepth 20000 in
theorem k_Lesser_span (l : Launch) (D : va_G) (cA : Nat → ClassId) (adr : Nat → Nat) (N : List Nat) (hi : wI N adr) (cn : Nat → va_E) (t : Nat) (xa xb xc : Int32) (e0 : Nat → Int32) (gd : Bool) (hT : TP cn t 10 xa xb xc e0 gd) (hN : t ∈ N) (x fb tb fc tc : Int32) (tw : Bool) (hrx : -100 ≤ x.toInt ∧ x.toInt ≤ 100) (hrb : -100 ≤ fb.toInt ∧ fb.toInt ≤ tb.toInt ∧ tb.toInt ≤ 100) (hrc : -100 ≤ fc.toInt ∧ fc.toInt ≤ tc.toInt ∧ tc.toInt ≤ 100) (htw : tw = true → fb.toInt = fc.toInt ∧ tb.toInt = tc.toInt) : Ct l y_Lesser_span b_Lesser_span 9 none 4 D cA [.ref (adr t), .int x, .int fb, .int tb, .int fc, .int tc, .int (bi tw)] (fun H => va_P D classes (wl N adr cn) H) (fun r H => ∃ (cn2 : Nat → va_E) (e2 : Nat → Int32), r = none ∧ FrT t cn cn2 ∧ TP cn2 t 10 xa xb xc e2 gd ∧ (∀ S : Int → Int → Int → Prop, EE S e0 → EE (fun a y z => S a y z ∨ (a = x.toInt ∧ SpT (R3 3) x.toInt fb.toInt tb.toInt fc.toInt tc.toInt tw y z)) e2) ∧ va_P D classes (wl N adr cn2) H) (wA N adr) := by
  refine Ct.mk (by decide) (Nat.le_of_ble_eq_true rfl) ?_
  intro p e s m args below meth c Q H locs ls hx hb hr hml hlk hown hin hK hQ hS hP hl
  have hl : lv_has ls 9 [(0, .ref (adr t)), (1, .int x), (2, .int fb), (3, .int tb), (4, .int fc), (5, .int tc), (6, .int (bi tw))] := hl
  have hown : s.vm.findClass "RangeSheet$Lesser" = some m.cls := hown
  refine lv_iload hx hb d_Lesser_span_0 (lv_at hl 6 rfl) ?_
  refine b_bool_eq (tgt := 23) hx hb d_Lesser_span_2 (by decide) (fun c_1 => ?_) (fun c_1 => ?_)
  · refine lv_iload hx hb d_Lesser_span_23 (lv_at hl 4 rfl) ?_
    refine lv_iload_n hx hb d_Lesser_span_25 rfl (lv_at hl 1 rfl) ?_
    refine b_icmp_gt (tgt := 48) hx hb d_Lesser_span_26 (by decide) rfl rfl (fun c_2 => ?_) (fun c_2 => ?_)
    · refine lv_iload_n hx hb d_Lesser_span_48 rfl (lv_at hl 2 rfl) ?_
      refine lv_iload hx hb d_Lesser_span_49 (lv_at hl 4 rfl) ?_
      refine x_max hx hb hml hown hK hl.1 t_249 (Nat.le_of_ble_eq_true rfl) (Nat.le_of_ble_eq_true rfl) ⟨Nat.le_of_ble_eq_true rfl, Nat.le_of_ble_eq_true rfl⟩ (Nat.le_of_ble_eq_true rfl) rfl rfl  d_Lesser_span_51 (fun z_3 tz_3 => ?_)
      refine lv_istore (lv' := [(7, .int z_3), (0, .ref (adr t)), (1, .int x), (2, .int fb), (3, .int tb), (4, .int fc), (5, .int tc), (6, .int (bi tw))]) hx hb d_Lesser_span_54 hl (by decide) rfl (fun ls hl => ?_)
      refine lv_iload_n hx hb d_Lesser_span_56 rfl (lv_at hl 2 rfl) ?_
      refine lv_iconst (v := 1) hx hb d_Lesser_span_57 (by decide) ?_
      refine x_sub hx hb d_Lesser_span_58 rfl kc_1 (by omega) (fun z_4 tz_4 => ?_)
      refine lv_iload_n hx hb d_Lesser_span_59 rfl (lv_at hl 4 rfl) ?_
      refine lv_iload hx hb d_Lesser_span_60 (lv_at hl 6 rfl) ?_
      refine x_min hx hb hml hown hK hl.1 t_245 (Nat.le_of_ble_eq_true rfl) (Nat.le_of_ble_eq_true rfl) ⟨Nat.le_of_ble_eq_true rfl, Nat.le_of_ble_eq_true rfl⟩ (Nat.le_of_ble_eq_true rfl) rfl rfl  d_Lesser_span_62 (fun z_5 tz_5 => ?_)
      refine x_min hx hb hml hown hK hl.1 t_245 (Nat.le_of_ble_eq_true rfl) (Nat.le_of_ble_eq_true rfl) ⟨Nat.le_of_ble_eq_true rfl, Nat.le_of_ble_eq_true rfl⟩ (Nat.le_of_ble_eq_true rfl) tz_4 tz_5  d_Lesser_span_65 (fun z_6 tz_6 => ?_)
      refine lv_istore (lv' := [(8, .int z_6), (7, .int z_3), (0, .ref (adr t)), (1, .int x), (2, .int fb), (3, .int tb), (4, .int fc), (5, .int tc), (6, .int (bi tw))]) hx hb d_Lesser_span_68 hl (by decide) rfl (fun ls hl => ?_)
      refine lv_aload_n hx hb d_Lesser_span_70 rfl (lv_at hl 2 rfl) ?_
      refine lv_iload_n hx hb d_Lesser_span_71 rfl (lv_at hl 3 rfl) ?_
      refine lv_iload hx hb d_Lesser_span_72 (lv_at hl 1 rfl) ?_
      refine lv_iload hx hb d_Lesser_span_74 (lv_at hl 0 rfl) ?_
      refine lv_iload hx hb d_Lesser_span_76 (lv_at hl 1 rfl) ?_
      refine lv_iload hx hb d_Lesser_span_78 (lv_at hl 0 rfl) ?_
      refine x_A (As := [.int x, .int z_3, .int z_6, .int z_3, .int z_6]) (rest := []) hx hb hml hown hK (k_add_Lesser l D cA adr N hi cn t xa xb xc e0 gd hT hN x z_3 z_6 z_3 z_6) t_230 t_11 t_246 t_247 t_227 t_248 t_229 yk_Three_add ⟨Nat.le_of_ble_eq_true rfl, Nat.le_of_ble_eq_true rfl⟩ (w_rec hK hP hN hT rfl) hP rfl hl.1 rfl (Nat.le_of_ble_eq_true rfl) d_Lesser_span_80 ⟨Nat.le_of_ble_eq_true rfl, Nat.le_of_ble_eq_true rfl⟩ hS (fun q h => h) (fun r H locs hq _ hS => ?_)
      obtain ⟨cn_7, e_7, rfl, hFt_7, hT_7, hA_7, hP⟩ := hq
      have hA_7 : AddR e0 e_7 x.toInt (max fb.toInt fc.toInt) (min (x.toInt - 1) (min tb.toInt tc.toInt)) (max fb.toInt fc.toInt) (min (x.toInt - 1) (min tb.toInt tc.toInt)) := by have q := hA_7; rw [tz_3, tz_6] at q; exact q
      have hfr_7 : FrT t cn cn_7 := hFt_7
      refine W.eq (g2 := F0 m 83 ls []) rfl ?_
      refine e_v hx hb hr hlk hQ hS d_Lesser_span_83 ?_
      refine ⟨cn_7, e_7, rfl, hfr_7, hT_7, fun S hE => ?_, hP⟩
      rw [c_1]
      have h1 := hE.no (U := (fun y z => SpT (R3 3) x.toInt fb.toInt tb.toInt fc.toInt tc.toInt false y z ∧ z = x.toInt)) (x := x.toInt) (fun y z h => by have a := h.1.2.1; have b := h.2; omega)
      have h2 := hA_7.rc (U := (fun y z => SpT (R3 3) x.toInt fb.toInt tb.toInt fc.toInt tc.toInt false y z ∧ ¬ z = x.toInt)) h1 (by omega) (fun y z h => SpT.rg (by omega) y z h.1) r_les2
      exact h2.congr (fun a y z => ⟨fun h => h.elim (fun h => h.elim Or.inl (fun h => Or.inr ⟨h.1, h.2.1⟩)) (fun h => Or.inr ⟨h.1, h.2.1⟩), fun h => h.elim (fun h => Or.inl (Or.inl h)) (fun h => by by_cases e : z = x.toInt; exact Or.inl (Or.inr ⟨h.1, h.2, e⟩); exact Or.inr ⟨h.1, h.2, e⟩)⟩)
    · refine lv_iload_n hx hb d_Lesser_span_29 rfl (lv_at hl 1 rfl) ?_
      refine lv_iload hx hb d_Lesser_span_30 (lv_at hl 5 rfl) ?_
      refine b_icmp_gt (tgt := 48) hx hb d_Lesser_span_32 (by decide) rfl rfl (fun c_8 => ?_) (fun c_8 => ?_)
      · refine lv_iload_n hx hb d_Lesser_span_48 rfl (lv_at hl 2 rfl) ?_
        refine lv_iload hx hb d_Lesser_span_49 (lv_at hl 4 rfl) ?_
        refine x_max hx hb hml hown hK hl.1 t_249 (Nat.le_of_ble_eq_true rfl) (Nat.le_of_ble_eq_true rfl) ⟨Nat.le_of_ble_eq_true rfl, Nat.le_of_ble_eq_true rfl⟩ (Nat.le_of_ble_eq_true rfl) rfl rfl  d_Lesser_span_51 (fun z_9 tz_9 => ?_)
        refine lv_istore (lv' := [(7, .int z_9), (0, .ref (adr t)), (1, .int x), (2, .int fb), (3, .int tb), (4, .int fc), (5, .int tc), (6, .int (bi tw))]) hx hb d_Lesser_span_54 hl (by decide) rfl (fun ls hl => ?_)
        refine lv_iload_n hx hb d_Lesser_span_56 rfl (lv_at hl 2 rfl) ?_
        refine lv_iconst (v := 1) hx hb d_Lesser_span_57 (by decide) ?_
        refine x_sub hx hb d_Lesser_span_58 rfl kc_1 (by omega) (fun z_10 tz_10 => ?_)
        refine lv_iload_n hx hb d_Lesser_span_59 rfl (lv_at hl 4 rfl) ?_
        refine lv_iload hx hb d_Lesser_span_60 (lv_at hl 6 rfl) ?_
        refine x_min hx hb hml hown hK hl.1 t_245 (Nat.le_of_ble_eq_true rfl) (Nat.le_of_ble_eq_true rfl) ⟨Nat.le_of_ble_eq_true rfl, Nat.le_of_ble_eq_true rfl⟩ (Nat.le_of_ble_eq_true rfl) rfl rfl  d_Lesser_span_62 (fun z_11 tz_11 => ?_)
        refine x_min hx hb hml hown hK hl.1 t_245 (Nat.le_of_ble_eq_true rfl) (Nat.le_of_ble_eq_true rfl) ⟨Nat.le_of_ble_eq_true rfl, Nat.le_of_ble_eq_true rfl⟩ (Nat.le_of_ble_eq_true rfl) tz_10 tz_11  d_Lesser_span_65 (fun z_12 tz_12 => ?_)
        refine lv_istore (lv' := [(8, .int z_12), (7, .int z_9), (0, .ref (adr t)), (1, .int x), (2, .int fb), (3, .int tb), (4, .int fc), (5, .int tc), (6, .int (bi tw))]) hx hb d_Lesser_span_68 hl (by decide) rfl (fun ls hl => ?_)
        refine lv_aload_n hx hb d_Lesser_span_70 rfl (lv_at hl 2 rfl) ?_
        refine lv_iload_n hx hb d_Lesser_span_71 rfl (lv_at hl 3 rfl) ?_
        refine lv_iload hx hb d_Lesser_span_72 (lv_at hl 1 rfl) ?_
        refine lv_iload hx hb d_Lesser_span_74 (lv_at hl 0 rfl) ?_
        refine lv_iload hx hb d_Lesser_span_76 (lv_at hl 1 rfl) ?_
        refine lv_iload hx hb d_Lesser_span_78 (lv_at hl 0 rfl) ?_
        refine x_A (As := [.int x, .int z_9, .int z_12, .int z_9, .int z_12]) (rest := []) hx hb hml hown hK (k_add_Lesser l D cA adr N hi cn t xa xb xc e0 gd hT hN x z_9 z_12 z_9 z_12) t_230 t_11 t_246 t_247 t_227 t_248 t_229 yk_Three_add ⟨Nat.le_of_ble_eq_true rfl, Nat.le_of_ble_eq_true rfl⟩ (w_rec hK hP hN hT rfl) hP rfl hl.1 rfl (Nat.le_of_ble_eq_true rfl) d_Lesser_span_80 ⟨Nat.le_of_ble_eq_true rfl, Nat.le_of_ble_eq_true rfl⟩ hS (fun q h => h) (fun r H locs hq _ hS => ?_)
        obtain ⟨cn_13, e_13, rfl, hFt_13, hT_13, hA_13, hP⟩ := hq
        have hA_13 : AddR e0 e_13 x.toInt (max fb.toInt fc.toInt) (min (x.toInt - 1) (min tb.toInt tc.toInt)) (max fb.toInt fc.toInt) (min (x.toInt - 1) (min tb.toInt tc.toInt)) := by have q := hA_13; rw [tz_9, tz_12] at q; exact q
        have hfr_13 : FrT t cn cn_13 := hFt_13
        refine W.eq (g2 := F0 m 83 ls []) rfl ?_
        refine e_v hx hb hr hlk hQ hS d_Lesser_span_83 ?_
        refine ⟨cn_13, e_13, rfl, hfr_13, hT_13, fun S hE => ?_, hP⟩
        rw [c_1]
        have h1 := hE.no (U := (fun y z => SpT (R3 3) x.toInt fb.toInt tb.toInt fc.toInt tc.toInt false y z ∧ z = x.toInt)) (x := x.toInt) (fun y z h => by have a := h.1.2.1; have b := h.2; omega)
        have h2 := hA_13.rc (U := (fun y z => SpT (R3 3) x.toInt fb.toInt tb.toInt fc.toInt tc.toInt false y z ∧ ¬ z = x.toInt)) h1 (by omega) (fun y z h => SpT.rg (by omega) y z h.1) r_les2
        exact h2.congr (fun a y z => ⟨fun h => h.elim (fun h => h.elim Or.inl (fun h => Or.inr ⟨h.1, h.2.1⟩)) (fun h => Or.inr ⟨h.1, h.2.1⟩), fun h => h.elim (fun h => Or.inl (Or.inl h)) (fun h => by by_cases e : z = x.toInt; exact Or.inl (Or.inr ⟨h.1, h.2, e⟩); exact Or.inr ⟨h.1, h.2, e⟩)⟩)
      · refine lv_aload_n hx hb d_Lesser_span_35 rfl (lv_at hl 0 rfl) ?_
        refine lv_iload_n hx hb d_Lesser_span_36 rfl (lv_at hl 1 rfl) ?_
        refine lv_iload_n hx hb d_Lesser_span_37 rfl (lv_at hl 2 rfl) ?_
        refine lv_iload_n hx hb d_Lesser_span_38 rfl (lv_at hl 1 rfl) ?_
        refine x_max hx hb hml hown hK hl.1 t_249 (Nat.le_of_ble_eq_true rfl) (Nat.le_of_ble_eq_true rfl) ⟨Nat.le_of_ble_eq_true rfl, Nat.le_of_ble_eq_true rfl⟩ (Nat.le_of_ble_eq_true rfl) rfl rfl  d_Lesser_span_39 (fun z_14 tz_14 => ?_)
        refine lv_iload_n hx hb d_Lesser_span_42 rfl (lv_at hl 3 rfl) ?_
        refine lv_iload_n hx hb d_Lesser_span_43 rfl (lv_at hl 1 rfl) ?_
        refine lv_iload_n hx hb d_Lesser_span_44 rfl (lv_at hl 1 rfl) ?_
        refine x_A (As := [.int x, .int z_14, .int tb, .int x, .int x]) (rest := []) hx hb hml hown hK (k_add_Lesser l D cA adr N hi cn t xa xb xc e0 gd hT hN x z_14 tb x x) t_230 t_11 t_246 t_247 t_227 t_248 t_229 yk_Three_add ⟨Nat.le_of_ble_eq_true rfl, Nat.le_of_ble_eq_true rfl⟩ (w_rec hK hP hN hT rfl) hP rfl hl.1 rfl (Nat.le_of_ble_eq_true rfl) d_Lesser_span_45 ⟨Nat.le_of_ble_eq_true rfl, Nat.le_of_ble_eq_true rfl⟩ hS (fun q h => h) (fun r H locs hq _ hS => ?_)
        obtain ⟨cn_15, e_15, rfl, hFt_15, hT_15, hA_15, hP⟩ := hq
        have hA_15 : AddR e0 e_15 x.toInt (max fb.toInt x.toInt) tb.toInt x.toInt x.toInt := by have q := hA_15; rw [tz_14] at q; exact q
        have hfr_15 : FrT t cn cn_15 := hFt_15
        refine W.eq (g2 := F0 m 48 ls []) rfl ?_
        refine lv_iload_n hx hb d_Lesser_span_48 rfl (lv_at hl 2 rfl) ?_
        refine lv_iload hx hb d_Lesser_span_49 (lv_at hl 4 rfl) ?_
        refine x_max hx hb hml hown hK hl.1 t_249 (Nat.le_of_ble_eq_true rfl) (Nat.le_of_ble_eq_true rfl) ⟨Nat.le_of_ble_eq_true rfl, Nat.le_of_ble_eq_true rfl⟩ (Nat.le_of_ble_eq_true rfl) rfl rfl  d_Lesser_span_51 (fun z_16 tz_16 => ?_)
        refine lv_istore (lv' := [(7, .int z_16), (0, .ref (adr t)), (1, .int x), (2, .int fb), (3, .int tb), (4, .int fc), (5, .int tc), (6, .int (bi tw))]) hx hb d_Lesser_span_54 hl (by decide) rfl (fun ls hl => ?_)
        refine lv_iload_n hx hb d_Lesser_span_56 rfl (lv_at hl 2 rfl) ?_
        refine lv_iconst (v := 1) hx hb d_Lesser_span_57 (by decide) ?_
        refine x_sub hx hb d_Lesser_span_58 rfl kc_1 (by omega) (fun z_17 tz_17 => ?_)
        refine lv_iload_n hx hb d_Lesser_span_59 rfl (lv_at hl 4 rfl) ?_
        refine lv_iload hx hb d_Lesser_span_60 (lv_at hl 6 rfl) ?_
        refine x_min hx hb hml hown hK hl.1 t_245 (Nat.le_of_ble_eq_true rfl) (Nat.le_of_ble_eq_true rfl) ⟨Nat.le_of_ble_eq_true rfl, Nat.le_of_ble_eq_true rfl⟩ (Nat.le_of_ble_eq_true rfl) rfl rfl  d_Lesser_span_62 (fun z_18 tz_18 => ?_)
        refine x_min hx hb hml hown hK hl.1 t_245 (Nat.le_of_ble_eq_true rfl) (Nat.le_of_ble_eq_true rfl) ⟨Nat.le_of_ble_eq_true rfl, Nat.le_of_ble_eq_true rfl⟩ (Nat.le_of_ble_eq_true rfl) tz_17 tz_18  d_Lesser_span_65 (fun z_19 tz_19 => ?_)
        refine lv_istore (lv' := [(8, .int z_19), (7, .int z_16), (0, .ref (adr t)), (1, .int x), (2, .int fb), (3, .int tb), (4, .int fc), (5, .int tc), (6, .int (bi tw))]) hx hb d_Lesser_span_68 hl (by decide) rfl (fun ls hl => ?_)
        refine lv_aload_n hx hb d_Lesser_span_70 rfl (lv_at hl 2 rfl) ?_
        refine lv_iload_n hx hb d_Lesser_span_71 rfl (lv_at hl 3 rfl) ?_
        refine lv_iload hx hb d_Lesser_span_72 (lv_at hl 1 rfl) ?_
        refine lv_iload hx hb d_Lesser_span_74 (lv_at hl 0 rfl) ?_
        refine lv_iload hx hb d_Lesser_span_76 (lv_at hl 1 rfl) ?_
        refine lv_iload hx hb d_Lesser_span_78 (lv_at hl 0 rfl) ?_
        refine x_A (As := [.int x, .int z_16, .int z_19, .int z_16, .int z_19]) (rest := []) hx hb hml hown hK (k_add_Lesser l D cA adr N hi cn_15 t xa xb xc e_15 gd hT_15 hN x z_16 z_19 z_16 z_19) t_230 t_11 t_246 t_247 t_227 t_248 t_229 yk_Three_add ⟨Nat.le_of_ble_eq_true rfl, Nat.le_of_ble_eq_true rfl⟩ (w_rec hK hP hN hT_15 rfl) hP rfl hl.1 rfl (Nat.le_of_ble_eq_true rfl) d_Lesser_span_80 ⟨Nat.le_of_ble_eq_true rfl, Nat.le_of_ble_eq_true rfl⟩ hS (fun q h => h) (fun r H locs hq _ hS => ?_)
        obtain ⟨cn_20, e_20, rfl, hFt_20, hT_20, hA_20, hP⟩ := hq
        have hA_20 : AddR e_15 e_20 x.toInt (max fb.toInt fc.toInt) (min (x.toInt - 1) (min tb.toInt tc.toInt)) (max fb.toInt fc.toInt) (min (x.toInt - 1) (min tb.toInt tc.toInt)) := by have q := hA_20; rw [tz_16, tz_19] at q; exact q
        have hfr_20 : FrT t cn cn_20 := hfr_15.tr hFt_20
        refine W.eq (g2 := F0 m 83 ls []) rfl ?_
        refine e_v hx hb hr hlk hQ hS d_Lesser_span_83 ?_
        refine ⟨cn_20, e_20, rfl, hfr_20, hT_20, fun S hE => ?_, hP⟩
        rw [c_1]
        have h1 := hA_15.rc (U := (fun y z => SpT (R3 3) x.toInt fb.toInt tb.toInt fc.toInt tc.toInt false y z ∧ z = x.toInt)) hE (by omega) (fun y z h => SpT.rg (by omega) y z h.1) (r_les1 (by omega))
        have h2 := hA_20.rc (U := (fun y z => SpT (R3 3) x.toInt fb.toInt tb.toInt fc.toInt tc.toInt false y z ∧ ¬ z = x.toInt)) h1 (by omega) (fun y z h => SpT.rg (by omega) y z h.1) r_les2
        exact h2.congr (fun a y z => ⟨fun h => h.elim (fun h => h.elim Or.inl (fun h => Or.inr ⟨h.1, h.2.1⟩)) (fun h => Or.inr ⟨h.1, h.2.1⟩), fun h => h.elim (fun h => Or.inl (Or.inl h)) (fun h => by by_cases e : z = x.toInt; exact Or.inl (Or.inr ⟨h.1, h.2, e⟩); exact Or.inr ⟨h.1, h.2, e⟩)⟩)
  · refine lv_aload_n hx hb d_Lesser_span_5 rfl (lv_at hl 0 rfl) ?_
    refine lv_iload_n hx hb d_Lesser_span_6 rfl (lv_at hl 1 rfl) ?_
    refine lv_iload_n hx hb d_Lesser_span_7 rfl (lv_at hl 2 rfl) ?_
    refine lv_iload_n hx hb d_Lesser_span_8 rfl (lv_at hl 3 rfl) ?_
    refine lv_iload_n hx hb d_Lesser_span_9 rfl (lv_at hl 1 rfl) ?_
    refine x_min hx hb hml hown hK hl.1 t_245 (Nat.le_of_ble_eq_true rfl) (Nat.le_of_ble_eq_true rfl) ⟨Nat.le_of_ble_eq_true rfl, Nat.le_of_ble_eq_true rfl⟩ (Nat.le_of_ble_eq_true rfl) rfl rfl  d_Lesser_span_10 (fun z_21 tz_21 => ?_)
    refine lv_iload_n hx hb d_Lesser_span_13 rfl (lv_at hl 2 rfl) ?_
    refine lv_iload_n hx hb d_Lesser_span_14 rfl (lv_at hl 3 rfl) ?_
    refine lv_iload_n hx hb d_Lesser_span_15 rfl (lv_at hl 1 rfl) ?_
    refine x_min hx hb hml hown hK hl.1 t_245 (Nat.le_of_ble_eq_true rfl) (Nat.le_of_ble_eq_true rfl) ⟨Nat.le_of_ble_eq_true rfl, Nat.le_of_ble_eq_true rfl⟩ (Nat.le_of_ble_eq_true rfl) rfl rfl  d_Lesser_span_16 (fun z_22 tz_22 => ?_)
    refine x_A (As := [.int x, .int fb, .int z_21, .int fb, .int z_22]) (rest := []) hx hb hml hown hK (k_add_Lesser l D cA adr N hi cn t xa xb xc e0 gd hT hN x fb z_21 fb z_22) t_230 t_11 t_246 t_247 t_227 t_248 t_229 yk_Three_add ⟨Nat.le_of_ble_eq_true rfl, Nat.le_of_ble_eq_true rfl⟩ (w_rec hK hP hN hT rfl) hP rfl hl.1 rfl (Nat.le_of_ble_eq_true rfl) d_Lesser_span_19 ⟨Nat.le_of_ble_eq_true rfl, Nat.le_of_ble_eq_true rfl⟩ hS (fun q h => h) (fun r H locs hq _ hS => ?_)
    obtain ⟨cn_23, e_23, rfl, hFt_23, hT_23, hA_23, hP⟩ := hq
    have hA_23 : AddR e0 e_23 x.toInt fb.toInt (min tb.toInt x.toInt) fb.toInt (min tb.toInt x.toInt) := by have q := hA_23; rw [tz_21, tz_22] at q; exact q
    have hfr_23 : FrT t cn cn_23 := hFt_23
    refine W.eq (g2 := F0 m 22 ls []) rfl ?_
    refine e_v hx hb hr hlk hQ hS d_Lesser_span_22 ?_
    refine ⟨cn_23, e_23, rfl, hfr_23, hT_23, fun S hE => ?_, hP⟩
    rw [c_1]
    exact hA_23.rc (U := SpT (R3 3) x.toInt fb.toInt tb.toInt fc.toInt tc.toInt true) hE (by omega) (SpT.rg (by omega)) (r_lesT (htw c_1) (by omega))
theorem d_Greater_span_0 : decode b_Greater_span 0 = .ok (.iload 6, 2) := by decide +kernel
theorem d_Greater_span_2 : decode b_Greater_span 2 = .ok (.ifCond .eq 21, 3) := by decide +kernel
theorem d_Greater_span_5 : decode b_Greater_span 5 = .ok (.aload_n 0, 1) := by decide +kernel
theorem d_Greater_span_6 : decode b_Greater_span 6 = .ok (.iload_n 1, 1) := by decide +kernel
theorem d_Greater_span_7 : decode b_Greater_span 7 = .ok (.iload_n 2, 1) := by decide +kernel
theorem d_Greater_span_8 : decode b_Greater_span 8 = .ok (.iload_n 1, 1) := by decide +kernel
theorem d_Greater_span_9 : decode b_Greater_span 9 = .ok (.invokestatic 7, 3) := by decide +kernel
theorem d_Greater_span_12 : decode b_Greater_span 12 = .ok (.iload_n 3, 1) := by decide +kernel
theorem d_Greater_span_13 : decode b_Greater_span 13 = .ok (.iload_n 2, 1) := by decide +kernel
theorem d_Greater_span_14 : decode b_Greater_span 14 = .ok (.iload_n 1, 1) := by decide +kernel
theorem d_Greater_span_15 : decode b_Greater_span 15 = .ok (.invokestatic 7, 3) := by decide +kernel
theorem d_Greater_span_18 : decode b_Greater_span 18 = .ok (.iload_n 3, 1) := by decide +kernel
theorem d_Greater_span_19 : decode b_Greater_span 19 = .ok (.invokevirtual 13, 3) := by decide +kernel
theorem d_Greater_span_22 : decode b_Greater_span 22 = .ok (.return_, 1) := by decide +kernel
theorem d_Greater_span_23 : decode b_Greater_span 23 = .ok (.iload 4, 2) := by decide +kernel
theorem d_Greater_span_25 : decode b_Greater_span 25 = .ok (.iload_n 1, 1) := by decide +kernel
theorem d_Greater_span_26 : decode b_Greater_span 26 = .ok (.if_icmp .gt 22, 3) := by decide +kernel
theorem d_Greater_span_29 : decode b_Greater_span 29 = .ok (.iload_n 1, 1) := by decide +kernel
theorem d_Greater_span_30 : decode b_Greater_span 30 = .ok (.iload 5, 2) := by decide +kernel
theorem d_Greater_span_32 : decode b_Greater_span 32 = .ok (.if_icmp .gt 16, 3) := by decide +kernel
theorem d_Greater_span_35 : decode b_Greater_span 35 = .ok (.aload_n 0, 1) := by decide +kernel
theorem d_Greater_span_36 : decode b_Greater_span 36 = .ok (.iload_n 1, 1) := by decide +kernel
theorem d_Greater_span_37 : decode b_Greater_span 37 = .ok (.iload_n 2, 1) := by decide +kernel
theorem d_Greater_span_38 : decode b_Greater_span 38 = .ok (.iload_n 3, 1) := by decide +kernel
theorem d_Greater_span_39 : decode b_Greater_span 39 = .ok (.iload_n 1, 1) := by decide +kernel
theorem d_Greater_span_40 : decode b_Greater_span 40 = .ok (.invokestatic 19, 3) := by decide +kernel
theorem d_Greater_span_43 : decode b_Greater_span 43 = .ok (.iload_n 1, 1) := by decide +kernel
theorem d_Greater_span_44 : decode b_Greater_span 44 = .ok (.iload_n 1, 1) := by decide +kernel
theorem d_Greater_span_45 : decode b_Greater_span 45 = .ok (.invokevirtual 13, 3) := by decide +kernel
theorem d_Greater_span_48 : decode b_Greater_span 48 = .ok (.iload_n 1, 1) := by decide +kernel
theorem d_Greater_span_49 : decode b_Greater_span 49 = .ok (.iconst 1, 1) := by decide +kernel
theorem d_Greater_span_50 : decode b_Greater_span 50 = .ok (.iadd, 1) := by decide +kernel
theorem d_Greater_span_51 : decode b_Greater_span 51 = .ok (.iload_n 2, 1) := by decide +kernel
theorem d_Greater_span_52 : decode b_Greater_span 52 = .ok (.iload 4, 2) := by decide +kernel
theorem d_Greater_span_54 : decode b_Greater_span 54 = .ok (.invokestatic 7, 3) := by decide +kernel
theorem d_Greater_span_57 : decode b_Greater_span 57 = .ok (.invokestatic 7, 3) := by decide +kernel
theorem d_Greater_span_60 : decode b_Greater_span 60 = .ok (.istore 7, 2) := by decide +kernel
theorem d_Greater_span_62 : decode b_Greater_span 62 = .ok (.iload_n 3, 1) := by decide +kernel
theorem d_Greater_span_63 : decode b_Greater_span 63 = .ok (.iload 5, 2) := by decide +kernel
theorem d_Greater_span_65 : decode b_Greater_span 65 = .ok (.invokestatic 19, 3) := by decide +kernel
theorem d_Greater_span_68 : decode b_Greater_span 68 = .ok (.istore 8, 2) := by decide +kernel
theorem d_Greater_span_70 : decode b_Greater_span 70 = .ok (.aload_n 0, 1) := by decide +kernel
theorem d_Greater_span_71 : decode b_Greater_span 71 = .ok (.iload_n 1, 1) := by decide +kernel
theorem d_Greater_span_72 : decode b_Greater_span 72 = .ok (.iload 7, 2) := by decide +kernel
theorem d_Greater_span_74 : decode b_Greater_span 74 = .ok (.iload 8, 2) := by decide +kernel
theorem d_Greater_span_76 : decode b_Greater_span 76 = .ok (.iload 7, 2) := by decide +kernel
theorem d_Greater_span_78 : decode b_Greater_span 78 = .ok (.iload 8, 2) := by decide +kernel
theorem d_Greater_span_80 : decode b_Greater_span 80 = .ok (.invokevirtual 13, 3) := by decide +kernel
theorem d_Greater_span_83 : decode b_Greater_span 83 = .ok (.return_, 1) := by decide +kernel
set_option maxHeartbeats 4000000 in
set_option maxRecDepth 20000 in
theorem k_Greater_span (l : Launch) (D : va_G) (cA : Nat → ClassId) (adr : Nat → Nat) (N : List Nat) (hi : wI N adr) (cn : Nat → va_E) (t : Nat) (xa xb xc : Int32) (e0 : Nat → Int32) (gd : Bool) (hT : TP cn t 11 xa xb xc e0 gd) (hN : t ∈ N) (x fb tb fc tc : Int32) (tw : Bool) (hrx : -100 ≤ x.toInt ∧ x.toInt ≤ 100) (hrb : -100 ≤ fb.toInt ∧ fb.toInt ≤ tb.toInt ∧ tb.toInt ≤ 100) (hrc : -100 ≤ fc.toInt ∧ fc.toInt ≤ tc.toInt ∧ tc.toInt ≤ 100) (htw : tw = true → fb.toInt = fc.toInt ∧ tb.toInt = tc.toInt) : Ct l y_Greater_span b_Greater_span 9 none 4 D cA [.ref (adr t), .int x, .int fb, .int tb, .int fc, .int tc, .int (bi tw)] (fun H => va_P D classes (wl N adr cn) H) (fun r H => ∃ (cn2 : Nat → va_E) (e2 : Nat → Int32), r = none ∧ FrT t cn cn2 ∧ TP cn2 t 11 xa xb xc e2 gd ∧ (∀ S : Int → Int → Int → Prop, EE S e0 → EE (fun a y z => S a y z ∨ (a = x.toInt ∧ SpT (R3 4) x.toInt fb.toInt tb.toInt fc.toInt tc.toInt tw y z)) e2) ∧ va_P D classes (wl N adr cn2) H) (wA N adr) := by
  refine Ct.mk (by decide) (Nat.le_of_ble_eq_true rfl) ?_
  intro p e s m args below meth c Q H locs ls hx hb hr hml hlk hown hin hK hQ hS hP hl
  have hl : lv_has ls 9 [(0, .ref (adr t)), (1, .int x), (2, .int fb), (3, .int tb), (4, .int fc), (5, .int tc), (6, .int (bi tw))] := hl
  have hown : s.vm.findClass "RangeSheet$Greater" = some m.cls := hown
  refine lv_iload hx hb d_Greater_span_0 (lv_at hl 6 rfl) ?_
  refine b_bool_eq (tgt := 23) hx hb d_Greater_span_2 (by decide) (fun c_1 => ?_) (fun c_1 => ?_)
  · refine lv_iload hx hb d_Greater_span_23 (lv_at hl 4 rfl) ?_
    refine lv_iload_n hx hb d_Greater_span_25 rfl (lv_at hl 1 rfl) ?_
    refine b_icmp_gt (tgt := 48) hx hb d_Greater_span_26 (by decide) rfl rfl (fun c_2 => ?_) (fun c_2 => ?_)
    · refine lv_iload_n hx hb d_Greater_span_48 rfl (lv_at hl 1 rfl) ?_
      refine lv_iconst (v := 1) hx hb d_Greater_span_49 (by decide) ?_
      refine x_add hx hb d_Greater_span_50 rfl kc_1 (by omega) (fun z_3 tz_3 => ?_)
      refine lv_iload_n hx hb d_Greater_span_51 rfl (lv_at hl 2 rfl) ?_
      refine lv_iload hx hb d_Greater_span_52 (lv_at hl 4 rfl) ?_
      refine x_max hx hb hml hown hK hl.1 t_224 (Nat.le_of_ble_eq_true rfl) (Nat.le_of_ble_eq_true rfl) ⟨Nat.le_of_ble_eq_true rfl, Nat.le_of_ble_eq_true rfl⟩ (Nat.le_of_ble_eq_true rfl) rfl rfl  d_Greater_span_54 (fun z_4 tz_4 => ?_)
      refine x_max hx hb hml hown hK hl.1 t_224 (Nat.le_of_ble_eq_true rfl) (Nat.le_of_ble_eq_true rfl) ⟨Nat.le_of_ble_eq_true rfl, Nat.le_of_ble_eq_true rfl⟩ (Nat.le_of_ble_eq_true rfl) tz_3 tz_4  d_Greater_span_57 (fun z_5 tz_5 => ?_)
      refine lv_istore (lv' := [(7, .int z_5), (0, .ref (adr t)), (1, .int x), (2, .int fb), (3, .int tb), (4, .int fc), (5, .int tc), (6, .int (bi tw))]) hx hb d_Greater_span_60 hl (by decide) rfl (fun ls hl => ?_)
      refine lv_iload_n hx hb d_Greater_span_62 rfl (lv_at hl 4 rfl) ?_
      refine lv_iload hx hb d_Greater_span_63 (lv_at hl 6 rfl) ?_
      refine x_min hx hb hml hown hK hl.1 t_233 (Nat.le_of_ble_eq_true rfl) (Nat.le_of_ble_eq_true rfl) ⟨Nat.le_of_ble_eq_true rfl, Nat.le_of_ble_eq_true rfl⟩ (Nat.le_of_ble_eq_true rfl) rfl rfl  d_Greater_span_65 (fun z_6 tz_6 => ?_)
      refine lv_istore (lv' := [(8, .int z_6), (7, .int z_5), (0, .ref (adr t)), (1, .int x), (2, .int fb), (3, .int tb), (4, .int fc), (5, .int tc), (6, .int (bi tw))]) hx hb d_Greater_span_68 hl (by decide) rfl (fun ls hl => ?_)
      refine lv_aload_n hx hb d_Greater_span_70 rfl (lv_at hl 2 rfl) ?_
      refine lv_iload_n hx hb d_Greater_span_71 rfl (lv_at hl 3 rfl) ?_
      refine lv_iload hx hb d_Greater_span_72 (lv_at hl 1 rfl) ?_
      refine lv_iload hx hb d_Greater_span_74 (lv_at hl 0 rfl) ?_
      refine lv_iload hx hb d_Greater_span_76 (lv_at hl 1 rfl) ?_
      refine lv_iload hx hb d_Greater_span_78 (lv_at hl 0 rfl) ?_
      refine x_A (As := [.int x, .int z_5, .int z_6, .int z_5, .int z_6]) (rest := []) hx hb hml hown hK (k_add_Greater l D cA adr N hi cn t xa xb xc e0 gd hT hN x z_5 z_6 z_5 z_6) t_230 t_11 t_225 t_226 t_227 t_228 t_229 yk_Three_add ⟨Nat.le_of_ble_eq_true rfl, Nat.le_of_ble_eq_true rfl⟩ (w_rec hK hP hN hT rfl) hP rfl hl.1 rfl (Nat.le_of_ble_eq_true rfl) d_Greater_span_80 ⟨Nat.le_of_ble_eq_true rfl, Nat.le_of_ble_eq_true rfl⟩ hS (fun q h => h) (fun r H locs hq _ hS => ?_)
      obtain ⟨cn_7, e_7, rfl, hFt_7, hT_7, hA_7, hP⟩ := hq
      have hA_7 : AddR e0 e_7 x.toInt (max (x.toInt + 1) (max fb.toInt fc.toInt)) (min tb.toInt tc.toInt) (max (x.toInt + 1) (max fb.toInt fc.toInt)) (min tb.toInt tc.toInt) := by have q := hA_7; rw [tz_5, tz_6] at q; exact q
      have hfr_7 : FrT t cn cn_7 := hFt_7
      refine W.eq (g2 := F0 m 83 ls []) rfl ?_
      refine e_v hx hb hr hlk hQ hS d_Greater_span_83 ?_
      refine ⟨cn_7, e_7, rfl, hfr_7, hT_7, fun S hE => ?_, hP⟩
      rw [c_1]
      have h1 := hE.no (U := (fun y z => SpT (R3 4) x.toInt fb.toInt tb.toInt fc.toInt tc.toInt false y z ∧ z = x.toInt)) (x := x.toInt) (fun y z h => by have a := h.1.2.1; have b := h.2; omega)
      have h2 := hA_7.rc (U := (fun y z => SpT (R3 4) x.toInt fb.toInt tb.toInt fc.toInt tc.toInt false y z ∧ ¬ z = x.toInt)) h1 (by omega) (fun y z h => SpT.rg (by omega) y z h.1) r_gre2
      exact h2.congr (fun a y z => ⟨fun h => h.elim (fun h => h.elim Or.inl (fun h => Or.inr ⟨h.1, h.2.1⟩)) (fun h => Or.inr ⟨h.1, h.2.1⟩), fun h => h.elim (fun h => Or.inl (Or.inl h)) (fun h => by by_cases e : z = x.toInt; exact Or.inl (Or.inr ⟨h.1, h.2, e⟩); exact Or.inr ⟨h.1, h.2, e⟩)⟩)
    · refine lv_iload_n hx hb d_Greater_span_29 rfl (lv_at hl 1 rfl) ?_
      refine lv_iload hx hb d_Greater_span_30 (lv_at hl 5 rfl) ?_
      refine b_icmp_gt (tgt := 48) hx hb d_Greater_span_32 (by decide) rfl rfl (fun c_8 => ?_) (fun c_8 => ?_)
      · refine lv_iload_n hx hb d_Greater_span_48 rfl (lv_at hl 1 rfl) ?_
        refine lv_iconst (v := 1) hx hb d_Greater_span_49 (by decide) ?_
        refine x_add hx hb d_Greater_span_50 rfl kc_1 (by omega) (fun z_9 tz_9 => ?_)
        refine lv_iload_n hx hb d_Greater_span_51 rfl (lv_at hl 2 rfl) ?_
        refine lv_iload hx hb d_Greater_span_52 (lv_at hl 4 rfl) ?_
        refine x_max hx hb hml hown hK hl.1 t_224 (Nat.le_of_ble_eq_true rfl) (Nat.le_of_ble_eq_true rfl) ⟨Nat.le_of_ble_eq_true rfl, Nat.le_of_ble_eq_true rfl⟩ (Nat.le_of_ble_eq_true rfl) rfl rfl  d_Greater_span_54 (fun z_10 tz_10 => ?_)
        refine x_max hx hb hml hown hK hl.1 t_224 (Nat.le_of_ble_eq_true rfl) (Nat.le_of_ble_eq_true rfl) ⟨Nat.le_of_ble_eq_true rfl, Nat.le_of_ble_eq_true rfl⟩ (Nat.le_of_ble_eq_true rfl) tz_9 tz_10  d_Greater_span_57 (fun z_11 tz_11 => ?_)
        refine lv_istore (lv' := [(7, .int z_11), (0, .ref (adr t)), (1, .int x), (2, .int fb), (3, .int tb), (4, .int fc), (5, .int tc), (6, .int (bi tw))]) hx hb d_Greater_span_60 hl (by decide) rfl (fun ls hl => ?_)
        refine lv_iload_n hx hb d_Greater_span_62 rfl (lv_at hl 4 rfl) ?_
        refine lv_iload hx hb d_Greater_span_63 (lv_at hl 6 rfl) ?_
        refine x_min hx hb hml hown hK hl.1 t_233 (Nat.le_of_ble_eq_true rfl) (Nat.le_of_ble_eq_true rfl) ⟨Nat.le_of_ble_eq_true rfl, Nat.le_of_ble_eq_true rfl⟩ (Nat.le_of_ble_eq_true rfl) rfl rfl  d_Greater_span_65 (fun z_12 tz_12 => ?_)
        refine lv_istore (lv' := [(8, .int z_12), (7, .int z_11), (0, .ref (adr t)), (1, .int x), (2, .int fb), (3, .int tb), (4, .int fc), (5, .int tc), (6, .int (bi tw))]) hx hb d_Greater_span_68 hl (by decide) rfl (fun ls hl => ?_)
        refine lv_aload_n hx hb d_Greater_span_70 rfl (lv_at hl 2 rfl) ?_
        refine lv_iload_n hx hb d_Greater_span_71 rfl (lv_at hl 3 rfl) ?_
        refine lv_iload hx hb d_Greater_span_72 (lv_at hl 1 rfl) ?_
        refine lv_iload hx hb d_Greater_span_74 (lv_at hl 0 rfl) ?_
        refine lv_iload hx hb d_Greater_span_76 (lv_at hl 1 rfl) ?_
        refine lv_iload hx hb d_Greater_span_78 (lv_at hl 0 rfl) ?_
        refine x_A (As := [.int x, .int z_11, .int z_12, .int z_11, .int z_12]) (rest := []) hx hb hml hown hK (k_add_Greater l D cA adr N hi cn t xa xb xc e0 gd hT hN x z_11 z_12 z_11 z_12) t_230 t_11 t_225 t_226 t_227 t_228 t_229 yk_Three_add ⟨Nat.le_of_ble_eq_true rfl, Nat.le_of_ble_eq_true rfl⟩ (w_rec hK hP hN hT rfl) hP rfl hl.1 rfl (Nat.le_of_ble_eq_true rfl) d_Greater_span_80 ⟨Nat.le_of_ble_eq_true rfl, Nat.le_of_ble_eq_true rfl⟩ hS (fun q h => h) (fun r H locs hq _ hS => ?_)
        obtain ⟨cn_13, e_13, rfl, hFt_13, hT_13, hA_13, hP⟩ := hq
        have hA_13 : AddR e0 e_13 x.toInt (max (x.toInt + 1) (max fb.toInt fc.toInt)) (min tb.toInt tc.toInt) (max (x.toInt + 1) (max fb.toInt fc.toInt)) (min tb.toInt tc.toInt) := by have q := hA_13; rw [tz_11, tz_12] at q; exact q
        have hfr_13 : FrT t cn cn_13 := hFt_13
        refine W.eq (g2 := F0 m 83 ls []) rfl ?_
        refine e_v hx hb hr hlk hQ hS d_Greater_span_83 ?_
        refine ⟨cn_13, e_13, rfl, hfr_13, hT_13, fun S hE => ?_, hP⟩
        rw [c_1]
        have h1 := hE.no (U := (fun y z => SpT (R3 4) x.toInt fb.toInt tb.toInt fc.toInt tc.toInt false y z ∧ z = x.toInt)) (x := x.toInt) (fun y z h => by have a := h.1.2.1; have b := h.2; omega)
        have h2 := hA_13.rc (U := (fun y z => SpT (R3 4) x.toInt fb.toInt tb.toInt fc.toInt tc.toInt false y z ∧ ¬ z = x.toInt)) h1 (by omega) (fun y z h => SpT.rg (by omega) y z h.1) r_gre2
        exact h2.congr (fun a y z => ⟨fun h => h.elim (fun h => h.elim Or.inl (fun h => Or.inr ⟨h.1, h.2.1⟩)) (fun h => Or.inr ⟨h.1, h.2.1⟩), fun h => h.elim (fun h => Or.inl (Or.inl h)) (fun h => by by_cases e : z = x.toInt; exact Or.inl (Or.inr ⟨h.1, h.2, e⟩); exact Or.inr ⟨h.1, h.2, e⟩)⟩)
      · refine lv_aload_n hx hb d_Greater_span_35 rfl (lv_at hl 0 rfl) ?_
        refine lv_iload_n hx hb d_Greater_span_36 rfl (lv_at hl 1 rfl) ?_
        refine lv_iload_n hx hb d_Greater_span_37 rfl (lv_at hl 2 rfl) ?_
        refine lv_iload_n hx hb d_Greater_span_38 rfl (lv_at hl 3 rfl) ?_
        refine lv_iload_n hx hb d_Greater_span_39 rfl (lv_at hl 1 rfl) ?_
        refine x_min hx hb hml hown hK hl.1 t_233 (Nat.le_of_ble_eq_true rfl) (Nat.le_of_ble_eq_true rfl) ⟨Nat.le_of_ble_eq_true rfl, Nat.le_of_ble_eq_true rfl⟩ (Nat.le_of_ble_eq_true rfl) rfl rfl  d_Greater_span_40 (fun z_14 tz_14 => ?_)
        refine lv_iload_n hx hb d_Greater_span_43 rfl (lv_at hl 1 rfl) ?_
        refine lv_iload_n hx hb d_Greater_span_44 rfl (lv_at hl 1 rfl) ?_
        refine x_A (As := [.int x, .int fb, .int z_14, .int x, .int x]) (rest := []) hx hb hml hown hK (k_add_Greater l D cA adr N hi cn t xa xb xc e0 gd hT hN x fb z_14 x x) t_230 t_11 t_225 t_226 t_227 t_228 t_229 yk_Three_add ⟨Nat.le_of_ble_eq_true rfl, Nat.le_of_ble_eq_true rfl⟩ (w_rec hK hP hN hT rfl) hP rfl hl.1 rfl (Nat.le_of_ble_eq_true rfl) d_Greater_span_45 ⟨Nat.le_of_ble_eq_true rfl, Nat.le_of_ble_eq_true rfl⟩ hS (fun q h => h) (fun r H locs hq _ hS => ?_)
        obtain ⟨cn_15, e_15, rfl, hFt_15, hT_15, hA_15, hP⟩ := hq
        have hA_15 : AddR e0 e_15 x.toInt fb.toInt (min tb.toInt x.toInt) x.toInt x.toInt := by have q := hA_15; rw [tz_14] at q; exact q
        have hfr_15 : FrT t cn cn_15 := hFt_15
        refine W.eq (g2 := F0 m 48 ls []) rfl ?_
        refine lv_iload_n hx hb d_Greater_span_48 rfl (lv_at hl 1 rfl) ?_
        refine lv_iconst (v := 1) hx hb d_Greater_span_49 (by decide) ?_
        refine x_add hx hb d_Greater_span_50 rfl kc_1 (by omega) (fun z_16 tz_16 => ?_)
        refine lv_iload_n hx hb d_Greater_span_51 rfl (lv_at hl 2 rfl) ?_
        refine lv_iload hx hb d_Greater_span_52 (lv_at hl 4 rfl) ?_
        refine x_max hx hb hml hown hK hl.1 t_224 (Nat.le_of_ble_eq_true rfl) (Nat.le_of_ble_eq_true rfl) ⟨Nat.le_of_ble_eq_true rfl, Nat.le_of_ble_eq_true rfl⟩ (Nat.le_of_ble_eq_true rfl) rfl rfl  d_Greater_span_54 (fun z_17 tz_17 => ?_)
        refine x_max hx hb hml hown hK hl.1 t_224 (Nat.le_of_ble_eq_true rfl) (Nat.le_of_ble_eq_true rfl) ⟨Nat.le_of_ble_eq_true rfl, Nat.le_of_ble_eq_true rfl⟩ (Nat.le_of_ble_eq_true rfl) tz_16 tz_17  d_Greater_span_57 (fun z_18 tz_18 => ?_)
        refine lv_istore (lv' := [(7, .int z_18), (0, .ref (adr t)), (1, .int x), (2, .int fb), (3, .int tb), (4, .int fc), (5, .int tc), (6, .int (bi tw))]) hx hb d_Greater_span_60 hl (by decide) rfl (fun ls hl => ?_)
        refine lv_iload_n hx hb d_Greater_span_62 rfl (lv_at hl 4 rfl) ?_
        refine lv_iload hx hb d_Greater_span_63 (lv_at hl 6 rfl) ?_
        refine x_min hx hb hml hown hK hl.1 t_233 (Nat.le_of_ble_eq_true rfl) (Nat.le_of_ble_eq_true rfl) ⟨Nat.le_of_ble_eq_true rfl, Nat.le_of_ble_eq_true rfl⟩ (Nat.le_of_ble_eq_true rfl) rfl rfl  d_Greater_span_65 (fun z_19 tz_19 => ?_)
        refine lv_istore (lv' := [(8, .int z_19), (7, .int z_18), (0, .ref (adr t)), (1, .int x), (2, .int fb), (3, .int tb), (4, .int fc), (5, .int tc), (6, .int (bi tw))]) hx hb d_Greater_span_68 hl (by decide) rfl (fun ls hl => ?_)
        refine lv_aload_n hx hb d_Greater_span_70 rfl (lv_at hl 2 rfl) ?_
        refine lv_iload_n hx hb d_Greater_span_71 rfl (lv_at hl 3 rfl) ?_
        refine lv_iload hx hb d_Greater_span_72 (lv_at hl 1 rfl) ?_
        refine lv_iload hx hb d_Greater_span_74 (lv_at hl 0 rfl) ?_
        refine lv_iload hx hb d_Greater_span_76 (lv_at hl 1 rfl) ?_
        refine lv_iload hx hb d_Greater_span_78 (lv_at hl 0 rfl) ?_
        refine x_A (As := [.int x, .int z_18, .int z_19, .int z_18, .int z_19]) (rest := []) hx hb hml hown hK (k_add_Greater l D cA adr N hi cn_15 t xa xb xc e_15 gd hT_15 hN x z_18 z_19 z_18 z_19) t_230 t_11 t_225 t_226 t_227 t_228 t_229 yk_Three_add ⟨Nat.le_of_ble_eq_true rfl, Nat.le_of_ble_eq_true rfl⟩ (w_rec hK hP hN hT_15 rfl) hP rfl hl.1 rfl (Nat.le_of_ble_eq_true rfl) d_Greater_span_80 ⟨Nat.le_of_ble_eq_true rfl, Nat.le_of_ble_eq_true rfl⟩ hS (fun q h => h) (fun r H locs hq _ hS => ?_)
        obtain ⟨cn_20, e_20, rfl, hFt_20, hT_20, hA_20, hP⟩ := hq
        have hA_20 : AddR e_15 e_20 x.toInt (max (x.toInt + 1) (max fb.toInt fc.toInt)) (min tb.toInt tc.toInt) (max (x.toInt + 1) (max fb.toInt fc.toInt)) (min tb.toInt tc.toInt) := by have q := hA_20; rw [tz_18, tz_19] at q; exact q
        have hfr_20 : FrT t cn cn_20 := hfr_15.tr hFt_20
        refine W.eq (g2 := F0 m 83 ls []) rfl ?_
        refine e_v hx hb hr hlk hQ hS d_Greater_span_83 ?_
        refine ⟨cn_20, e_20, rfl, hfr_20, hT_20, fun S hE => ?_, hP⟩
        rw [c_1]
        have h1 := hA_15.rc (U := (fun y z => SpT (R3 4) x.toInt fb.toInt tb.toInt fc.toInt tc.toInt false y z ∧ z = x.toInt)) hE (by omega) (fun y z h => SpT.rg (by omega) y z h.1) (r_gre1 (by omega))
        have h2 := hA_20.rc (U := (fun y z => SpT (R3 4) x.toInt fb.toInt tb.toInt fc.toInt tc.toInt false y z ∧ ¬ z = x.toInt)) h1 (by omega) (fun y z h => SpT.rg (by omega) y z h.1) r_gre2
        exact h2.congr (fun a y z => ⟨fun h => h.elim (fun h => h.elim Or.inl (fun h => Or.inr ⟨h.1, h.2.1⟩)) (fun h => Or.inr ⟨h.1, h.2.1⟩), fun h => h.elim (fun h => Or.inl (Or.inl h)) (fun h => by by_cases e : z = x.toInt; exact Or.inl (Or.inr ⟨h.1, h.2, e⟩); exact Or.inr ⟨h.1, h.2, e⟩)⟩)
  · refine lv_aload_n hx hb d_Greater_span_5 rfl (lv_at hl 0 rfl) ?_
    refine lv_iload_n hx hb d_Greater_span_6 rfl (lv_at hl 1 rfl) ?_
    refine lv_iload_n hx hb d_Greater_span_7 rfl (lv_at hl 2 rfl) ?_
    refine lv_iload_n hx hb d_Greater_span_8 rfl (lv_at hl 1 rfl) ?_
    refine x_max hx hb hml hown hK hl.1 t_224 (Nat.le_of_ble_eq_true rfl) (Nat.le_of_ble_eq_true rfl) ⟨Nat.le_of_ble_eq_true rfl, Nat.le_of_ble_eq_true rfl⟩ (Nat.le_of_ble_eq_true rfl) rfl rfl  d_Greater_span_9 (fun z_21 tz_21 => ?_)
    refine lv_iload_n hx hb d_Greater_span_12 rfl (lv_at hl 3 rfl) ?_
    refine lv_iload_n hx hb d_Greater_span_13 rfl (lv_at hl 2 rfl) ?_
    refine lv_iload_n hx hb d_Greater_span_14 rfl (lv_at hl 1 rfl) ?_
    refine x_max hx hb hml hown hK hl.1 t_224 (Nat.le_of_ble_eq_true rfl) (Nat.le_of_ble_eq_true rfl) ⟨Nat.le_of_ble_eq_true rfl, Nat.le_of_ble_eq_true rfl⟩ (Nat.le_of_ble_eq_true rfl) rfl rfl  d_Greater_span_15 (fun z_22 tz_22 => ?_)
    refine lv_iload_n hx hb d_Greater_span_18 rfl (lv_at hl 3 rfl) ?_
    refine x_A (As := [.int x, .int z_21, .int tb, .int z_22, .int tb]) (rest := []) hx hb hml hown hK (k_add_Greater l D cA adr N hi cn t xa xb xc e0 gd hT hN x z_21 tb z_22 tb) t_230 t_11 t_225 t_226 t_227 t_228 t_229 yk_Three_add ⟨Nat.le_of_ble_eq_true rfl, Nat.le_of_ble_eq_true rfl⟩ (w_rec hK hP hN hT rfl) hP rfl hl.1 rfl (Nat.le_of_ble_eq_true rfl) d_Greater_span_19 ⟨Nat.le_of_ble_eq_true rfl, Nat.le_of_ble_eq_true rfl⟩ hS (fun q h => h) (fun r H locs hq _ hS => ?_)
    obtain ⟨cn_23, e_23, rfl, hFt_23, hT_23, hA_23, hP⟩ := hq
    have hA_23 : AddR e0 e_23 x.toInt (max fb.toInt x.toInt) tb.toInt (max fb.toInt x.toInt) tb.toInt := by have q := hA_23; rw [tz_21, tz_22] at q; exact q
    have hfr_23 : FrT t cn cn_23 := hFt_23
    refine W.eq (g2 := F0 m 22 ls []) rfl ?_
    refine e_v hx hb hr hlk hQ hS d_Greater_span_22 ?_
    refine ⟨cn_23, e_23, rfl, hfr_23, hT_23, fun S hE => ?_, hP⟩
    rw [c_1]
    exact hA_23.rc (U := SpT (R3 4) x.toInt fb.toInt tb.toInt fc.toInt tc.toInt true) hE (by omega) (SpT.rg (by omega)) (r_greT (htw c_1) (by omega))
theorem d_Product_span_0 : decode b_Product_span 0 = .ok (.iload 4, 2) := by decide +kernel
theorem d_Product_span_2 : decode b_Product_span 2 = .ok (.ifCond .gt 12, 3) := by decide +kernel
theorem d_Product_span_5 : decode b_Product_span 5 = .ok (.iload 5, 2) := by decide +kernel
theorem d_Product_span_7 : decode b_Product_span 7 = .ok (.ifCond .lt 7, 3) := by decide +kernel
theorem d_Product_span_10 : decode b_Product_span 10 = .ok (.iconst 1, 1) := by decide +kernel
theorem d_Product_span_11 : decode b_Product_span 11 = .ok (.goto 4, 3) := by decide +kernel
theorem d_Product_span_14 : decode b_Product_span 14 = .ok (.iconst 0, 1) := by decide +kernel
theorem d_Product_span_15 : decode b_Product_span 15 = .ok (.istore 7, 2) := by decide +kernel
theorem d_Product_span_17 : decode b_Product_span 17 = .ok (.iload 6, 2) := by decide +kernel
theorem d_Product_span_19 : decode b_Product_span 19 = .ok (.ifCond .eq 39, 3) := by decide +kernel
theorem d_Product_span_22 : decode b_Product_span 22 = .ok (.iload_n 1, 1) := by decide +kernel
theorem d_Product_span_23 : decode b_Product_span 23 = .ok (.iconst 1, 1) := by decide +kernel
theorem d_Product_span_24 : decode b_Product_span 24 = .ok (.if_icmp .ne 17, 3) := by decide +kernel
theorem d_Product_span_27 : decode b_Product_span 27 = .ok (.aload_n 0, 1) := by decide +kernel
theorem d_Product_span_28 : decode b_Product_span 28 = .ok (.iload_n 1, 1) := by decide +kernel
theorem d_Product_span_29 : decode b_Product_span 29 = .ok (.iload_n 2, 1) := by decide +kernel
theorem d_Product_span_30 : decode b_Product_span 30 = .ok (.iload_n 3, 1) := by decide +kernel
theorem d_Product_span_31 : decode b_Product_span 31 = .ok (.iload 4, 2) := by decide +kernel
theorem d_Product_span_33 : decode b_Product_span 33 = .ok (.iload 5, 2) := by decide +kernel
theorem d_Product_span_35 : decode b_Product_span 35 = .ok (.invokevirtual 7, 3) := by decide +kernel
theorem d_Product_span_38 : decode b_Product_span 38 = .ok (.goto 118, 3) := by decide +kernel
theorem d_Product_span_41 : decode b_Product_span 41 = .ok (.iload 7, 2) := by decide +kernel
theorem d_Product_span_43 : decode b_Product_span 43 = .ok (.ifCond .eq 113, 3) := by decide +kernel
theorem d_Product_span_46 : decode b_Product_span 46 = .ok (.aload_n 0, 1) := by decide +kernel
theorem d_Product_span_47 : decode b_Product_span 47 = .ok (.iload_n 1, 1) := by decide +kernel
theorem d_Product_span_48 : decode b_Product_span 48 = .ok (.iconst 0, 1) := by decide +kernel
theorem d_Product_span_49 : decode b_Product_span 49 = .ok (.iconst 0, 1) := by decide +kernel
theorem d_Product_span_50 : decode b_Product_span 50 = .ok (.iconst 0, 1) := by decide +kernel
theorem d_Product_span_51 : decode b_Product_span 51 = .ok (.iconst 0, 1) := by decide +kernel
theorem d_Product_span_52 : decode b_Product_span 52 = .ok (.invokevirtual 7, 3) := by decide +kernel
theorem d_Product_span_55 : decode b_Product_span 55 = .ok (.goto 101, 3) := by decide +kernel
theorem d_Product_span_58 : decode b_Product_span 58 = .ok (.iload_n 1, 1) := by decide +kernel
theorem d_Product_span_59 : decode b_Product_span 59 = .ok (.ifCond .ne 20, 3) := by decide +kernel
theorem d_Product_span_62 : decode b_Product_span 62 = .ok (.iload 7, 2) := by decide +kernel
theorem d_Product_span_64 : decode b_Product_span 64 = .ok (.ifCond .eq 92, 3) := by decide +kernel
theorem d_Product_span_67 : decode b_Product_span 67 = .ok (.aload_n 0, 1) := by decide +kernel
theorem d_Product_span_68 : decode b_Product_span 68 = .ok (.iload_n 1, 1) := by decide +kernel
theorem d_Product_span_69 : decode b_Product_span 69 = .ok (.iload_n 2, 1) := by decide +kernel
theorem d_Product_span_70 : decode b_Product_span 70 = .ok (.iload_n 3, 1) := by decide +kernel
theorem d_Product_span_71 : decode b_Product_span 71 = .ok (.iconst 0, 1) := by decide +kernel
theorem d_Product_span_72 : decode b_Product_span 72 = .ok (.iconst 0, 1) := by decide +kernel
theorem d_Product_span_73 : decode b_Product_span 73 = .ok (.invokevirtual 7, 3) := by decide +kernel
theorem d_Product_span_76 : decode b_Product_span 76 = .ok (.goto 80, 3) := by decide +kernel
theorem d_Product_span_79 : decode b_Product_span 79 = .ok (.iload_n 2, 1) := by decide +kernel
theorem d_Product_span_80 : decode b_Product_span 80 = .ok (.iload_n 1, 1) := by decide +kernel
theorem d_Product_span_81 : decode b_Product_span 81 = .ok (.ifCond .le 8, 3) := by decide +kernel
theorem d_Product_span_84 : decode b_Product_span 84 = .ok (.iload 4, 2) := by decide +kernel
theorem d_Product_span_86 : decode b_Product_span 86 = .ok (.goto 5, 3) := by decide +kernel
theorem d_Product_span_89 : decode b_Product_span 89 = .ok (.iload 5, 2) := by decide +kernel
theorem d_Product_span_91 : decode b_Product_span 91 = .ok (.iload_n 1, 1) := by decide +kernel
theorem d_Product_span_92 : decode b_Product_span 92 = .ok (.invokestatic 13, 3) := by decide +kernel
theorem d_Product_span_95 : decode b_Product_span 95 = .ok (.invokestatic 19, 3) := by decide +kernel
theorem d_Product_span_98 : decode b_Product_span 98 = .ok (.istore 8, 2) := by decide +kernel
theorem d_Product_span_100 : decode b_Product_span 100 = .ok (.iload_n 3, 1) := by decide +kernel
theorem d_Product_span_101 : decode b_Product_span 101 = .ok (.iload_n 1, 1) := by decide +kernel
theorem d_Product_span_102 : decode b_Product_span 102 = .ok (.ifCond .le 8, 3) := by decide +kernel
theorem d_Product_span_105 : decode b_Product_span 105 = .ok (.iload 5, 2) := by decide +kernel
theorem d_Product_span_107 : decode b_Product_span 107 = .ok (.goto 5, 3) := by decide +kernel
theorem d_Product_span_110 : decode b_Product_span 110 = .ok (.iload 4, 2) := by decide +kernel
theorem d_Product_span_112 : decode b_Product_span 112 = .ok (.iload_n 1, 1) := by decide +kernel
theorem d_Product_span_113 : decode b_Product_span 113 = .ok (.invokestatic 24, 3) := by decide +kernel
theorem d_Product_span_116 : decode b_Product_span 116 = .ok (.invokestatic 27, 3) := by decide +kernel
theorem d_Product_span_119 : decode b_Product_span 119 = .ok (.istore 9, 2) := by decide +kernel
theorem d_Product_span_121 : decode b_Product_span 121 = .ok (.aload_n 0, 1) := by decide +kernel
theorem d_Product_span_122 : decode b_Product_span 122 = .ok (.iload_n 1, 1) := by decide +kernel
theorem d_Product_span_123 : decode b_Product_span 123 = .ok (.iload 8, 2) := by decide +kernel
theorem d_Product_span_125 : decode b_Product_span 125 = .ok (.iload 9, 2) := by decide +kernel
theorem d_Product_span_127 : decode b_Product_span 127 = .ok (.iload_n 1, 1) := by decide +kernel
theorem d_Product_span_128 : decode b_Product_span 128 = .ok (.iload_n 1, 1) := by decide +kernel
theorem d_Product_span_129 : decode b_Product_span 129 = .ok (.ifCond .le 8, 3) := by decide +kernel
theorem d_Product_span_132 : decode b_Product_span 132 = .ok (.iload 8, 2) := by decide +kernel
theorem d_Product_span_134 : decode b_Product_span 134 = .ok (.goto 5, 3) := by decide +kernel
theorem d_Product_span_137 : decode b_Product_span 137 = .ok (.iload 9, 2) := by decide +kernel
theorem d_Product_span_139 : decode b_Product_span 139 = .ok (.imul, 1) := by decide +kernel
theorem d_Product_span_140 : decode b_Product_span 140 = .ok (.iload_n 1, 1) := by decide +kernel
theorem d_Product_span_141 : decode b_Product_span 141 = .ok (.iload_n 1, 1) := by decide +kernel
theorem d_Product_span_142 : decode b_Product_span 142 = .ok (.ifCond .le 8, 3) := by decide +kernel
theorem d_Product_span_145 : decode b_Product_span 145 = .ok (.iload 9, 2) := by decide +kernel
theorem d_Product_span_147 : decode b_Product_span 147 = .ok (.goto 5, 3) := by decide +kernel
theorem d_Product_span_150 : decode b_Product_span 150 = .ok (.iload 8, 2) := by decide +kernel
theorem d_Product_span_152 : decode b_Product_span 152 = .ok (.imul, 1) := by decide +kernel
theorem d_Product_span_153 : decode b_Product_span 153 = .ok (.invokevirtual 7, 3) := by decide +kernel
theorem d_Product_span_156 : decode b_Product_span 156 = .ok (.return_, 1) := by decide +kernel
set_option maxHeartbeats 4000000 in
set_option maxRecDepth 20000 in
theorem k_Product_span (l : Launch) (D : va_G) (cA : Nat → ClassId) (adr : Nat → Nat) (N : List Nat) (hi : wI N adr) (cn : Nat → va_E) (t : Nat) (xa xb xc : Int32) (e0 : Nat → Int32) (gd : Bool) (hT : TP cn t 8 xa xb xc e0 gd) (hN : t ∈ N) (x fb tb fc tc : Int32) (tw : Bool) (hrx : -100 ≤ x.toInt ∧ x.toInt ≤ 100) (hrb : -100 ≤ fb.toInt ∧ fb.toInt ≤ tb.toInt ∧ tb.toInt ≤ 100) (hrc : -100 ≤ fc.toInt ∧ fc.toInt ≤ tc.toInt ∧ tc.toInt ≤ 100) (htw : tw = true → fb.toInt = fc.toInt ∧ tb.toInt = tc.toInt) : Ct l y_Product_span b_Product_span 10 none 4 D cA [.ref (adr t), .int x, .int fb, .int tb, .int fc, .int tc, .int (bi tw)] (fun H => va_P D classes (wl N adr cn) H) (fun r H => ∃ (cn2 : Nat → va_E) (e2 : Nat → Int32), r = none ∧ FrT t cn cn2 ∧ TP cn2 t 8 xa xb xc e2 gd ∧ (∀ S : Int → Int → Int → Prop, EE S e0 → EE (fun a y z => S a y z ∨ (a = x.toInt ∧ SpT (R3 1) x.toInt fb.toInt tb.toInt fc.toInt tc.toInt tw y z)) e2) ∧ va_P D classes (wl N adr cn2) H) (wA N adr) := by
  refine Ct.mk (by decide) (Nat.le_of_ble_eq_true rfl) ?_
  intro p e s m args below meth c Q H locs ls hx hb hr hml hlk hown hin hK hQ hS hP hl
  have hl : lv_has ls 10 [(0, .ref (adr t)), (1, .int x), (2, .int fb), (3, .int tb), (4, .int fc), (5, .int tc), (6, .int (bi tw))] := hl
  have hown : s.vm.findClass "RangeSheet$Product" = some m.cls := hown
  refine lv_iload hx hb d_Product_span_0 (lv_at hl 4 rfl) ?_
  have K_201 : ∀ (b_201_0 : Bool), (b_201_0 = true ↔ (fc.toInt ≤ 0 ∧ 0 ≤ tc.toInt)) → W p l e (rl 4) s m args below meth c H locs 0 0 Q (F0 m 15 ls [.int (bi b_201_0)]) := by
    intro b_201_0 hb_201_0
    refine lv_istore (lv' := [(7, .int (bi b_201_0)), (0, .ref (adr t)), (1, .int x), (2, .int fb), (3, .int tb), (4, .int fc), (5, .int tc), (6, .int (bi tw))]) hx hb d_Product_span_15 hl (by decide) rfl (fun ls hl => ?_)
    refine lv_iload hx hb d_Product_span_17 (lv_at hl 7 rfl) ?_
    refine b_bool_eq (tgt := 58) hx hb d_Product_span_19 (by decide) (fun c_202 => ?_) (fun c_202 => ?_)
    · refine lv_iload_n hx hb d_Product_span_58 rfl (lv_at hl 2 rfl) ?_
      refine b_if_ne (tgt := 79) hx hb d_Product_span_59 (by decide) rfl (fun c_203 => ?_) (fun c_203 => ?_)
      · refine lv_iload_n hx hb d_Product_span_79 rfl (lv_at hl 3 rfl) ?_
        refine lv_iload_n hx hb d_Product_span_80 rfl (lv_at hl 2 rfl) ?_
        have K_404 : ∀ (z_404_0 : Int32), z_404_0.toInt = (if x.toInt ≤ 0 then tc.toInt else fc.toInt) → W p l e (rl 4) s m args below meth c H locs 0 0 Q (F0 m 91 ls [.int z_404_0, .int fb]) := by
          intro z_404_0 hz_404_0
          have hb_z_404_0 : -100 ≤ z_404_0.toInt ∧ z_404_0.toInt ≤ 100 := by rw [hz_404_0]; split <;> omega
          refine lv_iload_n hx hb d_Product_span_91 rfl (lv_at hl 2 rfl) ?_
          refine r_ceil_Product hx hb hml hown hK hl.1 hS ⟨Nat.le_of_ble_eq_true rfl, Nat.le_of_ble_eq_true rfl⟩ ⟨Nat.le_of_ble_eq_true rfl, Nat.le_of_ble_eq_true rfl⟩ rfl rfl (by omega) (by omega) d_Product_span_92 (Nat.le_of_ble_eq_true rfl) (fun z_405 locs tz_405 hS => ?_)
          refine x_max hx hb hml hown hK hl.1 t_262 (Nat.le_of_ble_eq_true rfl) (Nat.le_of_ble_eq_true rfl) ⟨Nat.le_of_ble_eq_true rfl, Nat.le_of_ble_eq_true rfl⟩ (Nat.le_of_ble_eq_true rfl) rfl tz_405  d_Product_span_95 (fun z_406 tz_406 => ?_)
          refine lv_istore (lv' := [(8, .int z_406), (7, .int (bi b_201_0)), (0, .ref (adr t)), (1, .int x), (2, .int fb), (3, .int tb), (4, .int fc), (5, .int tc), (6, .int (bi tw))]) hx hb d_Product_span_98 hl (by decide) rfl (fun ls hl => ?_)
          refine lv_iload_n hx hb d_Product_span_100 rfl (lv_at hl 5 rfl) ?_
          refine lv_iload_n hx hb d_Product_span_101 rfl (lv_at hl 3 rfl) ?_
          have K_607 : ∀ (z_607_0 : Int32), z_607_0.toInt = (if x.toInt ≤ 0 then fc.toInt else tc.toInt) → W p l e (rl 4) s m args below meth c H locs 0 0 Q (F0 m 112 ls [.int z_607_0, .int tb]) := by
            intro z_607_0 hz_607_0
            have hb_z_607_0 : -100 ≤ z_607_0.toInt ∧ z_607_0.toInt ≤ 100 := by rw [hz_607_0]; split <;> omega
            refine lv_iload_n hx hb d_Product_span_112 rfl (lv_at hl 3 rfl) ?_
            refine x_fdiv hx hb hml hown hK hl.1 t_263 (Nat.le_of_ble_eq_true rfl) (Nat.le_of_ble_eq_true rfl) ⟨Nat.le_of_ble_eq_true rfl, Nat.le_of_ble_eq_true rfl⟩ (Nat.le_of_ble_eq_true rfl) rfl rfl (by omega) (by omega) d_Product_span_113 (fun z_608 tz_608 => ?_)
            refine x_min hx hb hml hown hK hl.1 t_264 (Nat.le_of_ble_eq_true rfl) (Nat.le_of_ble_eq_true rfl) ⟨Nat.le_of_ble_eq_true rfl, Nat.le_of_ble_eq_true rfl⟩ (Nat.le_of_ble_eq_true rfl) rfl tz_608  d_Product_span_116 (fun z_609 tz_609 => ?_)
            refine lv_istore (lv' := [(9, .int z_609), (8, .int z_406), (7, .int (bi b_201_0)), (0, .ref (adr t)), (1, .int x), (2, .int fb), (3, .int tb), (4, .int fc), (5, .int tc), (6, .int (bi tw))]) hx hb d_Product_span_119 hl (by decide) rfl (fun ls hl => ?_)
            have hq1 := fl_bd (-z_404_0.toInt) x.toInt (by omega); have hq2 := fl_bd z_607_0.toInt x.toInt (by omega)
            refine lv_aload_n hx hb d_Product_span_121 rfl (lv_at hl 3 rfl) ?_
            refine lv_iload_n hx hb d_Product_span_122 rfl (lv_at hl 4 rfl) ?_
            refine lv_iload hx hb d_Product_span_123 (lv_at hl 1 rfl) ?_
            refine lv_iload hx hb d_Product_span_125 (lv_at hl 0 rfl) ?_
            refine lv_iload_n hx hb d_Product_span_127 rfl (lv_at hl 4 rfl) ?_
            refine lv_iload_n hx hb d_Product_span_128 rfl (lv_at hl 4 rfl) ?_
            have K_810 : ∀ (z_810_0 : Int32), z_810_0.toInt = (if x.toInt ≤ 0 then (min tb.toInt (fl z_607_0.toInt x.toInt)) else (max fb.toInt (-(fl (-z_404_0.toInt) x.toInt)))) → W p l e (rl 4) s m args below meth c H locs 0 0 Q (F0 m 139 ls [.int z_810_0, .int x, .int z_609, .int z_406, .int x, .ref (adr t)]) := by
              intro z_810_0 hz_810_0
              have hb_z_810_0 : -101 ≤ z_810_0.toInt ∧ z_810_0.toInt ≤ 101 := by rw [hz_810_0]; split <;> omega
              have hm_z_810_0 := mul_bd (x := x.toInt) (y := z_810_0.toInt) (by omega) (by omega)
              refine x_mul hx hb d_Product_span_139 rfl rfl (by omega) (fun z_811 tz_811 => ?_)
              refine lv_iload_n hx hb d_Product_span_140 rfl (lv_at hl 4 rfl) ?_
              refine lv_iload_n hx hb d_Product_span_141 rfl (lv_at hl 4 rfl) ?_
              have K_1012 : ∀ (z_1012_0 : Int32), z_1012_0.toInt = (if x.toInt ≤ 0 then (max fb.toInt (-(fl (-z_404_0.toInt) x.toInt))) else (min tb.toInt (fl z_607_0.toInt x.toInt))) → W p l e (rl 4) s m args below meth c H locs 0 0 Q (F0 m 152 ls [.int z_1012_0, .int x, .int z_811, .int z_609, .int z_406, .int x, .ref (adr t)]) := by
                intro z_1012_0 hz_1012_0
                have hb_z_1012_0 : -101 ≤ z_1012_0.toInt ∧ z_1012_0.toInt ≤ 101 := by rw [hz_1012_0]; split <;> omega
                have hm_z_1012_0 := mul_bd (x := x.toInt) (y := z_1012_0.toInt) (by omega) (by omega)
                refine x_mul hx hb d_Product_span_152 rfl rfl (by omega) (fun z_1013 tz_1013 => ?_)
                refine x_A (As := [.int x, .int z_406, .int z_609, .int z_811, .int z_1013]) (rest := []) hx hb hml hown hK (k_add_Product l D cA adr N hi cn t xa xb xc e0 gd hT hN x z_406 z_609 z_811 z_1013) t_230 t_11 t_253 t_254 t_227 t_255 t_229 yk_Three_add ⟨Nat.le_of_ble_eq_true rfl, Nat.le_of_ble_eq_true rfl⟩ (w_rec hK hP hN hT rfl) hP rfl hl.1 rfl (Nat.le_of_ble_eq_true rfl) d_Product_span_153 ⟨Nat.le_of_ble_eq_true rfl, Nat.le_of_ble_eq_true rfl⟩ hS (fun q h => h) (fun r H locs hq _ hS => ?_)
                obtain ⟨cn_1014, e_1014, rfl, hFt_1014, hT_1014, hA_1014, hP⟩ := hq
                have hA_1014 : AddR e0 e_1014 x.toInt (max fb.toInt (-(fl (-z_404_0.toInt) x.toInt))) (min tb.toInt (fl z_607_0.toInt x.toInt)) (x.toInt * z_810_0.toInt) (x.toInt * z_1012_0.toInt) := by have q := hA_1014; rw [tz_406, tz_609, tz_811, tz_1013] at q; exact q
                have hfr_1014 : FrT t cn cn_1014 := hFt_1014
                refine W.eq (g2 := F0 m 156 ls []) rfl ?_
                refine e_v hx hb hr hlk hQ hS d_Product_span_156 ?_
                refine ⟨cn_1014, e_1014, rfl, hfr_1014, hT_1014, fun S hE => ?_, hP⟩
                rw [c_202]
                by_cases hx0 : x.toInt ≤ 0
                · rw [if_pos hx0] at hz_404_0
                  rw [if_pos hx0] at hz_607_0
                  rw [if_pos hx0] at hz_810_0
                  rw [if_pos hx0] at hz_1012_0
                  have q := hA_1014; rw [hz_810_0, hz_1012_0] at q
                  exact q.rc (U := SpT (R3 1) x.toInt fb.toInt tb.toInt fc.toInt tc.toInt false) hE (by omega) (SpT.rg (by omega)) (r_proM (by omega) (by rw [hz_404_0]) (by rw [hz_607_0]))
                · rw [if_neg hx0] at hz_404_0
                  rw [if_neg hx0] at hz_607_0
                  rw [if_neg hx0] at hz_810_0
                  rw [if_neg hx0] at hz_1012_0
                  have q := hA_1014; rw [hz_810_0, hz_1012_0] at q
                  exact q.rc (U := SpT (R3 1) x.toInt fb.toInt tb.toInt fc.toInt tc.toInt false) hE (by omega) (SpT.rg (by omega)) (r_proP (by omega) (by rw [hz_404_0]) (by rw [hz_607_0]))
              refine b_if_le (tgt := 150) hx hb d_Product_span_142 (by decide) rfl (fun c_1015 => ?_) (fun c_1015 => ?_)
              · refine lv_iload hx hb d_Product_span_150 (lv_at hl 1 rfl) ?_
                exact K_1012 z_406 (by omega)
              · refine lv_iload hx hb d_Product_span_145 (lv_at hl 0 rfl) ?_
                refine lv_goto (tgt := 152) hx hb d_Product_span_147 (by decide) ?_
                exact K_1012 z_609 (by omega)
            refine b_if_le (tgt := 137) hx hb d_Product_span_129 (by decide) rfl (fun c_1016 => ?_) (fun c_1016 => ?_)
            · refine lv_iload hx hb d_Product_span_137 (lv_at hl 0 rfl) ?_
              exact K_810 z_609 (by omega)
            · refine lv_iload hx hb d_Product_span_132 (lv_at hl 1 rfl) ?_
              refine lv_goto (tgt := 139) hx hb d_Product_span_134 (by decide) ?_
              exact K_810 z_406 (by omega)
          refine b_if_le (tgt := 110) hx hb d_Product_span_102 (by decide) rfl (fun c_1017 => ?_) (fun c_1017 => ?_)
          · refine lv_iload hx hb d_Product_span_110 (lv_at hl 6 rfl) ?_
            exact K_607 fc (by omega)
          · refine lv_iload hx hb d_Product_span_105 (lv_at hl 7 rfl) ?_
            refine lv_goto (tgt := 112) hx hb d_Product_span_107 (by decide) ?_
            exact K_607 tc (by omega)
        refine b_if_le (tgt := 89) hx hb d_Product_span_81 (by decide) rfl (fun c_1018 => ?_) (fun c_1018 => ?_)
        · refine lv_iload hx hb d_Product_span_89 (lv_at hl 6 rfl) ?_
          exact K_404 tc (by omega)
        · refine lv_iload hx hb d_Product_span_84 (lv_at hl 5 rfl) ?_
          refine lv_goto (tgt := 91) hx hb d_Product_span_86 (by decide) ?_
          exact K_404 fc (by omega)
      · refine lv_iload hx hb d_Product_span_62 (lv_at hl 0 rfl) ?_
        refine b_bool_eq (tgt := 156) hx hb d_Product_span_64 (by decide) (fun c_1019 => ?_) (fun c_1019 => ?_)
        · refine e_v hx hb hr hlk hQ hS d_Product_span_156 ?_
          refine ⟨cn, e0, rfl, FrT.rf, hT, fun S hE => ?_, hP⟩
          rw [c_202]
          exact hE.no (r_przN c_203 (fun h => by have := hb_201_0.mpr (by omega); rw [c_1019] at this; cases this))
        · refine lv_aload_n hx hb d_Product_span_67 rfl (lv_at hl 1 rfl) ?_
          refine lv_iload_n hx hb d_Product_span_68 rfl (lv_at hl 2 rfl) ?_
          refine lv_iload_n hx hb d_Product_span_69 rfl (lv_at hl 3 rfl) ?_
          refine lv_iload_n hx hb d_Product_span_70 rfl (lv_at hl 4 rfl) ?_
          refine lv_iconst (v := 0) hx hb d_Product_span_71 (by decide) ?_
          refine lv_iconst (v := 0) hx hb d_Product_span_72 (by decide) ?_
          refine x_A (As := [.int x, .int fb, .int tb, .int (0 : Int32), .int (0 : Int32)]) (rest := []) hx hb hml hown hK (k_add_Product l D cA adr N hi cn t xa xb xc e0 gd hT hN x fb tb (0 : Int32) (0 : Int32)) t_230 t_11 t_253 t_254 t_227 t_255 t_229 yk_Three_add ⟨Nat.le_of_ble_eq_true rfl, Nat.le_of_ble_eq_true rfl⟩ (w_rec hK hP hN hT rfl) hP rfl hl.1 rfl (Nat.le_of_ble_eq_true rfl) d_Product_span_73 ⟨Nat.le_of_ble_eq_true rfl, Nat.le_of_ble_eq_true rfl⟩ hS (fun q h => h) (fun r H locs hq _ hS => ?_)
          obtain ⟨cn_1020, e_1020, rfl, hFt_1020, hT_1020, hA_1020, hP⟩ := hq
          have hA_1020 : AddR e0 e_1020 x.toInt fb.toInt tb.toInt 0 0 := by have q := hA_1020; rw [kc_0] at q; exact q
          have hfr_1020 : FrT t cn cn_1020 := hFt_1020
          refine W.eq (g2 := F0 m 76 ls []) rfl ?_
          refine lv_goto (tgt := 156) hx hb d_Product_span_76 (by decide) ?_
          refine e_v hx hb hr hlk hQ hS d_Product_span_156 ?_
          refine ⟨cn_1020, e_1020, rfl, hfr_1020, hT_1020, fun S hE => ?_, hP⟩
          rw [c_202]
          exact hA_1020.rc (U := SpT (R3 1) x.toInt fb.toInt tb.toInt fc.toInt tc.toInt false) hE (by omega) (SpT.rg (by omega)) (r_prz c_203 (by have := hb_201_0.mp c_1019; omega) (by omega))
    · refine lv_iload_n hx hb d_Product_span_22 rfl (lv_at hl 2 rfl) ?_
      refine lv_iconst (v := 1) hx hb d_Product_span_23 (by decide) ?_
      refine b_icmp_ne (tgt := 41) hx hb d_Product_span_24 (by decide) rfl kc_1 (fun c_1021 => ?_) (fun c_1021 => ?_)
      · refine lv_iload hx hb d_Product_span_41 (lv_at hl 0 rfl) ?_
        refine b_bool_eq (tgt := 156) hx hb d_Product_span_43 (by decide) (fun c_1022 => ?_) (fun c_1022 => ?_)
        · refine e_v hx hb hr hlk hQ hS d_Product_span_156 ?_
          refine ⟨cn, e0, rfl, FrT.rf, hT, fun S hE => ?_, hP⟩
          rw [c_202]
          exact hE.no (r_proN c_1021 (fun h => by have := hb_201_0.mpr (by omega); rw [c_1022] at this; cases this))
        · refine lv_aload_n hx hb d_Product_span_46 rfl (lv_at hl 1 rfl) ?_
          refine lv_iload_n hx hb d_Product_span_47 rfl (lv_at hl 2 rfl) ?_
          refine lv_iconst (v := 0) hx hb d_Product_span_48 (by decide) ?_
          refine lv_iconst (v := 0) hx hb d_Product_span_49 (by decide) ?_
          refine lv_iconst (v := 0) hx hb d_Product_span_50 (by decide) ?_
          refine lv_iconst (v := 0) hx hb d_Product_span_51 (by decide) ?_
          refine x_A (As := [.int x, .int (0 : Int32), .int (0 : Int32), .int (0 : Int32), .int (0 : Int32)]) (rest := []) hx hb hml hown hK (k_add_Product l D cA adr N hi cn t xa xb xc e0 gd hT hN x (0 : Int32) (0 : Int32) (0 : Int32) (0 : Int32)) t_230 t_11 t_253 t_254 t_227 t_255 t_229 yk_Three_add ⟨Nat.le_of_ble_eq_true rfl, Nat.le_of_ble_eq_true rfl⟩ (w_rec hK hP hN hT rfl) hP rfl hl.1 rfl (Nat.le_of_ble_eq_true rfl) d_Product_span_52 ⟨Nat.le_of_ble_eq_true rfl, Nat.le_of_ble_eq_true rfl⟩ hS (fun q h => h) (fun r H locs hq _ hS => ?_)
          obtain ⟨cn_1023, e_1023, rfl, hFt_1023, hT_1023, hA_1023, hP⟩ := hq
          have hA_1023 : AddR e0 e_1023 x.toInt 0 0 0 0 := by have q := hA_1023; rw [kc_0] at q; exact q
          have hfr_1023 : FrT t cn cn_1023 := hFt_1023
          refine W.eq (g2 := F0 m 55 ls []) rfl ?_
          refine lv_goto (tgt := 156) hx hb d_Product_span_55 (by decide) ?_
          refine e_v hx hb hr hlk hQ hS d_Product_span_156 ?_
          refine ⟨cn_1023, e_1023, rfl, hfr_1023, hT_1023, fun S hE => ?_, hP⟩
          rw [c_202]
          exact hA_1023.rc (U := SpT (R3 1) x.toInt fb.toInt tb.toInt fc.toInt tc.toInt true) hE (by omega) (SpT.rg (by omega)) (r_pro0 c_1021 (by have := hb_201_0.mp c_1022; omega) (htw c_202))
      · refine lv_aload_n hx hb d_Product_span_27 rfl (lv_at hl 1 rfl) ?_
        refine lv_iload_n hx hb d_Product_span_28 rfl (lv_at hl 2 rfl) ?_
        refine lv_iload_n hx hb d_Product_span_29 rfl (lv_at hl 3 rfl) ?_
        refine lv_iload_n hx hb d_Product_span_30 rfl (lv_at hl 4 rfl) ?_
        refine lv_iload hx hb d_Product_span_31 (lv_at hl 5 rfl) ?_
        refine lv_iload hx hb d_Product_span_33 (lv_at hl 6 rfl) ?_
        refine x_A (As := [.int x, .int fb, .int tb, .int fc, .int tc]) (rest := []) hx hb hml hown hK (k_add_Product l D cA adr N hi cn t xa xb xc e0 gd hT hN x fb tb fc tc) t_230 t_11 t_253 t_254 t_227 t_255 t_229 yk_Three_add ⟨Nat.le_of_ble_eq_true rfl, Nat.le_of_ble_eq_true rfl⟩ (w_rec hK hP hN hT rfl) hP rfl hl.1 rfl (Nat.le_of_ble_eq_true rfl) d_Product_span_35 ⟨Nat.le_of_ble_eq_true rfl, Nat.le_of_ble_eq_true rfl⟩ hS (fun q h => h) (fun r H locs hq _ hS => ?_)
        obtain ⟨cn_1024, e_1024, rfl, hFt_1024, hT_1024, hA_1024, hP⟩ := hq
        have hfr_1024 : FrT t cn cn_1024 := hFt_1024
        refine W.eq (g2 := F0 m 38 ls []) rfl ?_
        refine lv_goto (tgt := 156) hx hb d_Product_span_38 (by decide) ?_
        refine e_v hx hb hr hlk hQ hS d_Product_span_156 ?_
        refine ⟨cn_1024, e_1024, rfl, hfr_1024, hT_1024, fun S hE => ?_, hP⟩
        rw [c_202]
        exact hA_1024.rc (U := SpT (R3 1) x.toInt fb.toInt tb.toInt fc.toInt tc.toInt true) hE (by omega) (SpT.rg (by omega)) (r_pro1 c_1021 (htw c_202))
  refine b_if_gt (tgt := 14) hx hb d_Product_span_2 (by decide) rfl (fun c_1025 => ?_) (fun c_1025 => ?_)
  · refine lv_iconst (v := 0) hx hb d_Product_span_14 (by decide) ?_
    exact K_201 false ⟨fun h => absurd h (by decide), fun h => absurd h (by omega)⟩
  · refine lv_iload hx hb d_Product_span_5 (lv_at hl 5 rfl) ?_
    refine b_if_lt (tgt := 14) hx hb d_Product_span_7 (by decide) rfl (fun c_1026 => ?_) (fun c_1026 => ?_)
    · refine lv_iconst (v := 0) hx hb d_Product_span_14 (by decide) ?_
      exact K_201 false ⟨fun h => absurd h (by decide), fun h => absurd h (by omega)⟩
    · refine lv_iconst (v := 1) hx hb d_Product_span_10 (by decide) ?_
      refine lv_goto (tgt := 15) hx hb d_Product_span_11 (by decide) ?_
      exact K_201 true ⟨fun _ => by omega, fun _ => rfl⟩
theorem mul_b2 {x y : Int} (h1 : -101 ≤ x ∧ x ≤ 101) (h2 : -101 ≤ y ∧ y ≤ 101) : -10201 ≤ x * y ∧ x * y ≤ 10201 := by
  have e := Int.natAbs_mul x y
  have : x.natAbs * y.natAbs ≤ 101 * 101 := Nat.mul_le_mul (by omega) (by omega)
  omega
theorem d_Quotient_span_0 : decode b_Quotient_span 0 = .ok (.iload_n 1, 1) := by decide +kernel
theorem d_Quotient_span_1 : decode b_Quotient_span 1 = .ok (.ifCond .ne 4, 3) := by decide +kernel
theorem d_Quotient_span_4 : decode b_Quotient_span 4 = .ok (.return_, 1) := by decide +kernel
theorem d_Quotient_span_5 : decode b_Quotient_span 5 = .ok (.iload 6, 2) := by decide +kernel
theorem d_Quotient_span_7 : decode b_Quotient_span 7 = .ok (.ifCond .eq 43, 3) := by decide +kernel
theorem d_Quotient_span_10 : decode b_Quotient_span 10 = .ok (.iload_n 2, 1) := by decide +kernel
theorem d_Quotient_span_11 : decode b_Quotient_span 11 = .ok (.istore 7, 2) := by decide +kernel
theorem d_Quotient_span_13 : decode b_Quotient_span 13 = .ok (.iload 7, 2) := by decide +kernel
theorem d_Quotient_span_15 : decode b_Quotient_span 15 = .ok (.iload_n 3, 1) := by decide +kernel
theorem d_Quotient_span_16 : decode b_Quotient_span 16 = .ok (.if_icmp .gt 33, 3) := by decide +kernel
theorem d_Quotient_span_19 : decode b_Quotient_span 19 = .ok (.iload 7, 2) := by decide +kernel
theorem d_Quotient_span_21 : decode b_Quotient_span 21 = .ok (.iload_n 1, 1) := by decide +kernel
theorem d_Quotient_span_22 : decode b_Quotient_span 22 = .ok (.invokestatic 7, 3) := by decide +kernel
theorem d_Quotient_span_25 : decode b_Quotient_span 25 = .ok (.iload 7, 2) := by decide +kernel
theorem d_Quotient_span_27 : decode b_Quotient_span 27 = .ok (.if_icmp .ne 16, 3) := by decide +kernel
theorem d_Quotient_span_30 : decode b_Quotient_span 30 = .ok (.aload_n 0, 1) := by decide +kernel
theorem d_Quotient_span_31 : decode b_Quotient_span 31 = .ok (.iload_n 1, 1) := by decide +kernel
theorem d_Quotient_span_32 : decode b_Quotient_span 32 = .ok (.iload 7, 2) := by decide +kernel
theorem d_Quotient_span_34 : decode b_Quotient_span 34 = .ok (.iload 7, 2) := by decide +kernel
theorem d_Quotient_span_36 : decode b_Quotient_span 36 = .ok (.iload 7, 2) := by decide +kernel
theorem d_Quotient_span_38 : decode b_Quotient_span 38 = .ok (.iload 7, 2) := by decide +kernel
theorem d_Quotient_span_40 : decode b_Quotient_span 40 = .ok (.invokevirtual 13, 3) := by decide +kernel
theorem d_Quotient_span_43 : decode b_Quotient_span 43 = .ok (.iinc 7 1, 3) := by decide +kernel
theorem d_Quotient_span_46 : decode b_Quotient_span 46 = .ok (.goto (-33), 3) := by decide +kernel
theorem d_Quotient_span_49 : decode b_Quotient_span 49 = .ok (.return_, 1) := by decide +kernel
theorem d_Quotient_span_50 : decode b_Quotient_span 50 = .ok (.iload_n 2, 1) := by decide +kernel
theorem d_Quotient_span_51 : decode b_Quotient_span 51 = .ok (.iload_n 1, 1) := by decide +kernel
theorem d_Quotient_span_52 : decode b_Quotient_span 52 = .ok (.ifCond .le 10, 3) := by decide +kernel
theorem d_Quotient_span_55 : decode b_Quotient_span 55 = .ok (.iload 4, 2) := by decide +kernel
theorem d_Quotient_span_57 : decode b_Quotient_span 57 = .ok (.iload_n 1, 1) := by decide +kernel
theorem d_Quotient_span_58 : decode b_Quotient_span 58 = .ok (.imul, 1) := by decide +kernel
theorem d_Quotient_span_59 : decode b_Quotient_span 59 = .ok (.goto 11, 3) := by decide +kernel
theorem d_Quotient_span_62 : decode b_Quotient_span 62 = .ok (.iload 5, 2) := by decide +kernel
theorem d_Quotient_span_64 : decode b_Quotient_span 64 = .ok (.iconst 1, 1) := by decide +kernel
theorem d_Quotient_span_65 : decode b_Quotient_span 65 = .ok (.iadd, 1) := by decide +kernel
theorem d_Quotient_span_66 : decode b_Quotient_span 66 = .ok (.iload_n 1, 1) := by decide +kernel
theorem d_Quotient_span_67 : decode b_Quotient_span 67 = .ok (.imul, 1) := by decide +kernel
theorem d_Quotient_span_68 : decode b_Quotient_span 68 = .ok (.iconst 1, 1) := by decide +kernel
theorem d_Quotient_span_69 : decode b_Quotient_span 69 = .ok (.iadd, 1) := by decide +kernel
theorem d_Quotient_span_70 : decode b_Quotient_span 70 = .ok (.invokestatic 19, 3) := by decide +kernel
theorem d_Quotient_span_73 : decode b_Quotient_span 73 = .ok (.istore 7, 2) := by decide +kernel
theorem d_Quotient_span_75 : decode b_Quotient_span 75 = .ok (.iload_n 3, 1) := by decide +kernel
theorem d_Quotient_span_76 : decode b_Quotient_span 76 = .ok (.iload_n 1, 1) := by decide +kernel
theorem d_Quotient_span_77 : decode b_Quotient_span 77 = .ok (.ifCond .le 14, 3) := by decide +kernel
theorem d_Quotient_span_80 : decode b_Quotient_span 80 = .ok (.iload 5, 2) := by decide +kernel
theorem d_Quotient_span_82 : decode b_Quotient_span 82 = .ok (.iconst 1, 1) := by decide +kernel
theorem d_Quotient_span_83 : decode b_Quotient_span 83 = .ok (.iadd, 1) := by decide +kernel
theorem d_Quotient_span_84 : decode b_Quotient_span 84 = .ok (.iload_n 1, 1) := by decide +kernel
theorem d_Quotient_span_85 : decode b_Quotient_span 85 = .ok (.imul, 1) := by decide +kernel
theorem d_Quotient_span_86 : decode b_Quotient_span 86 = .ok (.iconst 1, 1) := by decide +kernel
theorem d_Quotient_span_87 : decode b_Quotient_span 87 = .ok (.isub, 1) := by decide +kernel
theorem d_Quotient_span_88 : decode b_Quotient_span 88 = .ok (.goto 7, 3) := by decide +kernel
theorem d_Quotient_span_91 : decode b_Quotient_span 91 = .ok (.iload 4, 2) := by decide +kernel
theorem d_Quotient_span_93 : decode b_Quotient_span 93 = .ok (.iload_n 1, 1) := by decide +kernel
theorem d_Quotient_span_94 : decode b_Quotient_span 94 = .ok (.imul, 1) := by decide +kernel
theorem d_Quotient_span_95 : decode b_Quotient_span 95 = .ok (.invokestatic 22, 3) := by decide +kernel
theorem d_Quotient_span_98 : decode b_Quotient_span 98 = .ok (.istore 8, 2) := by decide +kernel
theorem d_Quotient_span_100 : decode b_Quotient_span 100 = .ok (.iload 7, 2) := by decide +kernel
theorem d_Quotient_span_102 : decode b_Quotient_span 102 = .ok (.iload_n 1, 1) := by decide +kernel
theorem d_Quotient_span_103 : decode b_Quotient_span 103 = .ok (.invokestatic 7, 3) := by decide +kernel
theorem d_Quotient_span_106 : decode b_Quotient_span 106 = .ok (.istore 9, 2) := by decide +kernel
theorem d_Quotient_span_108 : decode b_Quotient_span 108 = .ok (.iload 8, 2) := by decide +kernel
theorem d_Quotient_span_110 : decode b_Quotient_span 110 = .ok (.iload_n 1, 1) := by decide +kernel
theorem d_Quotient_span_111 : decode b_Quotient_span 111 = .ok (.invokestatic 7, 3) := by decide +kernel
theorem d_Quotient_span_114 : decode b_Quotient_span 114 = .ok (.istore 10, 2) := by decide +kernel
theorem d_Quotient_span_116 : decode b_Quotient_span 116 = .ok (.iload 7, 2) := by decide +kernel
theorem d_Quotient_span_118 : decode b_Quotient_span 118 = .ok (.iload 8, 2) := by decide +kernel
theorem d_Quotient_span_120 : decode b_Quotient_span 120 = .ok (.if_icmp .gt 26, 3) := by decide +kernel
theorem d_Quotient_span_123 : decode b_Quotient_span 123 = .ok (.aload_n 0, 1) := by decide +kernel
theorem d_Quotient_span_124 : decode b_Quotient_span 124 = .ok (.iload_n 1, 1) := by decide +kernel
theorem d_Quotient_span_125 : decode b_Quotient_span 125 = .ok (.iload 7, 2) := by decide +kernel
theorem d_Quotient_span_127 : decode b_Quotient_span 127 = .ok (.iload 8, 2) := by decide +kernel
theorem d_Quotient_span_129 : decode b_Quotient_span 129 = .ok (.iload 9, 2) := by decide +kernel
theorem d_Quotient_span_131 : decode b_Quotient_span 131 = .ok (.iload 10, 2) := by decide +kernel
theorem d_Quotient_span_133 : decode b_Quotient_span 133 = .ok (.invokestatic 22, 3) := by decide +kernel
theorem d_Quotient_span_136 : decode b_Quotient_span 136 = .ok (.iload 9, 2) := by decide +kernel
theorem d_Quotient_span_138 : decode b_Quotient_span 138 = .ok (.iload 10, 2) := by decide +kernel
theorem d_Quotient_span_140 : decode b_Quotient_span 140 = .ok (.invokestatic 19, 3) := by decide +kernel
theorem d_Quotient_span_143 : decode b_Quotient_span 143 = .ok (.invokevirtual 13, 3) := by decide +kernel
theorem d_Quotient_span_146 : decode b_Quotient_span 146 = .ok (.return_, 1) := by decide +kernel
set_option maxHeartbeats 4000000 in
set_option maxRecDepth 20000 in
theorem k_Quotient_span (l : Launch) (D : va_G) (cA : Nat → ClassId) (adr : Nat → Nat) (N : List Nat) (hi : wI N adr) (cn : Nat → va_E) (t : Nat) (xa xb xc : Int32) (e0 : Nat → Int32) (gd : Bool) (hT : TP cn t 9 xa xb xc e0 gd) (hN : t ∈ N) (x fb tb fc tc : Int32) (tw : Bool) (hrx : -100 ≤ x.toInt ∧ x.toInt ≤ 100) (hrb : -100 ≤ fb.toInt ∧ fb.toInt ≤ tb.toInt ∧ tb.toInt ≤ 100) (hrc : -100 ≤ fc.toInt ∧ fc.toInt ≤ tc.toInt ∧ tc.toInt ≤ 100) (htw : tw = true → fb.toInt = fc.toInt ∧ tb.toInt = tc.toInt) : Ct l y_Quotient_span b_Quotient_span 11 none 4 D cA [.ref (adr t), .int x, .int fb, .int tb, .int fc, .int tc, .int (bi tw)] (fun H => va_P D classes (wl N adr cn) H) (fun r H => ∃ (cn2 : Nat → va_E) (e2 : Nat → Int32), r = none ∧ FrT t cn cn2 ∧ TP cn2 t 9 xa xb xc e2 gd ∧ (∀ S : Int → Int → Int → Prop, EE S e0 → EE (fun a y z => S a y z ∨ (a = x.toInt ∧ SpT RQ x.toInt fb.toInt tb.toInt fc.toInt tc.toInt tw y z)) e2) ∧ va_P D classes (wl N adr cn2) H) (wA N adr) := by
  refine Ct.mk (by decide) (Nat.le_of_ble_eq_true rfl) ?_
  intro p e s m args below meth c Q H locs ls hx hb hr hml hlk hown hin hK hQ hS hP hl
  have hl : lv_has ls 11 [(0, .ref (adr t)), (1, .int x), (2, .int fb), (3, .int tb), (4, .int fc), (5, .int tc), (6, .int (bi tw))] := hl
  have hown : s.vm.findClass "RangeSheet$Quotient" = some m.cls := hown
  refine lv_iload_n hx hb d_Quotient_span_0 rfl (lv_at hl 1 rfl) ?_
  refine b_if_ne (tgt := 5) hx hb d_Quotient_span_1 (by decide) rfl (fun c_1 => ?_) (fun c_1 => ?_)
  · refine lv_iload hx hb d_Quotient_span_5 (lv_at hl 6 rfl) ?_
    refine b_bool_eq (tgt := 50) hx hb d_Quotient_span_7 (by decide) (fun c_2 => ?_) (fun c_2 => ?_)
    · have hm1 := mul_bd (x := fc.toInt) (y := x.toInt) (by omega) (by omega)
      have hm2 := mul_bd (x := tc.toInt + 1) (y := x.toInt) (by omega) (by omega)
      have hm3 := mul_b2 (x := fc.toInt) (y := x.toInt) (by omega) (by omega)
      have hm4 := mul_b2 (x := tc.toInt + 1) (y := x.toInt) (by omega) (by omega)
      refine lv_iload_n hx hb d_Quotient_span_50 rfl (lv_at hl 2 rfl) ?_
      refine lv_iload_n hx hb d_Quotient_span_51 rfl (lv_at hl 1 rfl) ?_
      have K_203 : ∀ (z_203_0 : Int32), z_203_0.toInt = (if x.toInt ≤ 0 then (((tc.toInt + 1) * x.toInt) + 1) else (fc.toInt * x.toInt)) → W p l e (rl 4) s m args below meth c H locs 0 0 Q (F0 m 70 ls [.int z_203_0, .int fb]) := by
        intro z_203_0 hz_203_0
        have hb_z_203_0 : -20000 ≤ z_203_0.toInt ∧ z_203_0.toInt ≤ 20000 := by rw [hz_203_0]; split <;> omega
        refine x_max hx hb hml hown hK hl.1 t_272 (Nat.le_of_ble_eq_true rfl) (Nat.le_of_ble_eq_true rfl) ⟨Nat.le_of_ble_eq_true rfl, Nat.le_of_ble_eq_true rfl⟩ (Nat.le_of_ble_eq_true rfl) rfl rfl  d_Quotient_span_70 (fun z_204 tz_204 => ?_)
        refine lv_istore (lv' := [(7, .int z_204), (0, .ref (adr t)), (1, .int x), (2, .int fb), (3, .int tb), (4, .int fc), (5, .int tc), (6, .int (bi tw))]) hx hb d_Quotient_span_73 hl (by decide) rfl (fun ls hl => ?_)
        refine lv_iload_n hx hb d_Quotient_span_75 rfl (lv_at hl 4 rfl) ?_
        refine lv_iload_n hx hb d_Quotient_span_76 rfl (lv_at hl 2 rfl) ?_
        have K_405 : ∀ (z_405_0 : Int32), z_405_0.toInt = (if x.toInt ≤ 0 then (fc.toInt * x.toInt) else (((tc.toInt + 1) * x.toInt) - 1)) → W p l e (rl 4) s m args below meth c H locs 0 0 Q (F0 m 95 ls [.int z_405_0, .int tb]) := by
          intro z_405_0 hz_405_0
          have hb_z_405_0 : -20000 ≤ z_405_0.toInt ∧ z_405_0.toInt ≤ 20000 := by rw [hz_405_0]; split <;> omega
          refine x_min hx hb hml hown hK hl.1 t_273 (Nat.le_of_ble_eq_true rfl) (Nat.le_of_ble_eq_true rfl) ⟨Nat.le_of_ble_eq_true rfl, Nat.le_of_ble_eq_true rfl⟩ (Nat.le_of_ble_eq_true rfl) rfl rfl  d_Quotient_span_95 (fun z_406 tz_406 => ?_)
          refine lv_istore (lv' := [(8, .int z_406), (7, .int z_204), (0, .ref (adr t)), (1, .int x), (2, .int fb), (3, .int tb), (4, .int fc), (5, .int tc), (6, .int (bi tw))]) hx hb d_Quotient_span_98 hl (by decide) rfl (fun ls hl => ?_)
          refine lv_iload hx hb d_Quotient_span_100 (lv_at hl 1 rfl) ?_
          refine lv_iload_n hx hb d_Quotient_span_102 rfl (lv_at hl 3 rfl) ?_
          refine x_fdiv hx hb hml hown hK hl.1 t_268 (Nat.le_of_ble_eq_true rfl) (Nat.le_of_ble_eq_true rfl) ⟨Nat.le_of_ble_eq_true rfl, Nat.le_of_ble_eq_true rfl⟩ (Nat.le_of_ble_eq_true rfl) tz_204 rfl (by omega) (by omega) d_Quotient_span_103 (fun z_407 tz_407 => ?_)
          refine lv_istore (lv' := [(9, .int z_407), (8, .int z_406), (7, .int z_204), (0, .ref (adr t)), (1, .int x), (2, .int fb), (3, .int tb), (4, .int fc), (5, .int tc), (6, .int (bi tw))]) hx hb d_Quotient_span_106 hl (by decide) rfl (fun ls hl => ?_)
          refine lv_iload hx hb d_Quotient_span_108 (lv_at hl 1 rfl) ?_
          refine lv_iload_n hx hb d_Quotient_span_110 rfl (lv_at hl 4 rfl) ?_
          refine x_fdiv hx hb hml hown hK hl.1 t_268 (Nat.le_of_ble_eq_true rfl) (Nat.le_of_ble_eq_true rfl) ⟨Nat.le_of_ble_eq_true rfl, Nat.le_of_ble_eq_true rfl⟩ (Nat.le_of_ble_eq_true rfl) tz_406 rfl (by omega) (by omega) d_Quotient_span_111 (fun z_408 tz_408 => ?_)
          refine lv_istore (lv' := [(10, .int z_408), (9, .int z_407), (8, .int z_406), (7, .int z_204), (0, .ref (adr t)), (1, .int x), (2, .int fb), (3, .int tb), (4, .int fc), (5, .int tc), (6, .int (bi tw))]) hx hb d_Quotient_span_114 hl (by decide) rfl (fun ls hl => ?_)
          refine lv_iload hx hb d_Quotient_span_116 (lv_at hl 3 rfl) ?_
          refine lv_iload hx hb d_Quotient_span_118 (lv_at hl 2 rfl) ?_
          refine b_icmp_gt (tgt := 146) hx hb d_Quotient_span_120 (by decide) tz_204 tz_406 (fun c_409 => ?_) (fun c_409 => ?_)
          · refine e_v hx hb hr hlk hQ hS d_Quotient_span_146 ?_
            refine ⟨cn, e0, rfl, FrT.rf, hT, fun S hE => ?_, hP⟩
            rw [c_2]
            by_cases hx0 : x.toInt ≤ 0
            · rw [if_pos hx0] at hz_203_0
              rw [if_pos hx0] at hz_405_0
              have hR := r_quoM (x := x.toInt) (fb := fb.toInt) (tb := tb.toInt) (fc := fc.toInt) (tc := tc.toInt) (by omega) (f := (max fb.toInt z_203_0.toInt)) (t := (min tb.toInt z_405_0.toInt)) (by rw [hz_203_0]) (by rw [hz_405_0])
              exact hE.no (fun y z h => by have := hR.1 y z h; omega)
            · rw [if_neg hx0] at hz_203_0
              rw [if_neg hx0] at hz_405_0
              have hR := r_quoP (x := x.toInt) (fb := fb.toInt) (tb := tb.toInt) (fc := fc.toInt) (tc := tc.toInt) (by omega) (f := (max fb.toInt z_203_0.toInt)) (t := (min tb.toInt z_405_0.toInt)) (by rw [hz_203_0]) (by rw [hz_405_0])
              exact hE.no (fun y z h => by have := hR.1 y z h; omega)
          · refine lv_aload_n hx hb d_Quotient_span_123 rfl (lv_at hl 4 rfl) ?_
            refine lv_iload_n hx hb d_Quotient_span_124 rfl (lv_at hl 5 rfl) ?_
            refine lv_iload hx hb d_Quotient_span_125 (lv_at hl 3 rfl) ?_
            refine lv_iload hx hb d_Quotient_span_127 (lv_at hl 2 rfl) ?_
            refine lv_iload hx hb d_Quotient_span_129 (lv_at hl 1 rfl) ?_
            refine lv_iload hx hb d_Quotient_span_131 (lv_at hl 0 rfl) ?_
            refine x_min hx hb hml hown hK hl.1 t_273 (Nat.le_of_ble_eq_true rfl) (Nat.le_of_ble_eq_true rfl) ⟨Nat.le_of_ble_eq_true rfl, Nat.le_of_ble_eq_true rfl⟩ (Nat.le_of_ble_eq_true rfl) tz_407 tz_408  d_Quotient_span_133 (fun z_410 tz_410 => ?_)
            refine lv_iload hx hb d_Quotient_span_136 (lv_at hl 1 rfl) ?_
            refine lv_iload hx hb d_Quotient_span_138 (lv_at hl 0 rfl) ?_
            refine x_max hx hb hml hown hK hl.1 t_272 (Nat.le_of_ble_eq_true rfl) (Nat.le_of_ble_eq_true rfl) ⟨Nat.le_of_ble_eq_true rfl, Nat.le_of_ble_eq_true rfl⟩ (Nat.le_of_ble_eq_true rfl) tz_407 tz_408  d_Quotient_span_140 (fun z_411 tz_411 => ?_)
            refine x_A (As := [.int x, .int z_204, .int z_406, .int z_410, .int z_411]) (rest := []) hx hb hml hown hK (k_add_Quotient l D cA adr N hi cn t xa xb xc e0 gd hT hN x z_204 z_406 z_410 z_411) t_230 t_11 t_269 t_270 t_227 t_271 t_229 yk_Three_add ⟨Nat.le_of_ble_eq_true rfl, Nat.le_of_ble_eq_true rfl⟩ (w_rec hK hP hN hT rfl) hP rfl hl.1 rfl (Nat.le_of_ble_eq_true rfl) d_Quotient_span_143 ⟨Nat.le_of_ble_eq_true rfl, Nat.le_of_ble_eq_true rfl⟩ hS (fun q h => h) (fun r H locs hq _ hS => ?_)
            obtain ⟨cn_412, e_412, rfl, hFt_412, hT_412, hA_412, hP⟩ := hq
            have hA_412 : AddR e0 e_412 x.toInt (max fb.toInt z_203_0.toInt) (min tb.toInt z_405_0.toInt) (min (fl (max fb.toInt z_203_0.toInt) x.toInt) (fl (min tb.toInt z_405_0.toInt) x.toInt)) (max (fl (max fb.toInt z_203_0.toInt) x.toInt) (fl (min tb.toInt z_405_0.toInt) x.toInt)) := by have q := hA_412; rw [tz_204, tz_406, tz_410, tz_411] at q; exact q
            have hfr_412 : FrT t cn cn_412 := hFt_412
            refine W.eq (g2 := F0 m 146 ls []) rfl ?_
            refine e_v hx hb hr hlk hQ hS d_Quotient_span_146 ?_
            refine ⟨cn_412, e_412, rfl, hfr_412, hT_412, fun S hE => ?_, hP⟩
            rw [c_2]
            by_cases hx0 : x.toInt ≤ 0
            · rw [if_pos hx0] at hz_203_0
              rw [if_pos hx0] at hz_405_0
              have hR := r_quoM (x := x.toInt) (fb := fb.toInt) (tb := tb.toInt) (fc := fc.toInt) (tc := tc.toInt) (by omega) (f := (max fb.toInt z_203_0.toInt)) (t := (min tb.toInt z_405_0.toInt)) (by rw [hz_203_0]) (by rw [hz_405_0])
              exact hA_412.rc (U := SpT RQ x.toInt fb.toInt tb.toInt fc.toInt tc.toInt false) hE (by omega) (SpT.rg (by omega)) hR
            · rw [if_neg hx0] at hz_203_0
              rw [if_neg hx0] at hz_405_0
              have hR := r_quoP (x := x.toInt) (fb := fb.toInt) (tb := tb.toInt) (fc := fc.toInt) (tc := tc.toInt) (by omega) (f := (max fb.toInt z_203_0.toInt)) (t := (min tb.toInt z_405_0.toInt)) (by rw [hz_203_0]) (by rw [hz_405_0])
              exact hA_412.rc (U := SpT RQ x.toInt fb.toInt tb.toInt fc.toInt tc.toInt false) hE (by omega) (SpT.rg (by omega)) hR
        refine b_if_le (tgt := 91) hx hb d_Quotient_span_77 (by decide) rfl (fun c_413 => ?_) (fun c_413 => ?_)
        · refine lv_iload hx hb d_Quotient_span_91 (lv_at hl 5 rfl) ?_
          refine lv_iload_n hx hb d_Quotient_span_93 rfl (lv_at hl 2 rfl) ?_
          refine x_mul hx hb d_Quotient_span_94 rfl rfl (by omega) (fun z_414 tz_414 => ?_)
          exact K_405 z_414 (by omega)
        · refine lv_iload hx hb d_Quotient_span_80 (lv_at hl 6 rfl) ?_
          refine lv_iconst (v := 1) hx hb d_Quotient_span_82 (by decide) ?_
          refine x_add hx hb d_Quotient_span_83 rfl kc_1 (by omega) (fun z_415 tz_415 => ?_)
          refine lv_iload_n hx hb d_Quotient_span_84 rfl (lv_at hl 2 rfl) ?_
          refine x_mul hx hb d_Quotient_span_85 tz_415 rfl (by omega) (fun z_416 tz_416 => ?_)
          refine lv_iconst (v := 1) hx hb d_Quotient_span_86 (by decide) ?_
          refine x_sub hx hb d_Quotient_span_87 tz_416 kc_1 (by omega) (fun z_417 tz_417 => ?_)
          refine lv_goto (tgt := 95) hx hb d_Quotient_span_88 (by decide) ?_
          exact K_405 z_417 (by omega)
      refine b_if_le (tgt := 62) hx hb d_Quotient_span_52 (by decide) rfl (fun c_418 => ?_) (fun c_418 => ?_)
      · refine lv_iload hx hb d_Quotient_span_62 (lv_at hl 5 rfl) ?_
        refine lv_iconst (v := 1) hx hb d_Quotient_span_64 (by decide) ?_
        refine x_add hx hb d_Quotient_span_65 rfl kc_1 (by omega) (fun z_419 tz_419 => ?_)
        refine lv_iload_n hx hb d_Quotient_span_66 rfl (lv_at hl 1 rfl) ?_
        refine x_mul hx hb d_Quotient_span_67 tz_419 rfl (by omega) (fun z_420 tz_420 => ?_)
        refine lv_iconst (v := 1) hx hb d_Quotient_span_68 (by decide) ?_
        refine x_add hx hb d_Quotient_span_69 tz_420 kc_1 (by omega) (fun z_421 tz_421 => ?_)
        exact K_203 z_421 (by omega)
      · refine lv_iload hx hb d_Quotient_span_55 (lv_at hl 4 rfl) ?_
        refine lv_iload_n hx hb d_Quotient_span_57 rfl (lv_at hl 1 rfl) ?_
        refine x_mul hx hb d_Quotient_span_58 rfl rfl (by omega) (fun z_422 tz_422 => ?_)
        refine lv_goto (tgt := 70) hx hb d_Quotient_span_59 (by decide) ?_
        exact K_203 z_422 (by omega)
    · have htwc := c_2
      refine lv_iload_n hx hb d_Quotient_span_10 rfl (lv_at hl 2 rfl) ?_
      refine lv_istore (lv' := [(7, .int fb), (0, .ref (adr t)), (1, .int x), (2, .int fb), (3, .int tb), (4, .int fc), (5, .int tc), (6, .int (bi tw))]) hx hb d_Quotient_span_11 hl (by decide) rfl (fun ls hl => ?_)
      have L_423 : ∀ (n : Nat) (x7 : Int32) (cn1 : Nat → va_E) (e1 : Nat → Int32) (H : Heap) (locs : List Loc) (ls : Array Slot), (tb.toInt + 1 - x7.toInt).toNat < n → (fb.toInt ≤ x7.toInt ∧ x7.toInt ≤ tb.toInt + 1) → (FrT t cn cn1) → (TP cn1 t 9 xa xb xc e1 gd) → (∀ S : Int → Int → Int → Prop, EE S e0 → EE (fun a y z => S a y z ∨ (a = x.toInt ∧ ((fun y z => SpT RQ x.toInt fb.toInt tb.toInt fc.toInt tc.toInt true y z ∧ y < x7.toInt)) y z)) e1) → va_P D classes (wl N adr cn1) H → va_S (wA N adr) s.heap H locs → lv_has ls 11 [(0, .ref (adr t)), (1, .int x), (2, .int fb), (3, .int tb), (4, .int fc), (5, .int tc), (6, .int (bi tw)), (7, .int x7)] → W p l e (rl 4) s m args below meth c H locs 0 0 Q (F0 m 13 ls []) := by
        intro n
        induction n with
        | zero => intro x7 cn1 e1 H locs ls hmu; exact absurd hmu (Nat.not_lt_zero _)
        | succ n ih_423 =>
          intro x7 cn1 e1 H locs ls hmu h7 hF1 hT1 hI hP hS hl
          have htw8 := htw htwc
          refine lv_iload hx hb d_Quotient_span_13 (lv_at hl 7 rfl) ?_
          refine lv_iload_n hx hb d_Quotient_span_15 rfl (lv_at hl 3 rfl) ?_
          refine b_icmp_gt (tgt := 49) hx hb d_Quotient_span_16 (by decide) rfl rfl (fun c_424 => ?_) (fun c_424 => ?_)
          · refine e_v hx hb hr hlk hQ hS d_Quotient_span_49 ?_
            refine ⟨cn1, e1, rfl, hF1, hT1, fun S hE => ?_, hP⟩
            rw [htwc]
            exact (hI S hE).congr (fun a y z => ⟨fun h => h.elim Or.inl (fun h => Or.inr ⟨h.1, h.2.1⟩), fun h => h.elim Or.inl (fun h => Or.inr ⟨h.1, h.2, by have := h.2.1; omega⟩)⟩)
          · refine lv_iload hx hb d_Quotient_span_19 (lv_at hl 7 rfl) ?_
            refine lv_iload_n hx hb d_Quotient_span_21 rfl (lv_at hl 1 rfl) ?_
            refine x_fdiv hx hb hml hown hK hl.1 t_268 (Nat.le_of_ble_eq_true rfl) (Nat.le_of_ble_eq_true rfl) ⟨Nat.le_of_ble_eq_true rfl, Nat.le_of_ble_eq_true rfl⟩ (Nat.le_of_ble_eq_true rfl) rfl rfl (by omega) (by omega) d_Quotient_span_22 (fun z_425 tz_425 => ?_)
            refine lv_iload hx hb d_Quotient_span_25 (lv_at hl 7 rfl) ?_
            refine b_icmp_ne (tgt := 43) hx hb d_Quotient_span_27 (by decide) tz_425 rfl (fun c_426 => ?_) (fun c_426 => ?_)
            · refine x_iinc (k := 7) (lv' := fun v_ => [(7, .int v_), (0, .ref (adr t)), (1, .int x), (2, .int fb), (3, .int tb), (4, .int fc), (5, .int tc), (6, .int (bi tw))]) hx hb d_Quotient_span_43 hl rfl rfl (by decide) (by omega) (by decide) (fun v_ => rfl) (fun z_427 tz_427 ls hl => ?_)
              refine lv_goto (tgt := 13) hx hb d_Quotient_span_46 (by decide) ?_
              have hI9 : ∀ S : Int → Int → Int → Prop, EE S e0 → EE (fun a y z => S a y z ∨ (a = x.toInt ∧ ((fun y z => SpT RQ x.toInt fb.toInt tb.toInt fc.toInt tc.toInt true y z ∧ y < (x7.toInt + 1))) y z)) e1 := fun S hE => (hI S hE).congr (fun a y z => ⟨fun h => h.elim Or.inl (fun h => Or.inr ⟨h.1, h.2.1, by have := h.2.2; omega⟩), fun h => h.elim Or.inl (fun h => Or.inr ⟨h.1, h.2.1, by have b := h.2.2; rcases (by omega : y < x7.toInt ∨ y = x7.toInt) with q | q; exact q; (exfalso; have c := h.2.1.2.2.1 rfl; have d := h.2.1.2.2.2.2; rw [← c, q] at d; exact c_426 d)⟩)⟩)
              rw [← tz_427] at hI9
              exact ih_423 z_427 cn1 e1 _ _ _ (by omega) (by omega) hF1 hT1 hI9 hP hS (lv_sub hl [1, 2, 3, 4, 5, 6, 7, 0] rfl)
            · refine lv_aload_n hx hb d_Quotient_span_30 rfl (lv_at hl 0 rfl) ?_
              refine lv_iload_n hx hb d_Quotient_span_31 rfl (lv_at hl 1 rfl) ?_
              refine lv_iload hx hb d_Quotient_span_32 (lv_at hl 7 rfl) ?_
              refine lv_iload hx hb d_Quotient_span_34 (lv_at hl 7 rfl) ?_
              refine lv_iload hx hb d_Quotient_span_36 (lv_at hl 7 rfl) ?_
              refine lv_iload hx hb d_Quotient_span_38 (lv_at hl 7 rfl) ?_
              refine x_A (As := [.int x, .int x7, .int x7, .int x7, .int x7]) (rest := []) hx hb hml hown hK (k_add_Quotient l D cA adr N hi cn1 t xa xb xc e1 gd hT1 hN x x7 x7 x7 x7) t_230 t_11 t_269 t_270 t_227 t_271 t_229 yk_Three_add ⟨Nat.le_of_ble_eq_true rfl, Nat.le_of_ble_eq_true rfl⟩ (w_rec hK hP hN hT1 rfl) hP rfl hl.1 rfl (Nat.le_of_ble_eq_true rfl) d_Quotient_span_40 ⟨Nat.le_of_ble_eq_true rfl, Nat.le_of_ble_eq_true rfl⟩ hS (fun q h => h) (fun r H locs hq _ hS => ?_)
              obtain ⟨cn_428, e_428, rfl, hFt_428, hT_428, hA_428, hP⟩ := hq
              have hfr_428 : FrT t cn cn_428 := hF1.tr hFt_428
              refine W.eq (g2 := F0 m 43 ls []) rfl ?_
              refine x_iinc (k := 7) (lv' := fun v_ => [(7, .int v_), (0, .ref (adr t)), (1, .int x), (2, .int fb), (3, .int tb), (4, .int fc), (5, .int tc), (6, .int (bi tw))]) hx hb d_Quotient_span_43 hl rfl rfl (by decide) (by omega) (by decide) (fun v_ => rfl) (fun z_429 tz_429 ls hl => ?_)
              refine lv_goto (tgt := 13) hx hb d_Quotient_span_46 (by decide) ?_
              have hI9 : ∀ S : Int → Int → Int → Prop, EE S e0 → EE (fun a y z => S a y z ∨ (a = x.toInt ∧ ((fun y z => SpT RQ x.toInt fb.toInt tb.toInt fc.toInt tc.toInt true y z ∧ y < (x7.toInt + 1))) y z)) e_428 := fun S hE => (hA_428.rc (U := fun y z => y = x7.toInt ∧ z = x7.toInt) (hI S hE) (by omega) (fun y z h => by omega) ⟨fun y z h => by omega, fun _ _ => ⟨⟨_, rfl, rfl⟩, ⟨_, rfl, rfl⟩, ⟨_, rfl, rfl⟩, ⟨_, rfl, rfl⟩⟩⟩).congr (fun a y z => ⟨fun h => h.elim (fun h => h.elim Or.inl (fun h => Or.inr ⟨h.1, h.2.1, by have := h.2.2; omega⟩)) (fun h => Or.inr ⟨h.1, ⟨by omega, by omega, fun _ => by omega, by omega, by rw [h.2.1, h.2.2]; exact c_426⟩, by omega⟩), fun h => h.elim (fun h => Or.inl (Or.inl h)) (fun h => by rcases (by have := h.2.2; omega : y < x7.toInt ∨ y = x7.toInt) with q | q; exact Or.inl (Or.inr ⟨h.1, h.2.1, q⟩); exact Or.inr ⟨h.1, q, by have := h.2.1.2.2.1 rfl; omega⟩)⟩)
              rw [← tz_429] at hI9
              exact ih_423 z_429 cn_428 e_428 _ _ _ (by omega) (by omega) hfr_428 hT_428 hI9 hP hS (lv_sub hl [1, 2, 3, 4, 5, 6, 7, 0] rfl)
      have htw9 := htw c_2
      exact L_423 (_ + 1) fb cn e0 _ _ _ (Nat.lt_succ_self _) (by omega) FrT.rf hT (fun S hE => hE.no (fun y z h => by have a := h.1.1; have b := h.2; omega)) hP hS (lv_sub hl [1, 2, 3, 4, 5, 6, 7, 0] rfl)
  · refine e_v hx hb hr hlk hQ hS d_Quotient_span_4 ?_
    refine ⟨cn, e0, rfl, FrT.rf, hT, fun S hE => ?_, hP⟩
    exact hE.no (r_quo0 c_1)
