/-! boxes: n cells, each from a low to a high; what it is to narrow one by a relation -/
def Sb (n : Nat) (bl bh xl xh : Nat → Int) : Prop := ∀ k, k < n → xl k ≤ bl k ∧ bh k ≤ xh k
def Ne (n : Nat) (bl bh : Nat → Int) : Prop := ∀ k, k < n → bl k ≤ bh k
def Eqb (n : Nat) (yl yh xl xh : Nat → Int) : Prop := ∀ k, k < n → yl k = xl k ∧ yh k = xh k
/-- X is below X0 and has no empty cell; every fixed box below X0 is below X; c tells whether something changed -/
def PN (n : Nat) (Fx : (Nat → Int) → (Nat → Int) → Prop) (x0l x0h xl xh : Nat → Int) (c0 c : Bool) : Prop :=
  Sb n xl xh x0l x0h ∧ Ne n xl xh ∧ (∀ bl bh, Sb n bl bh x0l x0h → Ne n bl bh → Fx bl bh → Sb n bl bh xl xh) ∧ (c = true ↔ c0 = true ∨ ¬ Eqb n xl xh x0l x0h)
def No (n : Nat) (Fx : (Nat → Int) → (Nat → Int) → Prop) (xl xh : Nat → Int) : Prop := ∀ bl bh, Sb n bl bh xl xh → Ne n bl bh → ¬ Fx bl bh
/-- a narrowing of X by what fixes Fx: true and Y, or false -/
def NOK (n : Nat) (Fx : (Nat → Int) → (Nat → Int) → Prop) (xl xh : Nat → Int) (r : Bool) (yl yh : Nat → Int) (c c' : Bool) : Prop :=
  (r = true → PN n Fx xl xh yl yh c c' ∧ (Eqb n yl yh xl xh → Fx xl xh)) ∧ (r = false → No n Fx xl xh)
theorem Sb.rf {n : Nat} {xl xh : Nat → Int} : Sb n xl xh xl xh := fun _ _ => ⟨Int.le_refl _, Int.le_refl _⟩
theorem Sb.tr {n : Nat} {al ah bl bh cl ch : Nat → Int} (h1 : Sb n al ah bl bh) (h2 : Sb n bl bh cl ch) : Sb n al ah cl ch := fun k hk => ⟨Int.le_trans (h2 k hk).1 (h1 k hk).1, Int.le_trans (h1 k hk).2 (h2 k hk).2⟩
theorem PN.rf {n : Nat} {Fx : (Nat → Int) → (Nat → Int) → Prop} {xl xh : Nat → Int} {c : Bool} (h : Ne n xl xh) : PN n Fx xl xh xl xh c c :=
  ⟨Sb.rf, h, fun _ _ h _ _ => h, by simp [Eqb]⟩
/-- one cell is cut -/
def Cutb (n : Nat) (xl xh : Nat → Int) (k : Nat) (f t : Int) (yl yh : Nat → Int) : Prop := (∀ j, j < n → yl j = if j = k then max (xl k) f else xl j) ∧ (∀ j, j < n → yh j = if j = k then min (xh k) t else xh j)
theorem Cutb.sb {n : Nat} {xl xh yl yh : Nat → Int} {k : Nat} {f t : Int} (h : Cutb n xl xh k f t yl yh) : Sb n yl yh xl xh := by
  intro j hj
  rw [h.1 j hj, h.2 j hj]
  by_cases e : j = k
  · subst e; simp only [if_true]; omega
  · simp only [if_neg e]; omega
theorem Cutb.eq {n : Nat} {xl xh yl yh : Nat → Int} {k : Nat} {f t : Int} (h : Cutb n xl xh k f t yl yh) (hk : k < n) : Eqb n yl yh xl xh ↔ f ≤ xl k ∧ xh k ≤ t := by
  constructor
  · intro he
    have h1 := he k hk
    rw [h.1 k hk, h.2 k hk] at h1
    simp only [if_true] at h1
    omega
  · intro he j hj
    rw [h.1 j hj, h.2 j hj]
    by_cases e : j = k
    · subst e; simp only [if_true]; omega
    · simp only [if_neg e]; exact ⟨trivial, trivial⟩
theorem PN.cut {n : Nat} {Fx : (Nat → Int) → (Nat → Int) → Prop} {x0l x0h xl xh yl yh : Nat → Int} {c0 c c' : Bool} {k : Nat} {f t : Int} (h : PN n Fx x0l x0h xl xh c0 c) (hk : k < n) (hcut : Cutb n xl xh k f t yl yh)
    (hc : c' = (c || decide (xl k < f ∨ t < xh k))) (just : ∀ bl bh, Sb n bl bh xl xh → Ne n bl bh → Fx bl bh → f ≤ bl k ∧ bh k ≤ t) :
    (yl k ≤ yh k → PN n Fx x0l x0h yl yh c0 c') ∧ (¬ yl k ≤ yh k → No n Fx x0l x0h) := by
  obtain ⟨h1, h2, h3, h4⟩ := h
  have low : ∀ bl bh, Sb n bl bh x0l x0h → Ne n bl bh → Fx bl bh → Sb n bl bh yl yh := by
    intro bl bh hb hn hf j hj
    have hx := h3 bl bh hb hn hf
    have hj2 := hx j hj
    have hju := just bl bh hx hn hf
    rw [hcut.1 j hj, hcut.2 j hj]
    by_cases e : j = k
    · subst e; simp only [if_true]; omega
    · simp only [if_neg e]; exact hj2
  refine ⟨fun hne => ⟨hcut.sb.tr h1, ?_, low, ?_⟩, fun hne bl bh hb hn hf => ?_⟩
  · intro j hj
    by_cases e : j = k
    · subst e; exact hne
    · have := h2 j hj
      rw [hcut.1 j hj, hcut.2 j hj]
      simp only [if_neg e]; exact this
  · rw [hc, Bool.or_eq_true, h4, decide_eq_true_eq, or_assoc]
    have heq : ¬ Eqb n yl yh x0l x0h ↔ (¬ Eqb n xl xh x0l x0h ∨ (xl k < f ∨ t < xh k)) := by
      constructor
      · intro hno
        by_cases e1 : Eqb n xl xh x0l x0h
        · right
          apply Classical.byContradiction
          intro e2
          exact hno (fun j hj => by
            have a1 := (hcut.eq hk).mpr (by omega) j hj
            have a2 := e1 j hj
            omega)
        · exact Or.inl e1
      · intro hor he
        have e1 : Eqb n xl xh x0l x0h := fun j hj => by
          have a1 := he j hj
          have a2 := hcut.sb j hj
          have a3 := h1 j hj
          omega
        have e2 : Eqb n yl yh xl xh := fun j hj => by
          have a1 := he j hj
          have a2 := e1 j hj
          omega
        have := (hcut.eq hk).mp e2
        rcases hor with h | h
        · exact h e1
        · omega
    rw [heq]
  · have h5 := low bl bh hb hn hf k hk
    have h6 := hn k hk
    omega
/-- the ends of a set of triples, or far apart when it is empty -/
def Ends (S : Int → Int → Int → Prop) (far la ha lb hb lc hc : Int) : Prop :=
  ((∀ x y z, ¬ S x y z) ∧ la = far ∧ lb = far ∧ lc = far ∧ ha = -far ∧ hb = -far ∧ hc = -far) ∨
  ((∃ y z, S la y z) ∧ (∃ y z, S ha y z) ∧ (∃ x z, S x lb z) ∧ (∃ x z, S x hb z) ∧ (∃ x y, S x y lc) ∧ (∃ x y, S x y hc) ∧ ∀ x y z, S x y z → la ≤ x ∧ x ≤ ha ∧ lb ≤ y ∧ y ≤ hb ∧ lc ≤ z ∧ z ≤ hc)
/-- a set with one x, whose y go from fb to tb and whose z go from fc to tc, is added -/
theorem Ends.add {S T : Int → Int → Int → Prop} {far la ha lb hb lc hc x fb tb fc tc : Int} (h : Ends S far la ha lb hb lc hc) (hfar : -far ≤ x ∧ x ≤ far ∧ -far ≤ fb ∧ tb ≤ far ∧ -far ≤ fc ∧ tc ≤ far)
    (hT : ∀ a y z, T a y z → a = x ∧ fb ≤ y ∧ y ≤ tb ∧ fc ≤ z ∧ z ≤ tc) (h1 : fb ≤ tb ∧ fc ≤ tc) (e1 : ∃ z, T x fb z) (e2 : ∃ z, T x tb z) (e3 : ∃ y, T x y fc) (e4 : ∃ y, T x y tc) :
    Ends (fun a y z => S a y z ∨ T a y z) far (min la x) (max ha x) (min lb fb) (max hb tb) (min lc fc) (max hc tc) := by
  obtain ⟨z1, e1⟩ := e1
  obtain ⟨z2, e2⟩ := e2
  obtain ⟨y3, e3⟩ := e3
  obtain ⟨y4, e4⟩ := e4
  right
  rcases h with ⟨hn, u1, u2, u3, u4, u5, u6⟩ | ⟨⟨ya, za, qa⟩, ⟨yb, zb, qb⟩, ⟨xc, zc, qc⟩, ⟨xd, zd, qd⟩, ⟨xe, ye, qe⟩, ⟨xf, yf, qf⟩, hall⟩
  · rw [show min la x = x by omega, show max ha x = x by omega, show min lb fb = fb by omega, show max hb tb = tb by omega, show min lc fc = fc by omega, show max hc tc = tc by omega]
    refine ⟨⟨fb, z1, Or.inr e1⟩, ⟨fb, z1, Or.inr e1⟩, ⟨x, z1, Or.inr e1⟩, ⟨x, z2, Or.inr e2⟩, ⟨x, y3, Or.inr e3⟩, ⟨x, y4, Or.inr e4⟩, fun a y z hs => ?_⟩
    rcases hs with hs | hs
    · exact absurd hs (hn a y z)
    · have := hT a y z hs
      omega
  · refine ⟨?_, ?_, ?_, ?_, ?_, ?_, fun a y z hs => ?_⟩
    · rcases (by omega : min la x = la ∨ min la x = x) with q | q
      · rw [q]; exact ⟨ya, za, Or.inl qa⟩
      · rw [q]; exact ⟨fb, z1, Or.inr e1⟩
    · rcases (by omega : max ha x = ha ∨ max ha x = x) with q | q
      · rw [q]; exact ⟨yb, zb, Or.inl qb⟩
      · rw [q]; exact ⟨fb, z1, Or.inr e1⟩
    · rcases (by omega : min lb fb = lb ∨ min lb fb = fb) with q | q
      · rw [q]; exact ⟨xc, zc, Or.inl qc⟩
      · rw [q]; exact ⟨x, z1, Or.inr e1⟩
    · rcases (by omega : max hb tb = hb ∨ max hb tb = tb) with q | q
      · rw [q]; exact ⟨xd, zd, Or.inl qd⟩
      · rw [q]; exact ⟨x, z2, Or.inr e2⟩
    · rcases (by omega : min lc fc = lc ∨ min lc fc = fc) with q | q
      · rw [q]; exact ⟨xe, ye, Or.inl qe⟩
      · rw [q]; exact ⟨x, y3, Or.inr e3⟩
    · rcases (by omega : max hc tc = hc ∨ max hc tc = tc) with q | q
      · rw [q]; exact ⟨xf, yf, Or.inl qf⟩
      · rw [q]; exact ⟨x, y4, Or.inr e4⟩
    · rcases hs with hs | hs
      · have := hall a y z hs
        omega
      · have := hT a y z hs
        omega
theorem Ends.congr {S T : Int → Int → Int → Prop} {far la ha lb hb lc hc : Int} (h : Ends S far la ha lb hb lc hc) (e : ∀ x y z, S x y z ↔ T x y z) : Ends T far la ha lb hb lc hc := by
  have : S = T := by funext x y z; exact propext (e x y z)
  rw [← this]; exact h
theorem Ends.none {S : Int → Int → Int → Prop} {far : Int} (h : ∀ x y z, ¬ S x y z) : Ends S far far (-far) far (-far) far (-far) := Or.inl ⟨h, rfl, rfl, rfl, rfl, rfl, rfl⟩
/-- the relations of three cells -/
def R3 (k : Nat) (x y z : Int) : Prop := match k with
  | 0 => x + y = z
  | 1 => x * y = z
  | 2 => y ≠ 0 ∧ fl x y = z
  | 3 => min x y = z
  | 4 => max x y = z
  | _ => x < 1 ∨ y ≤ z
def Sol (k a b c : Nat) (bl bh : Nat → Int) (x y z : Int) : Prop := (bl a ≤ x ∧ x ≤ bh a) ∧ (bl b ≤ y ∧ y ≤ bh b) ∧ (bl c ≤ z ∧ z ≤ bh c) ∧ (a = b → x = y) ∧ (a = c → x = z) ∧ (b = c → y = z) ∧ R3 k x y z
/-- each end of each of the three cells is taken in a solution -/
def Hull (k a b c : Nat) (bl bh : Nat → Int) : Prop := (∃ y z, Sol k a b c bl bh (bl a) y z) ∧ (∃ y z, Sol k a b c bl bh (bh a) y z) ∧ (∃ x z, Sol k a b c bl bh x (bl b) z) ∧ (∃ x z, Sol k a b c bl bh x (bh b) z) ∧ (∃ x y, Sol k a b c bl bh x y (bl c)) ∧ (∃ x y, Sol k a b c bl bh x y (bh c))
theorem Sol.mono {k a b c n : Nat} {bl bh xl xh : Nat → Int} {x y z : Int} (h : Sol k a b c bl bh x y z) (hs : Sb n bl bh xl xh) (ha : a < n) (hb : b < n) (hc : c < n) : Sol k a b c xl xh x y z := by
  obtain ⟨h1, h2, h3, h4⟩ := h
  have a1 := hs a ha
  have a2 := hs b hb
  have a3 := hs c hc
  exact ⟨by omega, by omega, by omega, h4⟩
/-- a narrowing by the ends of the solutions: three cuts, each only if the one before left something -/
theorem hull3 {k a b c n : Nat} {far la ha lb hb lc hc : Int} {xl xh yl yh wl wh vl vh : Nat → Int} {c0 c1 c2 c3 : Bool} {r : Bool} (hna : a < n) (hnb : b < n) (hnc : c < n) (hn : Ne n xl xh) (hrg : -far < xl a ∧ xh a < far)
    (hE : Ends (Sol k a b c xl xh) far la ha lb hb lc hc)
    (h1 : Cutb n xl xh a la ha yl yh) (hc1 : c1 = (c0 || decide (xl a < la ∨ ha < xh a)))
    (h2 : yl a ≤ yh a → Cutb n yl yh b lb hb wl wh ∧ c2 = (c1 || decide (yl b < lb ∨ hb < yh b)))
    (h3 : yl a ≤ yh a → wl b ≤ wh b → Cutb n wl wh c lc hc vl vh ∧ c3 = (c2 || decide (wl c < lc ∨ hc < wh c)))
    (hr : r = true ↔ (yl a ≤ yh a ∧ wl b ≤ wh b ∧ vl c ≤ vh c)) :
    NOK n (Hull k a b c) xl xh r vl vh c0 c3 := by
  have jus : ∀ bl bh, Sb n bl bh xl xh → Ne n bl bh → Hull k a b c bl bh → (la ≤ bl a ∧ bh a ≤ ha) ∧ (lb ≤ bl b ∧ bh b ≤ hb) ∧ (lc ≤ bl c ∧ bh c ≤ hc) := by
    intro bl bh hs _ hh
    obtain ⟨⟨y1, z1, s1⟩, ⟨y2, z2, s2⟩, ⟨x3, z3, s3⟩, ⟨x4, z4, s4⟩, ⟨x5, y5, s5⟩, ⟨x6, y6, s6⟩⟩ := hh
    have t1 := s1.mono hs hna hnb hnc
    have t2 := s2.mono hs hna hnb hnc
    have t3 := s3.mono hs hna hnb hnc
    have t4 := s4.mono hs hna hnb hnc
    have t5 := s5.mono hs hna hnb hnc
    have t6 := s6.mono hs hna hnb hnc
    rcases hE with ⟨hno, -⟩ | ⟨-, -, -, -, -, -, hall⟩
    · exact absurd t1 (hno _ _ _)
    · have q1 := hall _ _ _ t1
      have q2 := hall _ _ _ t2
      have q3 := hall _ _ _ t3
      have q4 := hall _ _ _ t4
      have q5 := hall _ _ _ t5
      have q6 := hall _ _ _ t6
      omega
  have P0 : PN n (Hull k a b c) xl xh xl xh c0 c0 := PN.rf hn
  have P1 := P0.cut hna h1 hc1 (fun bl bh hs hn hf => (jus bl bh hs hn hf).1)
  by_cases g1 : yl a ≤ yh a
  · have p1 := P1.1 g1
    obtain ⟨h2, hc2⟩ := h2 g1
    have P2 := p1.cut hnb h2 hc2 (fun bl bh hs hn hf => (jus bl bh (hs.tr h1.sb) hn hf).2.1)
    by_cases g2 : wl b ≤ wh b
    · have p2 := P2.1 g2
      obtain ⟨h3, hc3⟩ := h3 g1 g2
      have P3 := p2.cut hnc h3 hc3 (fun bl bh hs hn hf => (jus bl bh (hs.tr (h2.sb.tr h1.sb)) hn hf).2.2)
      by_cases g3 : vl c ≤ vh c
      · have p3 := P3.1 g3
        refine ⟨fun _ => ⟨p3, fun he => ?_⟩, fun hf => absurd (hr.mpr ⟨g1, g2, g3⟩) (by rw [hf]; decide)⟩
        have e1 : Eqb n yl yh xl xh := fun j hj => by
          have b1 := he j hj
          have b2 := h1.sb j hj
          have b3 := h2.sb j hj
          have b4 := h3.sb j hj
          omega
        have e2 : Eqb n wl wh yl yh := fun j hj => by
          have b1 := he j hj
          have b2 := h1.sb j hj
          have b3 := h2.sb j hj
          have b4 := h3.sb j hj
          omega
        have e3 : Eqb n vl vh wl wh := fun j hj => by
          have b1 := he j hj
          have b2 := h1.sb j hj
          have b3 := h2.sb j hj
          have b4 := h3.sb j hj
          omega
        have f1 := (h1.eq hna).mp e1
        have f2 := (h2.eq hnb).mp e2
        have f3 := (h3.eq hnc).mp e3
        have d2 := e1 b hnb
        have d3 := e1 c hnc
        have d4 := e2 c hnc
        rcases hE with ⟨-, r1, -, -, r2, -, -⟩ | ⟨⟨y1, z1, s1⟩, ⟨y2, z2, s2⟩, ⟨x3, z3, s3⟩, ⟨x4, z4, s4⟩, ⟨x5, y5, s5⟩, ⟨x6, y6, s6⟩, hall⟩
        · have := hn a hna
          omega
        · have i1 := s1.1
          have i2 := s2.1
          have i3 := s3.2.1
          have i4 := s4.2.1
          have i5 := s5.2.2.1
          have i6 := s6.2.2.1
          rw [show la = xl a by omega] at s1
          rw [show ha = xh a by omega] at s2
          rw [show lb = xl b by omega] at s3
          rw [show hb = xh b by omega] at s4
          rw [show lc = xl c by omega] at s5
          rw [show hc = xh c by omega] at s6
          exact ⟨⟨y1, z1, s1⟩, ⟨y2, z2, s2⟩, ⟨x3, z3, s3⟩, ⟨x4, z4, s4⟩, ⟨x5, y5, s5⟩, ⟨x6, y6, s6⟩⟩
      · exact ⟨fun ht => absurd (hr.mp ht).2.2 g3, fun _ => P3.2 g3⟩
    · exact ⟨fun ht => absurd (hr.mp ht).2.1 g2, fun _ => P2.2 g2⟩
  · exact ⟨fun ht => absurd (hr.mp ht).1 g1, fun _ => P1.2 g1⟩
