/-! three cells with any relation -/
def SolG (R : Int → Int → Int → Prop) (a b c : Nat) (bl bh : Nat → Int) (x y z : Int) : Prop := (bl a ≤ x ∧ x ≤ bh a) ∧ (bl b ≤ y ∧ y ≤ bh b) ∧ (bl c ≤ z ∧ z ≤ bh c) ∧ (a = b → x = y) ∧ (a = c → x = z) ∧ (b = c → y = z) ∧ R x y z
def HullG (R : Int → Int → Int → Prop) (a b c : Nat) (bl bh : Nat → Int) : Prop := (∃ y z, SolG R a b c bl bh (bl a) y z) ∧ (∃ y z, SolG R a b c bl bh (bh a) y z) ∧ (∃ x z, SolG R a b c bl bh x (bl b) z) ∧ (∃ x z, SolG R a b c bl bh x (bh b) z) ∧ (∃ x y, SolG R a b c bl bh x y (bl c)) ∧ (∃ x y, SolG R a b c bl bh x y (bh c))
theorem SolG.mono {R : Int → Int → Int → Prop} {a b c n : Nat} {bl bh xl xh : Nat → Int} {x y z : Int} (h : SolG R a b c bl bh x y z) (hs : Sb n bl bh xl xh) (ha : a < n) (hb : b < n) (hc : c < n) : SolG R a b c xl xh x y z := by
  obtain ⟨h1, h2, h3, h4⟩ := h
  have a1 := hs a ha
  have a2 := hs b hb
  have a3 := hs c hc
  exact ⟨by omega, by omega, by omega, h4⟩
theorem hull3G {R : Int → Int → Int → Prop} {a b c n : Nat} {far la ha lb hb lc hc : Int} {xl xh yl yh wl wh vl vh : Nat → Int} {c0 c1 c2 c3 : Bool} {r : Bool} (hna : a < n) (hnb : b < n) (hnc : c < n) (hn : Ne n xl xh) (hrg : -far < xl a ∧ xh a < far)
    (hE : Ends (SolG R a b c xl xh) far la ha lb hb lc hc)
    (h1 : Cutb n xl xh a la ha yl yh) (hc1 : c1 = (c0 || decide (xl a < la ∨ ha < xh a)))
    (h2 : yl a ≤ yh a → Cutb n yl yh b lb hb wl wh ∧ c2 = (c1 || decide (yl b < lb ∨ hb < yh b)))
    (h3 : yl a ≤ yh a → wl b ≤ wh b → Cutb n wl wh c lc hc vl vh ∧ c3 = (c2 || decide (wl c < lc ∨ hc < wh c)))
    (hr : r = true ↔ (yl a ≤ yh a ∧ wl b ≤ wh b ∧ vl c ≤ vh c)) :
    NOK n (HullG R a b c) xl xh r vl vh c0 c3 := by
  have jus : ∀ bl bh, Sb n bl bh xl xh → Ne n bl bh → HullG R a b c bl bh → (la ≤ bl a ∧ bh a ≤ ha) ∧ (lb ≤ bl b ∧ bh b ≤ hb) ∧ (lc ≤ bl c ∧ bh c ≤ hc) := by
    intro bl bh hs _ hh
    obtain ⟨⟨y1, z1, s1⟩, ⟨y2, z2, s2⟩, ⟨x3, z3, s3⟩, ⟨x4, z4, s4⟩, ⟨x5, y5, s5⟩, ⟨x6, y6, s6⟩⟩ := hh
    have t1 := s1.mono hs hna hnb hnc
    have t2 := s2.mono hs hna hnb hnc
    have t3 := s3.mono hs hna hnb hnc
    have t4 := s4.mono hs hna hnb hnc
    have t5 := s5.mono hs hna hnb hnc
    have t6 := s6.mono hs hna hnb hnc
    rcases hE with ⟨hno, -⟩ | ⟨-, -, -, -, -, -, hall⟩
    · exact absurd t1 (hno _ _ _)
    · have q1 := hall _ _ _ t1
      have q2 := hall _ _ _ t2
      have q3 := hall _ _ _ t3
      have q4 := hall _ _ _ t4
      have q5 := hall _ _ _ t5
      have q6 := hall _ _ _ t6
      omega
  have P0 : PN n (HullG R a b c) xl xh xl xh c0 c0 := PN.rf hn
  have P1 := P0.cut hna h1 hc1 (fun bl bh hs hn hf => (jus bl bh hs hn hf).1)
  by_cases g1 : yl a ≤ yh a
  · have p1 := P1.1 g1
    obtain ⟨h2, hc2⟩ := h2 g1
    have P2 := p1.cut hnb h2 hc2 (fun bl bh hs hn hf => (jus bl bh (hs.tr h1.sb) hn hf).2.1)
    by_cases g2 : wl b ≤ wh b
    · have p2 := P2.1 g2
      obtain ⟨h3, hc3⟩ := h3 g1 g2
      have P3 := p2.cut hnc h3 hc3 (fun bl bh hs hn hf => (jus bl bh (hs.tr (h2.sb.tr h1.sb)) hn hf).2.2)
      by_cases g3 : vl c ≤ vh c
      · have p3 := P3.1 g3
        refine ⟨fun _ => ⟨p3, fun he => ?_⟩, fun hf => absurd (hr.mpr ⟨g1, g2, g3⟩) (by rw [hf]; decide)⟩
        have e1 : Eqb n yl yh xl xh := fun j hj => by
          have b1 := he j hj
          have b2 := h1.sb j hj
          have b3 := h2.sb j hj
          have b4 := h3.sb j hj
          omega
        have e2 : Eqb n wl wh yl yh := fun j hj => by
          have b1 := he j hj
          have b2 := h1.sb j hj
          have b3 := h2.sb j hj
          have b4 := h3.sb j hj
          omega
        have e3 : Eqb n vl vh wl wh := fun j hj => by
          have b1 := he j hj
          have b2 := h1.sb j hj
          have b3 := h2.sb j hj
          have b4 := h3.sb j hj
          omega
        have f1 := (h1.eq hna).mp e1
        have f2 := (h2.eq hnb).mp e2
        have f3 := (h3.eq hnc).mp e3
        have d2 := e1 b hnb
        have d3 := e1 c hnc
        have d4 := e2 c hnc
        rcases hE with ⟨-, r1, -, -, r2, -, -⟩ | ⟨⟨y1, z1, s1⟩, ⟨y2, z2, s2⟩, ⟨x3, z3, s3⟩, ⟨x4, z4, s4⟩, ⟨x5, y5, s5⟩, ⟨x6, y6, s6⟩, hall⟩
        · have := hn a hna
          omega
        · have i1 := s1.1
          have i2 := s2.1
          have i3 := s3.2.1
          have i4 := s4.2.1
          have i5 := s5.2.2.1
          have i6 := s6.2.2.1
          rw [show la = xl a by omega] at s1
          rw [show ha = xh a by omega] at s2
          rw [show lb = xl b by omega] at s3
          rw [show hb = xh b by omega] at s4
          rw [show lc = xl c by omega] at s5
          rw [show hc = xh c by omega] at s6
          exact ⟨⟨y1, z1, s1⟩, ⟨y2, z2, s2⟩, ⟨x3, z3, s3⟩, ⟨x4, z4, s4⟩, ⟨x5, y5, s5⟩, ⟨x6, y6, s6⟩⟩
      · exact ⟨fun ht => absurd (hr.mp ht).2.2 g3, fun _ => P3.2 g3⟩
    · exact ⟨fun ht => absurd (hr.mp ht).2.1 g2, fun _ => P2.2 g2⟩
  · exact ⟨fun ht => absurd (hr.mp ht).1 g1, fun _ => P1.2 g1⟩
theorem HullG_k (k a b c : Nat) : HullG (R3 k) a b c = Hull k a b c := rfl
theorem SolG_q {a b c : Nat} {bl bh : Nat → Int} {x y z : Int} : SolG RQ a b c bl bh x y z ↔ SolG (R3 2) b a c bl bh y x z := by
  constructor
  · rintro ⟨h1, h2, h3, h4, h5, h6, h7⟩; exact ⟨h2, h1, h3, fun e => (h4 e.symm).symm, h6, h5, h7⟩
  · rintro ⟨h1, h2, h3, h4, h5, h6, h7⟩; exact ⟨h2, h1, h3, fun e => (h4 e.symm).symm, h6, h5, h7⟩
theorem HullG_q (a b c : Nat) : HullG RQ a b c = Hull 2 b a c := by
  funext bl bh
  apply propext
  rw [← HullG_k]
  unfold HullG
  simp only [SolG_q]
  constructor
  · rintro ⟨⟨y1, z1, h1⟩, ⟨y2, z2, h2⟩, ⟨x3, z3, h3⟩, ⟨x4, z4, h4⟩, ⟨x5, y5, h5⟩, ⟨x6, y6, h6⟩⟩
    exact ⟨⟨x3, z3, h3⟩, ⟨x4, z4, h4⟩, ⟨y1, z1, h1⟩, ⟨y2, z2, h2⟩, ⟨y5, x5, h5⟩, ⟨y6, x6, h6⟩⟩
  · rintro ⟨⟨y1, z1, h1⟩, ⟨y2, z2, h2⟩, ⟨x3, z3, h3⟩, ⟨x4, z4, h4⟩, ⟨x5, y5, h5⟩, ⟨x6, y6, h6⟩⟩
    exact ⟨⟨x3, z3, h3⟩, ⟨x4, z4, h4⟩, ⟨y1, z1, h1⟩, ⟨y2, z2, h2⟩, ⟨y5, x5, h5⟩, ⟨y6, x6, h6⟩⟩
theorem th_sp {R : Int → Int → Int → Prop} {a b c : Nat} {bl bh : Nat → Int} {x fb tb fc tc : Int} {tw : Bool} (hx : bl a ≤ x ∧ x ≤ bh a) (h1 : fb = if ¬ (b : Int) = (a : Int) then bl b else x) (h2 : tb = if ¬ (b : Int) = (a : Int) then bh b else x) (h3 : fc = if ¬ (c : Int) = (a : Int) then bl c else x) (h4 : tc = if ¬ (c : Int) = (a : Int) then bh c else x) (ht : tw = true ↔ ((b : Int) = (c : Int) ∧ ¬ (b : Int) = (a : Int))) (y z : Int) :
    SolG R a b c bl bh x y z ↔ SpT R x fb tb fc tc tw y z := by
  by_cases ab : b = a
  · subst ab
    rw [if_neg (by simp)] at h1 h2
    have ht0 : tw = false := by
      cases hq : tw
      · rfl
      · exact absurd rfl (ht.mp hq).2
    by_cases ac : c = b
    · subst ac
      rw [if_neg (by simp)] at h3 h4
      constructor
      · rintro ⟨q1, q2, q3, q4, q5, q6, q7⟩
        have := q4 rfl
        have := q5 rfl
        exact ⟨by omega, by omega, fun h => (by rw [ht0] at h; cases h), q7⟩
      · rintro ⟨q1, q2, q3, q4⟩
        exact ⟨hx, by omega, by omega, fun _ => by omega, fun _ => by omega, fun _ => by omega, q4⟩
    · rw [if_pos (by omega)] at h3 h4
      constructor
      · rintro ⟨q1, q2, q3, q4, q5, q6, q7⟩
        have := q4 rfl
        exact ⟨by omega, by omega, fun h => (by rw [ht0] at h; cases h), q7⟩
      · rintro ⟨q1, q2, q3, q4⟩
        exact ⟨hx, by omega, by omega, fun _ => by omega, fun h => absurd h.symm ac, fun h => absurd h.symm ac, q4⟩
  · rw [if_pos (by omega)] at h1 h2
    by_cases ac : c = a
    · subst ac
      rw [if_neg (by simp)] at h3 h4
      have ht0 : tw = false := by
        cases hq : tw
        · rfl
        · have := (ht.mp hq); omega
      constructor
      · rintro ⟨q1, q2, q3, q4, q5, q6, q7⟩
        have := q5 rfl
        exact ⟨by omega, by omega, fun h => (by rw [ht0] at h; cases h), q7⟩
      · rintro ⟨q1, q2, q3, q4⟩
        exact ⟨hx, by omega, by omega, fun h => absurd h.symm ab, fun _ => by omega, fun h => absurd h ab, q4⟩
    · rw [if_pos (by omega)] at h3 h4
      constructor
      · rintro ⟨q1, q2, q3, q4, q5, q6, q7⟩
        exact ⟨by omega, by omega, fun h => q6 (by have := (ht.mp h).1; omega), q7⟩
      · rintro ⟨q1, q2, q3, q4⟩
        exact ⟨hx, by omega, by omega, fun h => absurd h.symm ab, fun h => absurd h.symm ac, fun h => q3 (ht.mpr (by omega)), q4⟩
theorem th_step {R : Int → Int → Int → Prop} {a b c : Nat} {bl bh : Nat → Int} {x fb tb fc tc : Int} {tw : Bool} {e : Nat → Int32} (hsp : ∀ y z, SolG R a b c bl bh x y z ↔ SpT R x fb tb fc tc tw y z) (hE : EE (fun a' y z => (SolG R a b c bl bh a' y z ∧ a' < x) ∨ (a' = x ∧ SpT R x fb tb fc tc tw y z)) e) : EE (fun a' y z => SolG R a b c bl bh a' y z ∧ a' < x + 1) e := by
  refine hE.congr (fun a' y z => ⟨fun h => ?_, fun h => ?_⟩)
  · rcases h with h | ⟨rfl, h⟩
    · exact ⟨h.1, by omega⟩
    · exact ⟨(hsp y z).mpr h, by omega⟩
  · rcases (by omega : a' < x ∨ a' = x) with q | q
    · exact Or.inl ⟨h.1, q⟩
    · subst q; exact Or.inr ⟨rfl, (hsp y z).mp h.1⟩
theorem tI_up {f : Nat → Int32} {k : Nat} {v : Int32} : tI (upd f k v) k = v.toInt := by simp [tI, upd]
/-- a relation's object and a box may change -/
def FrTB (t b : Nat) (cn cn' : Nat → va_E) : Prop := ∀ k, k ≠ t → k ≠ b → k ≠ b + 1 → k ≠ b + 2 → cn' k = cn k
theorem FrTB.t {t b : Nat} {cn cn' : Nat → va_E} (h : FrT t cn cn') : FrTB t b cn cn' := fun k a _ _ _ => h k a
theorem FrTB.b {t b : Nat} {cn cn' : Nat → va_E} (h : FrB b cn cn') : FrTB t b cn cn' := fun k _ a1 a2 a3 => h k a1 a2 a3
theorem FrTB.tr {t b : Nat} {cn cn' cn'' : Nat → va_E} (h : FrTB t b cn cn') (g : FrTB t b cn' cn'') : FrTB t b cn cn'' := fun k a a1 a2 a3 => (g k a a1 a2 a3).trans (h k a a1 a2 a3)
theorem d_Three_narrow_0 : decode b_Three_narrow 0 = .ok (.aload_n 0, 1) := by decide +kernel
theorem d_Three_narrow_1 : decode b_Three_narrow 1 = .ok (.sipush 200, 3) := by decide +kernel
theorem d_Three_narrow_4 : decode b_Three_narrow 4 = .ok (.putfield 31, 3) := by decide +kernel
theorem d_Three_narrow_7 : decode b_Three_narrow 7 = .ok (.aload_n 0, 1) := by decide +kernel
theorem d_Three_narrow_8 : decode b_Three_narrow 8 = .ok (.sipush 200, 3) := by decide +kernel
theorem d_Three_narrow_11 : decode b_Three_narrow 11 = .ok (.putfield 40, 3) := by decide +kernel
theorem d_Three_narrow_14 : decode b_Three_narrow 14 = .ok (.aload_n 0, 1) := by decide +kernel
theorem d_Three_narrow_15 : decode b_Three_narrow 15 = .ok (.sipush 200, 3) := by decide +kernel
theorem d_Three_narrow_18 : decode b_Three_narrow 18 = .ok (.putfield 46, 3) := by decide +kernel
theorem d_Three_narrow_21 : decode b_Three_narrow 21 = .ok (.aload_n 0, 1) := by decide +kernel
theorem d_Three_narrow_22 : decode b_Three_narrow 22 = .ok (.sipush (-200), 3) := by decide +kernel
theorem d_Three_narrow_25 : decode b_Three_narrow 25 = .ok (.putfield 37, 3) := by decide +kernel
theorem d_Three_narrow_28 : decode b_Three_narrow 28 = .ok (.aload_n 0, 1) := by decide +kernel
theorem d_Three_narrow_29 : decode b_Three_narrow 29 = .ok (.sipush (-200), 3) := by decide +kernel
theorem d_Three_narrow_32 : decode b_Three_narrow 32 = .ok (.putfield 43, 3) := by decide +kernel
theorem d_Three_narrow_35 : decode b_Three_narrow 35 = .ok (.aload_n 0, 1) := by decide +kernel
theorem d_Three_narrow_36 : decode b_Three_narrow 36 = .ok (.sipush (-200), 3) := by decide +kernel
theorem d_Three_narrow_39 : decode b_Three_narrow 39 = .ok (.putfield 49, 3) := by decide +kernel
theorem d_Three_narrow_42 : decode b_Three_narrow 42 = .ok (.aload_n 1, 1) := by decide +kernel
theorem d_Three_narrow_43 : decode b_Three_narrow 43 = .ok (.getfield 52, 3) := by decide +kernel
theorem d_Three_narrow_46 : decode b_Three_narrow 46 = .ok (.aload_n 0, 1) := by decide +kernel
theorem d_Three_narrow_47 : decode b_Three_narrow 47 = .ok (.getfield 9, 3) := by decide +kernel
theorem d_Three_narrow_50 : decode b_Three_narrow 50 = .ok (.iaload, 1) := by decide +kernel
theorem d_Three_narrow_51 : decode b_Three_narrow 51 = .ok (.istore_n 2, 1) := by decide +kernel
theorem d_Three_narrow_52 : decode b_Three_narrow 52 = .ok (.iload_n 2, 1) := by decide +kernel
theorem d_Three_narrow_53 : decode b_Three_narrow 53 = .ok (.aload_n 1, 1) := by decide +kernel
theorem d_Three_narrow_54 : decode b_Three_narrow 54 = .ok (.getfield 58, 3) := by decide +kernel
theorem d_Three_narrow_57 : decode b_Three_narrow 57 = .ok (.aload_n 0, 1) := by decide +kernel
theorem d_Three_narrow_58 : decode b_Three_narrow 58 = .ok (.getfield 9, 3) := by decide +kernel
theorem d_Three_narrow_61 : decode b_Three_narrow 61 = .ok (.iaload, 1) := by decide +kernel
theorem d_Three_narrow_62 : decode b_Three_narrow 62 = .ok (.if_icmp .gt 151, 3) := by decide +kernel
theorem d_Three_narrow_65 : decode b_Three_narrow 65 = .ok (.aload_n 0, 1) := by decide +kernel
theorem d_Three_narrow_66 : decode b_Three_narrow 66 = .ok (.getfield 15, 3) := by decide +kernel
theorem d_Three_narrow_69 : decode b_Three_narrow 69 = .ok (.aload_n 0, 1) := by decide +kernel
theorem d_Three_narrow_70 : decode b_Three_narrow 70 = .ok (.getfield 9, 3) := by decide +kernel
theorem d_Three_narrow_73 : decode b_Three_narrow 73 = .ok (.if_icmp .ne 7, 3) := by decide +kernel
theorem d_Three_narrow_76 : decode b_Three_narrow 76 = .ok (.iload_n 2, 1) := by decide +kernel
theorem d_Three_narrow_77 : decode b_Three_narrow 77 = .ok (.goto 12, 3) := by decide +kernel
theorem d_Three_narrow_80 : decode b_Three_narrow 80 = .ok (.aload_n 1, 1) := by decide +kernel
theorem d_Three_narrow_81 : decode b_Three_narrow 81 = .ok (.getfield 52, 3) := by decide +kernel
theorem d_Three_narrow_84 : decode b_Three_narrow 84 = .ok (.aload_n 0, 1) := by decide +kernel
theorem d_Three_narrow_85 : decode b_Three_narrow 85 = .ok (.getfield 15, 3) := by decide +kernel
theorem d_Three_narrow_88 : decode b_Three_narrow 88 = .ok (.iaload, 1) := by decide +kernel
theorem d_Three_narrow_89 : decode b_Three_narrow 89 = .ok (.istore_n 3, 1) := by decide +kernel
theorem d_Three_narrow_90 : decode b_Three_narrow 90 = .ok (.aload_n 0, 1) := by decide +kernel
theorem d_Three_narrow_91 : decode b_Three_narrow 91 = .ok (.getfield 15, 3) := by decide +kernel
theorem d_Three_narrow_94 : decode b_Three_narrow 94 = .ok (.aload_n 0, 1) := by decide +kernel
theorem d_Three_narrow_95 : decode b_Three_narrow 95 = .ok (.getfield 9, 3) := by decide +kernel
theorem d_Three_narrow_98 : decode b_Three_narrow 98 = .ok (.if_icmp .ne 7, 3) := by decide +kernel
theorem d_Three_narrow_101 : decode b_Three_narrow 101 = .ok (.iload_n 2, 1) := by decide +kernel
theorem d_Three_narrow_102 : decode b_Three_narrow 102 = .ok (.goto 12, 3) := by decide +kernel
theorem d_Three_narrow_105 : decode b_Three_narrow 105 = .ok (.aload_n 1, 1) := by decide +kernel
theorem d_Three_narrow_106 : decode b_Three_narrow 106 = .ok (.getfield 58, 3) := by decide +kernel
theorem d_Three_narrow_109 : decode b_Three_narrow 109 = .ok (.aload_n 0, 1) := by decide +kernel
theorem d_Three_narrow_110 : decode b_Three_narrow 110 = .ok (.getfield 15, 3) := by decide +kernel
theorem d_Three_narrow_113 : decode b_Three_narrow 113 = .ok (.iaload, 1) := by decide +kernel
theorem d_Three_narrow_114 : decode b_Three_narrow 114 = .ok (.istore 4, 2) := by decide +kernel
theorem d_Three_narrow_116 : decode b_Three_narrow 116 = .ok (.aload_n 0, 1) := by decide +kernel
theorem d_Three_narrow_117 : decode b_Three_narrow 117 = .ok (.getfield 18, 3) := by decide +kernel
theorem d_Three_narrow_120 : decode b_Three_narrow 120 = .ok (.aload_n 0, 1) := by decide +kernel
theorem d_Three_narrow_121 : decode b_Three_narrow 121 = .ok (.getfield 9, 3) := by decide +kernel
theorem d_Three_narrow_124 : decode b_Three_narrow 124 = .ok (.if_icmp .ne 7, 3) := by decide +kernel
theorem d_Three_narrow_127 : decode b_Three_narrow 127 = .ok (.iload_n 2, 1) := by decide +kernel
theorem d_Three_narrow_128 : decode b_Three_narrow 128 = .ok (.goto 12, 3) := by decide +kernel
theorem d_Three_narrow_131 : decode b_Three_narrow 131 = .ok (.aload_n 1, 1) := by decide +kernel
theorem d_Three_narrow_132 : decode b_Three_narrow 132 = .ok (.getfield 52, 3) := by decide +kernel
theorem d_Three_narrow_135 : decode b_Three_narrow 135 = .ok (.aload_n 0, 1) := by decide +kernel
theorem d_Three_narrow_136 : decode b_Three_narrow 136 = .ok (.getfield 18, 3) := by decide +kernel
theorem d_Three_narrow_139 : decode b_Three_narrow 139 = .ok (.iaload, 1) := by decide +kernel
theorem d_Three_narrow_140 : decode b_Three_narrow 140 = .ok (.istore 5, 2) := by decide +kernel
theorem d_Three_narrow_142 : decode b_Three_narrow 142 = .ok (.aload_n 0, 1) := by decide +kernel
theorem d_Three_narrow_143 : decode b_Three_narrow 143 = .ok (.getfield 18, 3) := by decide +kernel
theorem d_Three_narrow_146 : decode b_Three_narrow 146 = .ok (.aload_n 0, 1) := by decide +kernel
theorem d_Three_narrow_147 : decode b_Three_narrow 147 = .ok (.getfield 9, 3) := by decide +kernel
theorem d_Three_narrow_150 : decode b_Three_narrow 150 = .ok (.if_icmp .ne 7, 3) := by decide +kernel
theorem d_Three_narrow_153 : decode b_Three_narrow 153 = .ok (.iload_n 2, 1) := by decide +kernel
theorem d_Three_narrow_154 : decode b_Three_narrow 154 = .ok (.goto 12, 3) := by decide +kernel
theorem d_Three_narrow_157 : decode b_Three_narrow 157 = .ok (.aload_n 1, 1) := by decide +kernel
theorem d_Three_narrow_158 : decode b_Three_narrow 158 = .ok (.getfield 58, 3) := by decide +kernel
theorem d_Three_narrow_161 : decode b_Three_narrow 161 = .ok (.aload_n 0, 1) := by decide +kernel
theorem d_Three_narrow_162 : decode b_Three_narrow 162 = .ok (.getfield 18, 3) := by decide +kernel
theorem d_Three_narrow_165 : decode b_Three_narrow 165 = .ok (.iaload, 1) := by decide +kernel
theorem d_Three_narrow_166 : decode b_Three_narrow 166 = .ok (.istore 6, 2) := by decide +kernel
theorem d_Three_narrow_168 : decode b_Three_narrow 168 = .ok (.aload_n 0, 1) := by decide +kernel
theorem d_Three_narrow_169 : decode b_Three_narrow 169 = .ok (.iload_n 2, 1) := by decide +kernel
theorem d_Three_narrow_170 : decode b_Three_narrow 170 = .ok (.iload_n 3, 1) := by decide +kernel
theorem d_Three_narrow_171 : decode b_Three_narrow 171 = .ok (.iload 4, 2) := by decide +kernel
theorem d_Three_narrow_173 : decode b_Three_narrow 173 = .ok (.iload 5, 2) := by decide +kernel
theorem d_Three_narrow_175 : decode b_Three_narrow 175 = .ok (.iload 6, 2) := by decide +kernel
theorem d_Three_narrow_177 : decode b_Three_narrow 177 = .ok (.aload_n 0, 1) := by decide +kernel
theorem d_Three_narrow_178 : decode b_Three_narrow 178 = .ok (.getfield 15, 3) := by decide +kernel
theorem d_Three_narrow_181 : decode b_Three_narrow 181 = .ok (.aload_n 0, 1) := by decide +kernel
theorem d_Three_narrow_182 : decode b_Three_narrow 182 = .ok (.getfield 18, 3) := by decide +kernel
theorem d_Three_narrow_185 : decode b_Three_narrow 185 = .ok (.if_icmp .ne 18, 3) := by decide +kernel
theorem d_Three_narrow_188 : decode b_Three_narrow 188 = .ok (.aload_n 0, 1) := by decide +kernel
theorem d_Three_narrow_189 : decode b_Three_narrow 189 = .ok (.getfield 15, 3) := by decide +kernel
theorem d_Three_narrow_192 : decode b_Three_narrow 192 = .ok (.aload_n 0, 1) := by decide +kernel
theorem d_Three_narrow_193 : decode b_Three_narrow 193 = .ok (.getfield 9, 3) := by decide +kernel
theorem d_Three_narrow_196 : decode b_Three_narrow 196 = .ok (.if_icmp .eq 7, 3) := by decide +kernel
theorem d_Three_narrow_199 : decode b_Three_narrow 199 = .ok (.iconst 1, 1) := by decide +kernel
theorem d_Three_narrow_200 : decode b_Three_narrow 200 = .ok (.goto 4, 3) := by decide +kernel
theorem d_Three_narrow_203 : decode b_Three_narrow 203 = .ok (.iconst 0, 1) := by decide +kernel
theorem d_Three_narrow_204 : decode b_Three_narrow 204 = .ok (.invokevirtual 61, 3) := by decide +kernel
theorem d_Three_narrow_207 : decode b_Three_narrow 207 = .ok (.iinc 2 1, 3) := by decide +kernel
theorem d_Three_narrow_210 : decode b_Three_narrow 210 = .ok (.goto (-158), 3) := by decide +kernel
theorem d_Three_narrow_213 : decode b_Three_narrow 213 = .ok (.aload_n 1, 1) := by decide +kernel
theorem d_Three_narrow_214 : decode b_Three_narrow 214 = .ok (.aload_n 0, 1) := by decide +kernel
theorem d_Three_narrow_215 : decode b_Three_narrow 215 = .ok (.getfield 9, 3) := by decide +kernel
theorem d_Three_narrow_218 : decode b_Three_narrow 218 = .ok (.aload_n 0, 1) := by decide +kernel
theorem d_Three_narrow_219 : decode b_Three_narrow 219 = .ok (.getfield 31, 3) := by decide +kernel
theorem d_Three_narrow_222 : decode b_Three_narrow 222 = .ok (.aload_n 0, 1) := by decide +kernel
theorem d_Three_narrow_223 : decode b_Three_narrow 223 = .ok (.getfield 37, 3) := by decide +kernel
theorem d_Three_narrow_226 : decode b_Three_narrow 226 = .ok (.invokevirtual 65, 3) := by decide +kernel
theorem d_Three_narrow_229 : decode b_Three_narrow 229 = .ok (.ifCond .eq 45, 3) := by decide +kernel
theorem d_Three_narrow_232 : decode b_Three_narrow 232 = .ok (.aload_n 1, 1) := by decide +kernel
theorem d_Three_narrow_233 : decode b_Three_narrow 233 = .ok (.aload_n 0, 1) := by decide +kernel
theorem d_Three_narrow_234 : decode b_Three_narrow 234 = .ok (.getfield 15, 3) := by decide +kernel
theorem d_Three_narrow_237 : decode b_Three_narrow 237 = .ok (.aload_n 0, 1) := by decide +kernel
theorem d_Three_narrow_238 : decode b_Three_narrow 238 = .ok (.getfield 40, 3) := by decide +kernel
theorem d_Three_narrow_241 : decode b_Three_narrow 241 = .ok (.aload_n 0, 1) := by decide +kernel
theorem d_Three_narrow_242 : decode b_Three_narrow 242 = .ok (.getfield 43, 3) := by decide +kernel
theorem d_Three_narrow_245 : decode b_Three_narrow 245 = .ok (.invokevirtual 65, 3) := by decide +kernel
theorem d_Three_narrow_248 : decode b_Three_narrow 248 = .ok (.ifCond .eq 26, 3) := by decide +kernel
theorem d_Three_narrow_251 : decode b_Three_narrow 251 = .ok (.aload_n 1, 1) := by decide +kernel
theorem d_Three_narrow_252 : decode b_Three_narrow 252 = .ok (.aload_n 0, 1) := by decide +kernel
theorem d_Three_narrow_253 : decode b_Three_narrow 253 = .ok (.getfield 18, 3) := by decide +kernel
theorem d_Three_narrow_256 : decode b_Three_narrow 256 = .ok (.aload_n 0, 1) := by decide +kernel
theorem d_Three_narrow_257 : decode b_Three_narrow 257 = .ok (.getfield 46, 3) := by decide +kernel
theorem d_Three_narrow_260 : decode b_Three_narrow 260 = .ok (.aload_n 0, 1) := by decide +kernel
theorem d_Three_narrow_261 : decode b_Three_narrow 261 = .ok (.getfield 49, 3) := by decide +kernel
theorem d_Three_narrow_264 : decode b_Three_narrow 264 = .ok (.invokevirtual 65, 3) := by decide +kernel
theorem d_Three_narrow_267 : decode b_Three_narrow 267 = .ok (.ifCond .eq 7, 3) := by decide +kernel
theorem d_Three_narrow_270 : decode b_Three_narrow 270 = .ok (.iconst 1, 1) := by decide +kernel
theorem d_Three_narrow_271 : decode b_Three_narrow 271 = .ok (.goto 4, 3) := by decide +kernel
theorem d_Three_narrow_274 : decode b_Three_narrow 274 = .ok (.iconst 0, 1) := by decide +kernel
theorem d_Three_narrow_275 : decode b_Three_narrow 275 = .ok (.ireturn, 1) := by decide +kernel
set_option maxHeartbeats 4000000 in
set_option maxRecDepth 20000 in
theorem k_narrow_Sum (l : Launch) (D : va_G) (cA : Nat → ClassId) (adr : Nat → Nat) (N : List Nat) (hi : wI N adr) (cn : Nat → va_E) (t : Nat) (xa xb xc : Int32) (e0 : Nat → Int32) (gd : Bool) (hT : TP cn t 7 xa xb xc e0 gd) (hN : t ∈ N) (b : Nat) (f g : Nat → Int32) (ch : Bool) (hB : BP cA adr cn b f g ch) (hMb : BM N b) (hdt : t ≠ b ∧ t ≠ b + 1 ∧ t ≠ b + 2) (nn : Nat) (hn10 : nn ≤ 10) (hne : Ne nn (tI f) (tI g)) (hrg : ∀ k, k < nn → -100 ≤ tI f k ∧ tI g k ≤ 100) (ca cb cd : Nat) (hxa : xa.toInt = (ca : Int)) (hxb : xb.toInt = (cb : Int)) (hxc : xc.toInt = (cd : Int)) (hca : ca < nn) (hcb : cb < nn) (hcd : cd < nn) : Ct l y_Three_narrow b_Three_narrow 7 (some .boolean) 6 D cA [.ref (adr t), .ref (adr b)] (fun H => va_P D classes (wl N adr cn) H) (fun r H => ∃ (cn2 : Nat → va_E) (f2 g2 : Nat → Int32) (e2 : Nat → Int32) (q c2 : Bool), r = some (.int (bi q)) ∧ FrTB t b cn cn2 ∧ TP cn2 t 7 xa xb xc e2 gd ∧ BP cA adr cn2 b f2 g2 c2 ∧ NOK nn (Hull 0 ca cb cd) (tI f) (tI g) q (tI f2) (tI g2) ch c2 ∧ va_P D classes (wl N adr cn2) H) (wA N adr) := by
  refine Ct.mk (by decide) (Nat.le_of_ble_eq_true rfl) ?_
  intro p e s m args below meth c Q H locs ls hx hb hr hml hlk hown hin hK hQ hS hP hl
  have hl : lv_has ls 7 [(0, .ref (adr t)), (1, .ref (adr b))] := hl
  have hown : s.vm.findClass "RangeSheet$Three" = some m.cls := hown
  have hra := hrg ca hca; have hrb := hrg cb hcb; have hrc := hrg cd hcd; have hna := hne ca hca; have hnb := hne cb hcb; have hnc := hne cd hcd; unfold tI at hra hrb hrc hna hnb hnc
  refine lv_aload_n hx hb d_Three_narrow_0 rfl (lv_at hl 0 rfl) ?_
  refine lv_sipush (v := 200) hx hb d_Three_narrow_1 (by decide) ?_
  refine w_pf hx hb hK i_Sum t_Sum t_Sum_ok n_Sum hown hi hP hS wA_mem hN hT rfl 3 (by decide) t_514 rfl rfl rfl rfl rfl d_Three_narrow_4 (fun H locs hP hS => ?_)
  obtain ⟨cn_1, ecn_1⟩ : ∃ q : Nat → va_E, q = va_up cn t (.inr (7, [.int xa, .int xb, .int xc, .int (200 : Int32), .int (e0 1), .int (e0 2), .int (e0 3), .int (e0 4), .int (e0 5), .int (bi gd)])) := ⟨_, rfl⟩
  have hP : va_P D classes (wl N adr cn_1) H := by rw [ecn_1]; exact hP
  have ho_1_2 : cn_1 b = .inr (2, [.ref (adr (b + 1)), .ref (adr (b + 2)), .int (bi ch)]) := by rw [ecn_1, va_up_ne _ _ (by omega)]; exact hB.1
  have ho_1_3 : cn_1 (b + 1) = .inl (cA 0, 10, .inl f) := by rw [ecn_1, va_up_ne _ _ (by omega)]; exact hB.2.1
  have ho_1_4 : cn_1 (b + 2) = .inl (cA 0, 10, .inl g) := by rw [ecn_1, va_up_ne _ _ (by omega)]; exact hB.2.2
  have ho_1_5 : cn_1 t = .inr (7, [.int xa, .int xb, .int xc, .int (200 : Int32), .int (e0 1), .int (e0 2), .int (e0 3), .int (e0 4), .int (e0 5), .int (bi gd)]) := by rw [ecn_1]; exact va_up_self _ _ _
  have hfr_1 : ∀ k, k ≠ t → k ≠ b → k ≠ b + 1 → k ≠ b + 2 → cn_1 k = cn k := fun k a0 a1 a2 a3 => (congrFun ecn_1 k).trans ((va_up_ne _ _ (by omega)).trans rfl)
  refine lv_aload_n hx hb d_Three_narrow_7 rfl (lv_at hl 0 rfl) ?_
  refine lv_sipush (v := 200) hx hb d_Three_narrow_8 (by decide) ?_
  refine w_pf hx hb hK i_Sum t_Sum t_Sum_ok n_Sum hown hi hP hS wA_mem hN ho_1_5 rfl 5 (by decide) t_516 rfl rfl rfl rfl rfl d_Three_narrow_11 (fun H locs hP hS => ?_)
  obtain ⟨cn_6, ecn_6⟩ : ∃ q : Nat → va_E, q = va_up cn_1 t (.inr (7, [.int xa, .int xb, .int xc, .int (200 : Int32), .int (e0 1), .int (200 : Int32), .int (e0 3), .int (e0 4), .int (e0 5), .int (bi gd)])) := ⟨_, rfl⟩
  have hP : va_P D classes (wl N adr cn_6) H := by rw [ecn_6]; exact hP
  have ho_6_7 : cn_6 b = .inr (2, [.ref (adr (b + 1)), .ref (adr (b + 2)), .int (bi ch)]) := by rw [ecn_6, va_up_ne _ _ (by omega)]; exact ho_1_2
  have ho_6_8 : cn_6 (b + 1) = .inl (cA 0, 10, .inl f) := by rw [ecn_6, va_up_ne _ _ (by omega)]; exact ho_1_3
  have ho_6_9 : cn_6 (b + 2) = .inl (cA 0, 10, .inl g) := by rw [ecn_6, va_up_ne _ _ (by omega)]; exact ho_1_4
  have ho_6_10 : cn_6 t = .inr (7, [.int xa, .int xb, .int xc, .int (200 : Int32), .int (e0 1), .int (200 : Int32), .int (e0 3), .int (e0 4), .int (e0 5), .int (bi gd)]) := by rw [ecn_6]; exact va_up_self _ _ _
  have hfr_6 : ∀ k, k ≠ t → k ≠ b → k ≠ b + 1 → k ≠ b + 2 → cn_6 k = cn k := fun k a0 a1 a2 a3 => (congrFun ecn_6 k).trans ((va_up_ne _ _ (by omega)).trans (hfr_1 k a0 a1 a2 a3))
  refine lv_aload_n hx hb d_Three_narrow_14 rfl (lv_at hl 0 rfl) ?_
  refine lv_sipush (v := 200) hx hb d_Three_narrow_15 (by decide) ?_
  refine w_pf hx hb hK i_Sum t_Sum t_Sum_ok n_Sum hown hi hP hS wA_mem hN ho_6_10 rfl 7 (by decide) t_518 rfl rfl rfl rfl rfl d_Three_narrow_18 (fun H locs hP hS => ?_)
  obtain ⟨cn_11, ecn_11⟩ : ∃ q : Nat → va_E, q = va_up cn_6 t (.inr (7, [.int xa, .int xb, .int xc, .int (200 : Int32), .int (e0 1), .int (200 : Int32), .int (e0 3), .int (200 : Int32), .int (e0 5), .int (bi gd)])) := ⟨_, rfl⟩
  have hP : va_P D classes (wl N adr cn_11) H := by rw [ecn_11]; exact hP
  have ho_11_12 : cn_11 b = .inr (2, [.ref (adr (b + 1)), .ref (adr (b + 2)), .int (bi ch)]) := by rw [ecn_11, va_up_ne _ _ (by omega)]; exact ho_6_7
  have ho_11_13 : cn_11 (b + 1) = .inl (cA 0, 10, .inl f) := by rw [ecn_11, va_up_ne _ _ (by omega)]; exact ho_6_8
  have ho_11_14 : cn_11 (b + 2) = .inl (cA 0, 10, .inl g) := by rw [ecn_11, va_up_ne _ _ (by omega)]; exact ho_6_9
  have ho_11_15 : cn_11 t = .inr (7, [.int xa, .int xb, .int xc, .int (200 : Int32), .int (e0 1), .int (200 : Int32), .int (e0 3), .int (200 : Int32), .int (e0 5), .int (bi gd)]) := by rw [ecn_11]; exact va_up_self _ _ _
  have hfr_11 : ∀ k, k ≠ t → k ≠ b → k ≠ b + 1 → k ≠ b + 2 → cn_11 k = cn k := fun k a0 a1 a2 a3 => (congrFun ecn_11 k).trans ((va_up_ne _ _ (by omega)).trans (hfr_6 k a0 a1 a2 a3))
  refine lv_aload_n hx hb d_Three_narrow_21 rfl (lv_at hl 0 rfl) ?_
  refine lv_sipush (v := (-200)) hx hb d_Three_narrow_22 (by decide) ?_
  refine w_pf hx hb hK i_Sum t_Sum t_Sum_ok n_Sum hown hi hP hS wA_mem hN ho_11_15 rfl 4 (by decide) t_515 rfl rfl rfl rfl rfl d_Three_narrow_25 (fun H locs hP hS => ?_)
  obtain ⟨cn_16, ecn_16⟩ : ∃ q : Nat → va_E, q = va_up cn_11 t (.inr (7, [.int xa, .int xb, .int xc, .int (200 : Int32), .int (-200 : Int32), .int (200 : Int32), .int (e0 3), .int (200 : Int32), .int (e0 5), .int (bi gd)])) := ⟨_, rfl⟩
  have hP : va_P D classes (wl N adr cn_16) H := by rw [ecn_16]; exact hP
  have ho_16_17 : cn_16 b = .inr (2, [.ref (adr (b + 1)), .ref (adr (b + 2)), .int (bi ch)]) := by rw [ecn_16, va_up_ne _ _ (by omega)]; exact ho_11_12
  have ho_16_18 : cn_16 (b + 1) = .inl (cA 0, 10, .inl f) := by rw [ecn_16, va_up_ne _ _ (by omega)]; exact ho_11_13
  have ho_16_19 : cn_16 (b + 2) = .inl (cA 0, 10, .inl g) := by rw [ecn_16, va_up_ne _ _ (by omega)]; exact ho_11_14
  have ho_16_20 : cn_16 t = .inr (7, [.int xa, .int xb, .int xc, .int (200 : Int32), .int (-200 : Int32), .int (200 : Int32), .int (e0 3), .int (200 : Int32), .int (e0 5), .int (bi gd)]) := by rw [ecn_16]; exact va_up_self _ _ _
  have hfr_16 : ∀ k, k ≠ t → k ≠ b → k ≠ b + 1 → k ≠ b + 2 → cn_16 k = cn k := fun k a0 a1 a2 a3 => (congrFun ecn_16 k).trans ((va_up_ne _ _ (by omega)).trans (hfr_11 k a0 a1 a2 a3))
  refine lv_aload_n hx hb d_Three_narrow_28 rfl (lv_at hl 0 rfl) ?_
  refine lv_sipush (v := (-200)) hx hb d_Three_narrow_29 (by decide) ?_
  refine w_pf hx hb hK i_Sum t_Sum t_Sum_ok n_Sum hown hi hP hS wA_mem hN ho_16_20 rfl 6 (by decide) t_517 rfl rfl rfl rfl rfl d_Three_narrow_32 (fun H locs hP hS => ?_)
  obtain ⟨cn_21, ecn_21⟩ : ∃ q : Nat → va_E, q = va_up cn_16 t (.inr (7, [.int xa, .int xb, .int xc, .int (200 : Int32), .int (-200 : Int32), .int (200 : Int32), .int (-200 : Int32), .int (200 : Int32), .int (e0 5), .int (bi gd)])) := ⟨_, rfl⟩
  have hP : va_P D classes (wl N adr cn_21) H := by rw [ecn_21]; exact hP
  have ho_21_22 : cn_21 b = .inr (2, [.ref (adr (b + 1)), .ref (adr (b + 2)), .int (bi ch)]) := by rw [ecn_21, va_up_ne _ _ (by omega)]; exact ho_16_17
  have ho_21_23 : cn_21 (b + 1) = .inl (cA 0, 10, .inl f) := by rw [ecn_21, va_up_ne _ _ (by omega)]; exact ho_16_18
  have ho_21_24 : cn_21 (b + 2) = .inl (cA 0, 10, .inl g) := by rw [ecn_21, va_up_ne _ _ (by omega)]; exact ho_16_19
  have ho_21_25 : cn_21 t = .inr (7, [.int xa, .int xb, .int xc, .int (200 : Int32), .int (-200 : Int32), .int (200 : Int32), .int (-200 : Int32), .int (200 : Int32), .int (e0 5), .int (bi gd)]) := by rw [ecn_21]; exact va_up_self _ _ _
  have hfr_21 : ∀ k, k ≠ t → k ≠ b → k ≠ b + 1 → k ≠ b + 2 → cn_21 k = cn k := fun k a0 a1 a2 a3 => (congrFun ecn_21 k).trans ((va_up_ne _ _ (by omega)).trans (hfr_16 k a0 a1 a2 a3))
  refine lv_aload_n hx hb d_Three_narrow_35 rfl (lv_at hl 0 rfl) ?_
  refine lv_sipush (v := (-200)) hx hb d_Three_narrow_36 (by decide) ?_
  refine w_pf hx hb hK i_Sum t_Sum t_Sum_ok n_Sum hown hi hP hS wA_mem hN ho_21_25 rfl 8 (by decide) t_519 rfl rfl rfl rfl rfl d_Three_narrow_39 (fun H locs hP hS => ?_)
  obtain ⟨cn_26, ecn_26⟩ : ∃ q : Nat → va_E, q = va_up cn_21 t (.inr (7, [.int xa, .int xb, .int xc, .int (200 : Int32), .int (-200 : Int32), .int (200 : Int32), .int (-200 : Int32), .int (200 : Int32), .int (-200 : Int32), .int (bi gd)])) := ⟨_, rfl⟩
  have hP : va_P D classes (wl N adr cn_26) H := by rw [ecn_26]; exact hP
  have ho_26_27 : cn_26 b = .inr (2, [.ref (adr (b + 1)), .ref (adr (b + 2)), .int (bi ch)]) := by rw [ecn_26, va_up_ne _ _ (by omega)]; exact ho_21_22
  have ho_26_28 : cn_26 (b + 1) = .inl (cA 0, 10, .inl f) := by rw [ecn_26, va_up_ne _ _ (by omega)]; exact ho_21_23
  have ho_26_29 : cn_26 (b + 2) = .inl (cA 0, 10, .inl g) := by rw [ecn_26, va_up_ne _ _ (by omega)]; exact ho_21_24
  have ho_26_30 : cn_26 t = .inr (7, [.int xa, .int xb, .int xc, .int (200 : Int32), .int (-200 : Int32), .int (200 : Int32), .int (-200 : Int32), .int (200 : Int32), .int (-200 : Int32), .int (bi gd)]) := by rw [ecn_26]; exact va_up_self _ _ _
  have hfr_26 : ∀ k, k ≠ t → k ≠ b → k ≠ b + 1 → k ≠ b + 2 → cn_26 k = cn k := fun k a0 a1 a2 a3 => (congrFun ecn_26 k).trans ((va_up_ne _ _ (by omega)).trans (hfr_21 k a0 a1 a2 a3))
  refine lv_aload_n hx hb d_Three_narrow_42 rfl (lv_at hl 1 rfl) ?_
  refine w_gfN hx hb hK i_Box hown hP hMb.1 ho_26_27 rfl 0 (by decide) t_41 rfl rfl d_Three_narrow_43 ?_
  refine lv_aload_n hx hb d_Three_narrow_46 rfl (lv_at hl 0 rfl) ?_
  refine w_gf hx hb hK i_Sum hown hP hN ho_26_30 rfl 0 (by decide) t_511 rfl rfl d_Three_narrow_47 ?_
  refine w_ld hx hb hK hP hMb.2.1 ho_26_28 (ca) hxa (by omega) (show ca < 10 by omega) d_Three_narrow_50 (fun z_31 ez_31 => ?_)
  subst ez_31
  refine lv_istore_n (lv' := [(2, .int (f ca)), (0, .ref (adr t)), (1, .ref (adr b))]) hx hb d_Three_narrow_51 rfl hl (by decide) rfl (fun ls hl => ?_)
  have L_32 : ∀ (n : Nat) (x2 : Int32) (cn1 : Nat → va_E) (e1 : Nat → Int32) (H : Heap) (locs : List Loc) (ls : Array Slot), ((g ca).toInt + 1 - x2.toInt).toNat < n → ((f ca).toInt ≤ x2.toInt ∧ x2.toInt ≤ (g ca).toInt + 1) → (FrTB t b cn cn1) → (TP cn1 t 7 xa xb xc e1 gd) → (BP cA adr cn1 b f g ch) → (EE (fun x y z => SolG (R3 0) ca cb cd (tI f) (tI g) x y z ∧ x < x2.toInt) e1) → va_P D classes (wl N adr cn1) H → va_S (wA N adr) s.heap H locs → lv_has ls 7 [(0, .ref (adr t)), (1, .ref (adr b)), (2, .int x2)] → W p l e (rl 6) s m args below meth c H locs 0 0 Q (F0 m 52 ls []) := by
    intro n
    induction n with
    | zero => intro x2 cn1 e1 H locs ls hmu; exact absurd hmu (Nat.not_lt_zero _)
    | succ n ih_32 =>
      intro x2 cn1 e1 H locs ls hmu hx2 hF1 hT1 hB1 hE1 hP hS hl
      refine lv_iload_n hx hb d_Three_narrow_52 rfl (lv_at hl 2 rfl) ?_
      refine lv_aload_n hx hb d_Three_narrow_53 rfl (lv_at hl 1 rfl) ?_
      refine w_gfN hx hb hK i_Box hown hP hMb.1 hB1.1 rfl 1 (by decide) t_47 rfl rfl d_Three_narrow_54 ?_
      refine lv_aload_n hx hb d_Three_narrow_57 rfl (lv_at hl 0 rfl) ?_
      refine w_gf hx hb hK i_Sum hown hP hN hT1 rfl 0 (by decide) t_511 rfl rfl d_Three_narrow_58 ?_
      refine w_ld hx hb hK hP hMb.2.2 hB1.2.2 (ca) hxa (by omega) (show ca < 10 by omega) d_Three_narrow_61 (fun z_33 ez_33 => ?_)
      subst ez_33
      refine b_icmp_gt (tgt := 213) hx hb d_Three_narrow_62 (by decide) rfl rfl (fun c_34 => ?_) (fun c_34 => ?_)
      · refine lv_aload_n hx hb d_Three_narrow_213 rfl (lv_at hl 1 rfl) ?_
        refine lv_aload_n hx hb d_Three_narrow_214 rfl (lv_at hl 0 rfl) ?_
        refine w_gf hx hb hK i_Sum hown hP hN hT1 rfl 0 (by decide) t_511 rfl rfl d_Three_narrow_215 ?_
        refine lv_aload_n hx hb d_Three_narrow_218 rfl (lv_at hl 0 rfl) ?_
        refine w_gf hx hb hK i_Sum hown hP hN hT1 rfl 3 (by decide) t_514 rfl rfl d_Three_narrow_219 ?_
        refine lv_aload_n hx hb d_Three_narrow_222 rfl (lv_at hl 0 rfl) ?_
        refine w_gf hx hb hK i_Sum hown hP hN hT1 rfl 4 (by decide) t_515 rfl rfl d_Three_narrow_223 ?_
        refine x_V (As := [.int xa, .int (e1 0), .int (e1 1)]) (rest := []) hx hb hml hown hK (k_Box_cut l D cA adr N hi cn1 b f g ch ⟨hB1.1, hB1.2.1, hB1.2.2⟩ hMb ca xa (e1 0) (e1 1) hxa (by omega)) t_176 t_2 t_282 t_174 t_175 yk_Box_cut ⟨Nat.le_of_ble_eq_true rfl, Nat.le_of_ble_eq_true rfl⟩ (w_rec hK hP hMb.1 hB1.1 rfl) hP rfl hl.1 rfl (Nat.le_of_ble_eq_true rfl) d_Three_narrow_226 ⟨Nat.le_of_ble_eq_true rfl, Nat.le_of_ble_eq_true rfl⟩ hS (fun q h => h) (fun r H locs hq _ hS => ?_)
        obtain ⟨cn_35, lo_35, hh_35, hlo_35, hhh_35, rfl, hFb_35, hB_35, hP⟩ := hq
        obtain ⟨ch_35, hch_35⟩ : ∃ q : Bool, q = (ch || decide ((f ca).toInt < (e1 0).toInt ∨ (e1 1).toInt < (g ca).toInt)) := ⟨_, rfl⟩
        rw [← hch_35] at hB_35
        have hx_35_36 : cn_35 t = .inr (7, [.int xa, .int xb, .int xc, .int (e1 0), .int (e1 1), .int (e1 2), .int (e1 3), .int (e1 4), .int (e1 5), .int (bi gd)]) := (hFb_35 t (by omega) (by omega) (by omega)).trans hT1
        have hfr_35 : FrTB t b cn cn_35 := hF1.tr (FrTB.b hFb_35)
        refine W.eq (g2 := F0 m 229 ls [.int (bi (decide (lo_35.toInt ≤ hh_35.toInt)))]) rfl ?_
        refine b_bool_eq (tgt := 274) hx hb d_Three_narrow_229 (by decide) (fun c_37 => ?_) (fun c_37 => ?_)
        · have hc_37 := of_decide_eq_false c_37
          refine lv_iconst (v := 0) hx hb d_Three_narrow_274 (by decide) ?_
          refine W.eq (g2 := F0 m 275 ls [.int (bi false)]) rfl ?_
          refine e_z hx hb hr hlk hQ hS d_Three_narrow_275 ?_
          refine ⟨cn_35, (upd f ca lo_35), (upd g ca hh_35), e1, false, ch_35, rfl, hfr_35, hx_35_36, ⟨hB_35.1, hB_35.2.1, hB_35.2.2⟩, ?_, hP⟩
          have hE : Ends (SolG (R3 0) ca cb cd (tI f) (tI g)) 200 (e1 0).toInt (e1 1).toInt (e1 2).toInt (e1 3).toInt (e1 4).toInt (e1 5).toInt := hE1.congr (fun x y z => ⟨fun h => h.1, fun h => ⟨h, by have h1 := h.1; unfold tI at h1; omega⟩⟩)
          have g0 : ¬ tI (upd f ca lo_35) ca ≤ tI (upd g ca hh_35) ca := by rw [tI_up, tI_up]; exact of_decide_eq_false c_37
          have hrz := hrg ca hca
          rw [← HullG_k]; exact hull3G (far := 200) (yl := tI (upd f ca lo_35)) (yh := tI (upd g ca hh_35)) (wl := tI (upd f ca lo_35)) (wh := tI (upd g ca hh_35)) (c1 := ch_35) (c2 := ch_35) hca hcb hcd hne (by omega) hE (tI_cut hlo_35 hhh_35) hch_35 (fun h => absurd h g0) (fun h => absurd h g0) ⟨fun h => absurd h (by decide), fun h => absurd h.1 g0⟩
        · have hc_37 := of_decide_eq_true c_37
          refine lv_aload_n hx hb d_Three_narrow_232 rfl (lv_at hl 1 rfl) ?_
          refine lv_aload_n hx hb d_Three_narrow_233 rfl (lv_at hl 0 rfl) ?_
          refine w_gf hx hb hK i_Sum hown hP hN hx_35_36 rfl 1 (by decide) t_512 rfl rfl d_Three_narrow_234 ?_
          refine lv_aload_n hx hb d_Three_narrow_237 rfl (lv_at hl 0 rfl) ?_
          refine w_gf hx hb hK i_Sum hown hP hN hx_35_36 rfl 5 (by decide) t_516 rfl rfl d_Three_narrow_238 ?_
          refine lv_aload_n hx hb d_Three_narrow_241 rfl (lv_at hl 0 rfl) ?_
          refine w_gf hx hb hK i_Sum hown hP hN hx_35_36 rfl 6 (by decide) t_517 rfl rfl d_Three_narrow_242 ?_
          refine x_V (As := [.int xb, .int (e1 2), .int (e1 3)]) (rest := []) hx hb hml hown hK (k_Box_cut l D cA adr N hi cn_35 b (upd f ca lo_35) (upd g ca hh_35) ch_35 ⟨hB_35.1, hB_35.2.1, hB_35.2.2⟩ hMb cb xb (e1 2) (e1 3) hxb (by omega)) t_176 t_2 t_282 t_174 t_175 yk_Box_cut ⟨Nat.le_of_ble_eq_true rfl, Nat.le_of_ble_eq_true rfl⟩ (w_rec hK hP hMb.1 hB_35.1 rfl) hP rfl hl.1 rfl (Nat.le_of_ble_eq_true rfl) d_Three_narrow_245 ⟨Nat.le_of_ble_eq_true rfl, Nat.le_of_ble_eq_true rfl⟩ hS (fun q h => h) (fun r H locs hq _ hS => ?_)
          obtain ⟨cn_38, lo_38, hh_38, hlo_38, hhh_38, rfl, hFb_38, hB_38, hP⟩ := hq
          obtain ⟨ch_38, hch_38⟩ : ∃ q : Bool, q = (ch_35 || decide (((upd f ca lo_35) cb).toInt < (e1 2).toInt ∨ (e1 3).toInt < ((upd g ca hh_35) cb).toInt)) := ⟨_, rfl⟩
          rw [← hch_38] at hB_38
          have hx_38_39 : cn_38 t = .inr (7, [.int xa, .int xb, .int xc, .int (e1 0), .int (e1 1), .int (e1 2), .int (e1 3), .int (e1 4), .int (e1 5), .int (bi gd)]) := (hFb_38 t (by omega) (by omega) (by omega)).trans hx_35_36
          have hfr_38 : FrTB t b cn cn_38 := hfr_35.tr (FrTB.b hFb_38)
          refine W.eq (g2 := F0 m 248 ls [.int (bi (decide (lo_38.toInt ≤ hh_38.toInt)))]) rfl ?_
          refine b_bool_eq (tgt := 274) hx hb d_Three_narrow_248 (by decide) (fun c_40 => ?_) (fun c_40 => ?_)
          · have hc_40 := of_decide_eq_false c_40
            refine lv_iconst (v := 0) hx hb d_Three_narrow_274 (by decide) ?_
            refine W.eq (g2 := F0 m 275 ls [.int (bi false)]) rfl ?_
            refine e_z hx hb hr hlk hQ hS d_Three_narrow_275 ?_
            refine ⟨cn_38, (upd (upd f ca lo_35) cb lo_38), (upd (upd g ca hh_35) cb hh_38), e1, false, ch_38, rfl, hfr_38, hx_38_39, ⟨hB_38.1, hB_38.2.1, hB_38.2.2⟩, ?_, hP⟩
            have hE : Ends (SolG (R3 0) ca cb cd (tI f) (tI g)) 200 (e1 0).toInt (e1 1).toInt (e1 2).toInt (e1 3).toInt (e1 4).toInt (e1 5).toInt := hE1.congr (fun x y z => ⟨fun h => h.1, fun h => ⟨h, by have h1 := h.1; unfold tI at h1; omega⟩⟩)
            have g0 : tI (upd f ca lo_35) ca ≤ tI (upd g ca hh_35) ca := by rw [tI_up, tI_up]; exact of_decide_eq_true c_37
            have g1 : ¬ tI (upd (upd f ca lo_35) cb lo_38) cb ≤ tI (upd (upd g ca hh_35) cb hh_38) cb := by rw [tI_up, tI_up]; exact of_decide_eq_false c_40
            have hrz := hrg ca hca
            rw [← HullG_k]; exact hull3G (far := 200) (yl := tI (upd f ca lo_35)) (yh := tI (upd g ca hh_35)) (wl := tI (upd (upd f ca lo_35) cb lo_38)) (wh := tI (upd (upd g ca hh_35) cb hh_38)) (c1 := ch_35) (c2 := ch_38) hca hcb hcd hne (by omega) hE (tI_cut hlo_35 hhh_35) hch_35 (fun _ => ⟨tI_cut hlo_38 hhh_38, hch_38⟩) (fun _ h => absurd h g1) ⟨fun h => absurd h (by decide), fun h => absurd h.2.1 g1⟩
          · have hc_40 := of_decide_eq_true c_40
            refine lv_aload_n hx hb d_Three_narrow_251 rfl (lv_at hl 1 rfl) ?_
            refine lv_aload_n hx hb d_Three_narrow_252 rfl (lv_at hl 0 rfl) ?_
            refine w_gf hx hb hK i_Sum hown hP hN hx_38_39 rfl 2 (by decide) t_513 rfl rfl d_Three_narrow_253 ?_
            refine lv_aload_n hx hb d_Three_narrow_256 rfl (lv_at hl 0 rfl) ?_
            refine w_gf hx hb hK i_Sum hown hP hN hx_38_39 rfl 7 (by decide) t_518 rfl rfl d_Three_narrow_257 ?_
            refine lv_aload_n hx hb d_Three_narrow_260 rfl (lv_at hl 0 rfl) ?_
            refine w_gf hx hb hK i_Sum hown hP hN hx_38_39 rfl 8 (by decide) t_519 rfl rfl d_Three_narrow_261 ?_
            refine x_V (As := [.int xc, .int (e1 4), .int (e1 5)]) (rest := []) hx hb hml hown hK (k_Box_cut l D cA adr N hi cn_38 b (upd (upd f ca lo_35) cb lo_38) (upd (upd g ca hh_35) cb hh_38) ch_38 ⟨hB_38.1, hB_38.2.1, hB_38.2.2⟩ hMb cd xc (e1 4) (e1 5) hxc (by omega)) t_176 t_2 t_282 t_174 t_175 yk_Box_cut ⟨Nat.le_of_ble_eq_true rfl, Nat.le_of_ble_eq_true rfl⟩ (w_rec hK hP hMb.1 hB_38.1 rfl) hP rfl hl.1 rfl (Nat.le_of_ble_eq_true rfl) d_Three_narrow_264 ⟨Nat.le_of_ble_eq_true rfl, Nat.le_of_ble_eq_true rfl⟩ hS (fun q h => h) (fun r H locs hq _ hS => ?_)
            obtain ⟨cn_41, lo_41, hh_41, hlo_41, hhh_41, rfl, hFb_41, hB_41, hP⟩ := hq
            obtain ⟨ch_41, hch_41⟩ : ∃ q : Bool, q = (ch_38 || decide (((upd (upd f ca lo_35) cb lo_38) cd).toInt < (e1 4).toInt ∨ (e1 5).toInt < ((upd (upd g ca hh_35) cb hh_38) cd).toInt)) := ⟨_, rfl⟩
            rw [← hch_41] at hB_41
            have hx_41_42 : cn_41 t = .inr (7, [.int xa, .int xb, .int xc, .int (e1 0), .int (e1 1), .int (e1 2), .int (e1 3), .int (e1 4), .int (e1 5), .int (bi gd)]) := (hFb_41 t (by omega) (by omega) (by omega)).trans hx_38_39
            have hfr_41 : FrTB t b cn cn_41 := hfr_38.tr (FrTB.b hFb_41)
            refine W.eq (g2 := F0 m 267 ls [.int (bi (decide (lo_41.toInt ≤ hh_41.toInt)))]) rfl ?_
            refine b_bool_eq (tgt := 274) hx hb d_Three_narrow_267 (by decide) (fun c_43 => ?_) (fun c_43 => ?_)
            · have hc_43 := of_decide_eq_false c_43
              refine lv_iconst (v := 0) hx hb d_Three_narrow_274 (by decide) ?_
              refine W.eq (g2 := F0 m 275 ls [.int (bi false)]) rfl ?_
              refine e_z hx hb hr hlk hQ hS d_Three_narrow_275 ?_
              refine ⟨cn_41, (upd (upd (upd f ca lo_35) cb lo_38) cd lo_41), (upd (upd (upd g ca hh_35) cb hh_38) cd hh_41), e1, false, ch_41, rfl, hfr_41, hx_41_42, ⟨hB_41.1, hB_41.2.1, hB_41.2.2⟩, ?_, hP⟩
              have hE : Ends (SolG (R3 0) ca cb cd (tI f) (tI g)) 200 (e1 0).toInt (e1 1).toInt (e1 2).toInt (e1 3).toInt (e1 4).toInt (e1 5).toInt := hE1.congr (fun x y z => ⟨fun h => h.1, fun h => ⟨h, by have h1 := h.1; unfold tI at h1; omega⟩⟩)
              have g0 : tI (upd f ca lo_35) ca ≤ tI (upd g ca hh_35) ca := by rw [tI_up, tI_up]; exact of_decide_eq_true c_37
              have g1 : tI (upd (upd f ca lo_35) cb lo_38) cb ≤ tI (upd (upd g ca hh_35) cb hh_38) cb := by rw [tI_up, tI_up]; exact of_decide_eq_true c_40
              have g2 : ¬ tI (upd (upd (upd f ca lo_35) cb lo_38) cd lo_41) cd ≤ tI (upd (upd (upd g ca hh_35) cb hh_38) cd hh_41) cd := by rw [tI_up, tI_up]; exact of_decide_eq_false c_43
              have hrz := hrg ca hca
              rw [← HullG_k]; exact hull3G (far := 200) (yl := tI (upd f ca lo_35)) (yh := tI (upd g ca hh_35)) (wl := tI (upd (upd f ca lo_35) cb lo_38)) (wh := tI (upd (upd g ca hh_35) cb hh_38)) (c1 := ch_35) (c2 := ch_38) hca hcb hcd hne (by omega) hE (tI_cut hlo_35 hhh_35) hch_35 (fun _ => ⟨tI_cut hlo_38 hhh_38, hch_38⟩) (fun _ _ => ⟨tI_cut hlo_41 hhh_41, hch_41⟩) ⟨fun h => absurd h (by decide), fun h => absurd h.2.2 g2⟩
            · have hc_43 := of_decide_eq_true c_43
              refine lv_iconst (v := 1) hx hb d_Three_narrow_270 (by decide) ?_
              refine lv_goto (tgt := 275) hx hb d_Three_narrow_271 (by decide) ?_
              refine W.eq (g2 := F0 m 275 ls [.int (bi true)]) rfl ?_
              refine e_z hx hb hr hlk hQ hS d_Three_narrow_275 ?_
              refine ⟨cn_41, (upd (upd (upd f ca lo_35) cb lo_38) cd lo_41), (upd (upd (upd g ca hh_35) cb hh_38) cd hh_41), e1, true, ch_41, rfl, hfr_41, hx_41_42, ⟨hB_41.1, hB_41.2.1, hB_41.2.2⟩, ?_, hP⟩
              have hE : Ends (SolG (R3 0) ca cb cd (tI f) (tI g)) 200 (e1 0).toInt (e1 1).toInt (e1 2).toInt (e1 3).toInt (e1 4).toInt (e1 5).toInt := hE1.congr (fun x y z => ⟨fun h => h.1, fun h => ⟨h, by have h1 := h.1; unfold tI at h1; omega⟩⟩)
              have g0 : tI (upd f ca lo_35) ca ≤ tI (upd g ca hh_35) ca := by rw [tI_up, tI_up]; exact of_decide_eq_true c_37
              have g1 : tI (upd (upd f ca lo_35) cb lo_38) cb ≤ tI (upd (upd g ca hh_35) cb hh_38) cb := by rw [tI_up, tI_up]; exact of_decide_eq_true c_40
              have g2 : tI (upd (upd (upd f ca lo_35) cb lo_38) cd lo_41) cd ≤ tI (upd (upd (upd g ca hh_35) cb hh_38) cd hh_41) cd := by rw [tI_up, tI_up]; exact of_decide_eq_true c_43
              have hrz := hrg ca hca
              rw [← HullG_k]; exact hull3G (far := 200) (yl := tI (upd f ca lo_35)) (yh := tI (upd g ca hh_35)) (wl := tI (upd (upd f ca lo_35) cb lo_38)) (wh := tI (upd (upd g ca hh_35) cb hh_38)) (c1 := ch_35) (c2 := ch_38) hca hcb hcd hne (by omega) hE (tI_cut hlo_35 hhh_35) hch_35 (fun _ => ⟨tI_cut hlo_38 hhh_38, hch_38⟩) (fun _ _ => ⟨tI_cut hlo_41 hhh_41, hch_41⟩) ⟨fun _ => ⟨g0, g1, g2⟩, fun _ => rfl⟩
      · refine lv_aload_n hx hb d_Three_narrow_65 rfl (lv_at hl 0 rfl) ?_
        refine w_gf hx hb hK i_Sum hown hP hN hT1 rfl 1 (by decide) t_512 rfl rfl d_Three_narrow_66 ?_
        refine lv_aload_n hx hb d_Three_narrow_69 rfl (lv_at hl 0 rfl) ?_
        refine w_gf hx hb hK i_Sum hown hP hN hT1 rfl 0 (by decide) t_511 rfl rfl d_Three_narrow_70 ?_
        have K_244 : ∀ (z_244_0 : Int32), z_244_0.toInt = (if ¬ (cb : Int) = (ca : Int) then (f cb).toInt else x2.toInt) → W p l e (rl 6) s m args below meth c H locs 0 0 Q (F0 m 89 ls [.int z_244_0]) := by
          intro z_244_0 hz_244_0
          refine lv_istore_n (lv' := [(3, .int z_244_0), (0, .ref (adr t)), (1, .ref (adr b)), (2, .int x2)]) hx hb d_Three_narrow_89 rfl hl (by decide) rfl (fun ls hl => ?_)
          refine lv_aload_n hx hb d_Three_narrow_90 rfl (lv_at hl 1 rfl) ?_
          refine w_gf hx hb hK i_Sum hown hP hN hT1 rfl 1 (by decide) t_512 rfl rfl d_Three_narrow_91 ?_
          refine lv_aload_n hx hb d_Three_narrow_94 rfl (lv_at hl 1 rfl) ?_
          refine w_gf hx hb hK i_Sum hown hP hN hT1 rfl 0 (by decide) t_511 rfl rfl d_Three_narrow_95 ?_
          have K_445 : ∀ (z_445_0 : Int32), z_445_0.toInt = (if ¬ (cb : Int) = (ca : Int) then (g cb).toInt else x2.toInt) → W p l e (rl 6) s m args below meth c H locs 0 0 Q (F0 m 114 ls [.int z_445_0]) := by
            intro z_445_0 hz_445_0
            refine lv_istore (lv' := [(4, .int z_445_0), (3, .int z_244_0), (0, .ref (adr t)), (1, .ref (adr b)), (2, .int x2)]) hx hb d_Three_narrow_114 hl (by decide) rfl (fun ls hl => ?_)
            refine lv_aload_n hx hb d_Three_narrow_116 rfl (lv_at hl 2 rfl) ?_
            refine w_gf hx hb hK i_Sum hown hP hN hT1 rfl 2 (by decide) t_513 rfl rfl d_Three_narrow_117 ?_
            refine lv_aload_n hx hb d_Three_narrow_120 rfl (lv_at hl 2 rfl) ?_
            refine w_gf hx hb hK i_Sum hown hP hN hT1 rfl 0 (by decide) t_511 rfl rfl d_Three_narrow_121 ?_
            have K_646 : ∀ (z_646_0 : Int32), z_646_0.toInt = (if ¬ (cd : Int) = (ca : Int) then (f cd).toInt else x2.toInt) → W p l e (rl 6) s m args below meth c H locs 0 0 Q (F0 m 140 ls [.int z_646_0]) := by
              intro z_646_0 hz_646_0
              refine lv_istore (lv' := [(5, .int z_646_0), (4, .int z_445_0), (3, .int z_244_0), (0, .ref (adr t)), (1, .ref (adr b)), (2, .int x2)]) hx hb d_Three_narrow_140 hl (by decide) rfl (fun ls hl => ?_)
              refine lv_aload_n hx hb d_Three_narrow_142 rfl (lv_at hl 3 rfl) ?_
              refine w_gf hx hb hK i_Sum hown hP hN hT1 rfl 2 (by decide) t_513 rfl rfl d_Three_narrow_143 ?_
              refine lv_aload_n hx hb d_Three_narrow_146 rfl (lv_at hl 3 rfl) ?_
              refine w_gf hx hb hK i_Sum hown hP hN hT1 rfl 0 (by decide) t_511 rfl rfl d_Three_narrow_147 ?_
              have K_847 : ∀ (z_847_0 : Int32), z_847_0.toInt = (if ¬ (cd : Int) = (ca : Int) then (g cd).toInt else x2.toInt) → W p l e (rl 6) s m args below meth c H locs 0 0 Q (F0 m 166 ls [.int z_847_0]) := by
                intro z_847_0 hz_847_0
                refine lv_istore (lv' := [(6, .int z_847_0), (5, .int z_646_0), (4, .int z_445_0), (3, .int z_244_0), (0, .ref (adr t)), (1, .ref (adr b)), (2, .int x2)]) hx hb d_Three_narrow_166 hl (by decide) rfl (fun ls hl => ?_)
                refine lv_aload_n hx hb d_Three_narrow_168 rfl (lv_at hl 4 rfl) ?_
                refine lv_iload_n hx hb d_Three_narrow_169 rfl (lv_at hl 6 rfl) ?_
                refine lv_iload_n hx hb d_Three_narrow_170 rfl (lv_at hl 3 rfl) ?_
                refine lv_iload hx hb d_Three_narrow_171 (lv_at hl 2 rfl) ?_
                refine lv_iload hx hb d_Three_narrow_173 (lv_at hl 1 rfl) ?_
                refine lv_iload hx hb d_Three_narrow_175 (lv_at hl 0 rfl) ?_
                refine lv_aload_n hx hb d_Three_narrow_177 rfl (lv_at hl 4 rfl) ?_
                refine w_gf hx hb hK i_Sum hown hP hN hT1 rfl 1 (by decide) t_512 rfl rfl d_Three_narrow_178 ?_
                refine lv_aload_n hx hb d_Three_narrow_181 rfl (lv_at hl 4 rfl) ?_
                refine w_gf hx hb hK i_Sum hown hP hN hT1 rfl 2 (by decide) t_513 rfl rfl d_Three_narrow_182 ?_
                have K_1048 : ∀ (b_1048_0 : Bool), (b_1048_0 = true ↔ ((cb : Int) = (cd : Int) ∧ ¬ (cb : Int) = (ca : Int))) → W p l e (rl 6) s m args below meth c H locs 0 0 Q (F0 m 204 ls [.int (bi b_1048_0), .int z_847_0, .int z_646_0, .int z_445_0, .int z_244_0, .int x2, .ref (adr t)]) := by
                  intro b_1048_0 hb_1048_0
                  have hsp9 := th_sp (R := (R3 0)) (a := ca) (b := cb) (c := cd) (bl := tI f) (bh := tI g) (x := x2.toInt) (by unfold tI; omega) hz_244_0 hz_445_0 hz_646_0 hz_847_0 hb_1048_0
                  have hr3 : -100 ≤ z_244_0.toInt ∧ z_244_0.toInt ≤ z_445_0.toInt ∧ z_445_0.toInt ≤ 100 := by rw [hz_244_0, hz_445_0]; split <;> omega
                  have hr4 : -100 ≤ z_646_0.toInt ∧ z_646_0.toInt ≤ z_847_0.toInt ∧ z_847_0.toInt ≤ 100 := by rw [hz_646_0, hz_847_0]; split <;> omega
                  have htw9 : b_1048_0 = true → z_244_0.toInt = z_646_0.toInt ∧ z_445_0.toInt = z_847_0.toInt := fun h => by have q := hb_1048_0.mp h; have e9 : cb = cd := (by omega); rw [hz_244_0, hz_445_0, hz_646_0, hz_847_0, if_pos q.2, if_pos q.2, if_pos (by omega), if_pos (by omega), e9]; exact ⟨rfl, rfl⟩
                  refine x_A (As := [.int x2, .int z_244_0, .int z_445_0, .int z_646_0, .int z_847_0, .int (bi b_1048_0)]) (rest := []) hx hb hml hown hK (k_Sum_span l D cA adr N hi cn1 t xa xb xc e1 gd hT1 hN x2 z_244_0 z_445_0 z_646_0 z_847_0 b_1048_0 (by omega) (by omega) (by omega) htw9) t_276 t_12 t_218 t_220 t_219 t_274 t_275 ⟨by decide, by decide, yk_Sum_span.2.2⟩ ⟨Nat.le_of_ble_eq_true rfl, Nat.le_of_ble_eq_true rfl⟩ (w_rec hK hP hN hT1 rfl) hP rfl hl.1 rfl (Nat.le_of_ble_eq_true rfl) d_Three_narrow_204 ⟨Nat.le_of_ble_eq_true rfl, Nat.le_of_ble_eq_true rfl⟩ hS (fun q h => h) (fun r H locs hq _ hS => ?_)
                  obtain ⟨cn_1049, e_1049, rfl, hFt_1049, hT_1049, hSp_1049, hP⟩ := hq
                  have hx_1049_1050 : cn_1049 b = .inr (2, [.ref (adr (b + 1)), .ref (adr (b + 2)), .int (bi ch)]) := (hFt_1049 b (by omega)).trans hB1.1
                  have hx_1049_1051 : cn_1049 (b + 1) = .inl (cA 0, 10, .inl f) := (hFt_1049 (b + 1) (by omega)).trans hB1.2.1
                  have hx_1049_1052 : cn_1049 (b + 2) = .inl (cA 0, 10, .inl g) := (hFt_1049 (b + 2) (by omega)).trans hB1.2.2
                  refine W.eq (g2 := F0 m 207 ls []) rfl ?_
                  refine x_iinc (k := 6) (lv' := fun v_ => [(2, .int v_), (6, .int z_847_0), (5, .int z_646_0), (4, .int z_445_0), (3, .int z_244_0), (0, .ref (adr t)), (1, .ref (adr b))]) hx hb d_Three_narrow_207 hl rfl rfl (by decide) (by omega) (by decide) (fun v_ => rfl) (fun z_1053 tz_1053 ls hl => ?_)
                  refine lv_goto (tgt := 52) hx hb d_Three_narrow_210 (by decide) ?_
                  have hE9 := th_step hsp9 (hSp_1049 _ hE1)
                  rw [← tz_1053] at hE9
                  exact ih_32 z_1053 cn_1049 e_1049 _ _ _ (by omega) (by omega) (hF1.tr (FrTB.t hFt_1049)) hT_1049 ⟨hx_1049_1050, hx_1049_1051, hx_1049_1052⟩ hE9 hP hS (lv_sub hl [5, 6, 0] rfl)
                refine b_icmp_ne (tgt := 203) hx hb d_Three_narrow_185 (by decide) hxb hxc (fun c_1054 => ?_) (fun c_1054 => ?_)
                · refine lv_iconst (v := 0) hx hb d_Three_narrow_203 (by decide) ?_
                  exact K_1048 false ⟨fun h => absurd h (by decide), fun h => absurd h (by omega)⟩
                · refine lv_aload_n hx hb d_Three_narrow_188 rfl (lv_at hl 4 rfl) ?_
                  refine w_gf hx hb hK i_Sum hown hP hN hT1 rfl 1 (by decide) t_512 rfl rfl d_Three_narrow_189 ?_
                  refine lv_aload_n hx hb d_Three_narrow_192 rfl (lv_at hl 4 rfl) ?_
                  refine w_gf hx hb hK i_Sum hown hP hN hT1 rfl 0 (by decide) t_511 rfl rfl d_Three_narrow_193 ?_
                  refine b_icmp_eq (tgt := 203) hx hb d_Three_narrow_196 (by decide) hxb hxa (fun c_1055 => ?_) (fun c_1055 => ?_)
                  · refine lv_iconst (v := 0) hx hb d_Three_narrow_203 (by decide) ?_
                    exact K_1048 false ⟨fun h => absurd h (by decide), fun h => absurd h (by omega)⟩
                  · refine lv_iconst (v := 1) hx hb d_Three_narrow_199 (by decide) ?_
                    refine lv_goto (tgt := 204) hx hb d_Three_narrow_200 (by decide) ?_
                    exact K_1048 true ⟨fun _ => by omega, fun _ => rfl⟩
              refine b_icmp_ne (tgt := 157) hx hb d_Three_narrow_150 (by decide) hxc hxa (fun c_1056 => ?_) (fun c_1056 => ?_)
              · refine lv_aload_n hx hb d_Three_narrow_157 rfl (lv_at hl 4 rfl) ?_
                refine w_gfN hx hb hK i_Box hown hP hMb.1 hB1.1 rfl 1 (by decide) t_47 rfl rfl d_Three_narrow_158 ?_
                refine lv_aload_n hx hb d_Three_narrow_161 rfl (lv_at hl 3 rfl) ?_
                refine w_gf hx hb hK i_Sum hown hP hN hT1 rfl 2 (by decide) t_513 rfl rfl d_Three_narrow_162 ?_
                refine w_ld hx hb hK hP hMb.2.2 hB1.2.2 (cd) hxc (by omega) (show cd < 10 by omega) d_Three_narrow_165 (fun z_1057 ez_1057 => ?_)
                subst ez_1057
                exact K_847 (g cd) (by omega)
              · refine lv_iload_n hx hb d_Three_narrow_153 rfl (lv_at hl 5 rfl) ?_
                refine lv_goto (tgt := 166) hx hb d_Three_narrow_154 (by decide) ?_
                exact K_847 x2 (by omega)
            refine b_icmp_ne (tgt := 131) hx hb d_Three_narrow_124 (by decide) hxc hxa (fun c_1058 => ?_) (fun c_1058 => ?_)
            · refine lv_aload_n hx hb d_Three_narrow_131 rfl (lv_at hl 3 rfl) ?_
              refine w_gfN hx hb hK i_Box hown hP hMb.1 hB1.1 rfl 0 (by decide) t_41 rfl rfl d_Three_narrow_132 ?_
              refine lv_aload_n hx hb d_Three_narrow_135 rfl (lv_at hl 2 rfl) ?_
              refine w_gf hx hb hK i_Sum hown hP hN hT1 rfl 2 (by decide) t_513 rfl rfl d_Three_narrow_136 ?_
              refine w_ld hx hb hK hP hMb.2.1 hB1.2.1 (cd) hxc (by omega) (show cd < 10 by omega) d_Three_narrow_139 (fun z_1059 ez_1059 => ?_)
              subst ez_1059
              exact K_646 (f cd) (by omega)
            · refine lv_iload_n hx hb d_Three_narrow_127 rfl (lv_at hl 4 rfl) ?_
              refine lv_goto (tgt := 140) hx hb d_Three_narrow_128 (by decide) ?_
              exact K_646 x2 (by omega)
          refine b_icmp_ne (tgt := 105) hx hb d_Three_narrow_98 (by decide) hxb hxa (fun c_1060 => ?_) (fun c_1060 => ?_)
          · refine lv_aload_n hx hb d_Three_narrow_105 rfl (lv_at hl 2 rfl) ?_
            refine w_gfN hx hb hK i_Box hown hP hMb.1 hB1.1 rfl 1 (by decide) t_47 rfl rfl d_Three_narrow_106 ?_
            refine lv_aload_n hx hb d_Three_narrow_109 rfl (lv_at hl 1 rfl) ?_
            refine w_gf hx hb hK i_Sum hown hP hN hT1 rfl 1 (by decide) t_512 rfl rfl d_Three_narrow_110 ?_
            refine w_ld hx hb hK hP hMb.2.2 hB1.2.2 (cb) hxb (by omega) (show cb < 10 by omega) d_Three_narrow_113 (fun z_1061 ez_1061 => ?_)
            subst ez_1061
            exact K_445 (g cb) (by omega)
          · refine lv_iload_n hx hb d_Three_narrow_101 rfl (lv_at hl 3 rfl) ?_
            refine lv_goto (tgt := 114) hx hb d_Three_narrow_102 (by decide) ?_
            exact K_445 x2 (by omega)
        refine b_icmp_ne (tgt := 80) hx hb d_Three_narrow_73 (by decide) hxb hxa (fun c_1062 => ?_) (fun c_1062 => ?_)
        · refine lv_aload_n hx hb d_Three_narrow_80 rfl (lv_at hl 1 rfl) ?_
          refine w_gfN hx hb hK i_Box hown hP hMb.1 hB1.1 rfl 0 (by decide) t_41 rfl rfl d_Three_narrow_81 ?_
          refine lv_aload_n hx hb d_Three_narrow_84 rfl (lv_at hl 0 rfl) ?_
          refine w_gf hx hb hK i_Sum hown hP hN hT1 rfl 1 (by decide) t_512 rfl rfl d_Three_narrow_85 ?_
          refine w_ld hx hb hK hP hMb.2.1 hB1.2.1 (cb) hxb (by omega) (show cb < 10 by omega) d_Three_narrow_88 (fun z_1063 ez_1063 => ?_)
          subst ez_1063
          exact K_244 (f cb) (by omega)
        · refine lv_iload_n hx hb d_Three_narrow_76 rfl (lv_at hl 2 rfl) ?_
          refine lv_goto (tgt := 89) hx hb d_Three_narrow_77 (by decide) ?_
          exact K_244 x2 (by omega)
  obtain ⟨ez, hez⟩ : ∃ q : Nat → Int32, q = (fun k => match k with | 0 => (200 : Int32) | 1 => (-200 : Int32) | 2 => (200 : Int32) | 3 => (-200 : Int32) | 4 => (200 : Int32) | _ => (-200 : Int32)) := ⟨_, rfl⟩
  exact L_32 (_ + 1) (f ca) cn_26 ez _ _ _ (Nat.lt_succ_self _) (by omega) (show FrTB t b cn cn_26 from fun k a0 a1 a2 a3 => hfr_26 k a0 a1 a2 a3) (by rw [hez]; exact ho_26_30) ⟨ho_26_27, ho_26_28, ho_26_29⟩ (by rw [hez]; show Ends _ 200 (200 : Int32).toInt (-200 : Int32).toInt (200 : Int32).toInt (-200 : Int32).toInt (200 : Int32).toInt (-200 : Int32).toInt; rw [kc_200, kc_m200]; exact Ends.none (fun x y z h => by have h1 := h.1.1; have h2 := h.2; unfold tI at h1; omega)) hP hS (lv_sub hl [1, 2, 0] rfl)
set_option maxHeartbeats 4000000 in
set_option maxRecDepth 20000 in
theorem k_narrow_Product (l : Launch) (D : va_G) (cA : Nat → ClassId) (adr : Nat → Nat) (N : List Nat) (hi : wI N adr) (cn : Nat → va_E) (t : Nat) (xa xb xc : Int32) (e0 : Nat → Int32) (gd : Bool) (hT : TP cn t 8 xa xb xc e0 gd) (hN : t ∈ N) (b : Nat) (f g : Nat → Int32) (ch : Bool) (hB : BP cA adr cn b f g ch) (hMb : BM N b) (hdt : t ≠ b ∧ t ≠ b + 1 ∧ t ≠ b + 2) (nn : Nat) (hn10 : nn ≤ 10) (hne : Ne nn (tI f) (tI g)) (hrg : ∀ k, k < nn → -100 ≤ tI f k ∧ tI g k ≤ 100) (ca cb cd : Nat) (hxa : xa.toInt = (ca : Int)) (hxb : xb.toInt = (cb : Int)) (hxc : xc.toInt = (cd : Int)) (hca : ca < nn) (hcb : cb < nn) (hcd : cd < nn) : Ct l y_Three_narrow b_Three_narrow 7 (some .boolean) 6 D cA [.ref (adr t), .ref (adr b)] (fun H => va_P D classes (wl N adr cn) H) (fun r H => ∃ (cn2 : Nat → va_E) (f2 g2 : Nat → Int32) (e2 : Nat → Int32) (q c2 : Bool), r = some (.int (bi q)) ∧ FrTB t b cn cn2 ∧ TP cn2 t 8 xa xb xc e2 gd ∧ BP cA adr cn2 b f2 g2 c2 ∧ NOK nn (Hull 1 ca cb cd) (tI f) (tI g) q (tI f2) (tI g2) ch c2 ∧ va_P D classes (wl N adr cn2) H) (wA N adr) := by
  refine Ct.mk (by decide) (Nat.le_of_ble_eq_true rfl) ?_
  intro p e s m args below meth c Q H locs ls hx hb hr hml hlk hown hin hK hQ hS hP hl
  have hl : lv_has ls 7 [(0, .ref (adr t)), (1, .ref (adr b))] := hl
  have hown : s.vm.findClass "RangeSheet$Three" = some m.cls := hown
  have hra := hrg ca hca; have hrb := hrg cb hcb; have hrc := hrg cd hcd; have hna := hne ca hca; have hnb := hne cb hcb; have hnc := hne cd hcd; unfold tI at hra hrb hrc hna hnb hnc
  refine lv_aload_n hx hb d_Three_narrow_0 rfl (lv_at hl 0 rfl) ?_
  refine lv_sipush (v := 200) hx hb d_Three_narrow_1 (by decide) ?_
  refine w_pf hx hb hK i_Product t_Product t_Product_ok n_Product hown hi hP hS wA_mem hN hT rfl 3 (by decide) t_514 rfl rfl rfl rfl rfl d_Three_narrow_4 (fun H locs hP hS => ?_)
  obtain ⟨cn_1, ecn_1⟩ : ∃ q : Nat → va_E, q = va_up cn t (.inr (8, [.int xa, .int xb, .int xc, .int (200 : Int32), .int (e0 1), .int (e0 2), .int (e0 3), .int (e0 4), .int (e0 5), .int (bi gd)])) := ⟨_, rfl⟩
  have hP : va_P D classes (wl N adr cn_1) H := by rw [ecn_1]; exact hP
  have ho_1_2 : cn_1 b = .inr (2, [.ref (adr (b + 1)), .ref (adr (b + 2)), .int (bi ch)]) := by rw [ecn_1, va_up_ne _ _ (by omega)]; exact hB.1
  have ho_1_3 : cn_1 (b + 1) = .inl (cA 0, 10, .inl f) := by rw [ecn_1, va_up_ne _ _ (by omega)]; exact hB.2.1
  have ho_1_4 : cn_1 (b + 2) = .inl (cA 0, 10, .inl g) := by rw [ecn_1, va_up_ne _ _ (by omega)]; exact hB.2.2
  have ho_1_5 : cn_1 t = .inr (8, [.int xa, .int xb, .int xc, .int (200 : Int32), .int (e0 1), .int (e0 2), .int (e0 3), .int (e0 4), .int (e0 5), .int (bi gd)]) := by rw [ecn_1]; exact va_up_self _ _ _
  have hfr_1 : ∀ k, k ≠ t → k ≠ b → k ≠ b + 1 → k ≠ b + 2 → cn_1 k = cn k := fun k a0 a1 a2 a3 => (congrFun ecn_1 k).trans ((va_up_ne _ _ (by omega)).trans rfl)
  refine lv_aload_n hx hb d_Three_narrow_7 rfl (lv_at hl 0 rfl) ?_
  refine lv_sipush (v := 200) hx hb d_Three_narrow_8 (by decide) ?_
  refine w_pf hx hb hK i_Product t_Product t_Product_ok n_Product hown hi hP hS wA_mem hN ho_1_5 rfl 5 (by decide) t_516 rfl rfl rfl rfl rfl d_Three_narrow_11 (fun H locs hP hS => ?_)
  obtain ⟨cn_6, ecn_6⟩ : ∃ q : Nat → va_E, q = va_up cn_1 t (.inr (8, [.int xa, .int xb, .int xc, .int (200 : Int32), .int (e0 1), .int (200 : Int32), .int (e0 3), .int (e0 4), .int (e0 5), .int (bi gd)])) := ⟨_, rfl⟩
  have hP : va_P D classes (wl N adr cn_6) H := by rw [ecn_6]; exact hP
  have ho_6_7 : cn_6 b = .inr (2, [.ref (adr (b + 1)), .ref (adr (b + 2)), .int (bi ch)]) := by rw [ecn_6, va_up_ne _ _ (by omega)]; exact ho_1_2
  have ho_6_8 : cn_6 (b + 1) = .inl (cA 0, 10, .inl f) := by rw [ecn_6, va_up_ne _ _ (by omega)]; exact ho_1_3
  have ho_6_9 : cn_6 (b + 2) = .inl (cA 0, 10, .inl g) := by rw [ecn_6, va_up_ne _ _ (by omega)]; exact ho_1_4
  have ho_6_10 : cn_6 t = .inr (8, [.int xa, .int xb, .int xc, .int (200 : Int32), .int (e0 1), .int (200 : Int32), .int (e0 3), .int (e0 4), .int (e0 5), .int (bi gd)]) := by rw [ecn_6]; exact va_up_self _ _ _
  have hfr_6 : ∀ k, k ≠ t → k ≠ b → k ≠ b + 1 → k ≠ b + 2 → cn_6 k = cn k := fun k a0 a1 a2 a3 => (congrFun ecn_6 k).trans ((va_up_ne _ _ (by omega)).trans (hfr_1 k a0 a1 a2 a3))
  refine lv_aload_n hx hb d_Three_narrow_14 rfl (lv_at hl 0 rfl) ?_
  refine lv_sipush (v := 200) hx hb d_Three_narrow_15 (by decide) ?_
  refine w_pf hx hb hK i_Product t_Product t_Product_ok n_Product hown hi hP hS wA_mem hN ho_6_10 rfl 7 (by decide) t_518 rfl rfl rfl rfl rfl d_Three_narrow_18 (fun H locs hP hS => ?_)
  obtain ⟨cn_11, ecn_11⟩ : ∃ q : Nat → va_E, q = va_up cn_6 t (.inr (8, [.int xa, .int xb, .int xc, .int (200 : Int32), .int (e0 1), .int (200 : Int32), .int (e0 3), .int (200 : Int32), .int (e0 5), .int (bi gd)])) := ⟨_, rfl⟩
  have hP : va_P D classes (wl N adr cn_11) H := by rw [ecn_11]; exact hP
  have ho_11_12 : cn_11 b = .inr (2, [.ref (adr (b + 1)), .ref (adr (b + 2)), .int (bi ch)]) := by rw [ecn_11, va_up_ne _ _ (by omega)]; exact ho_6_7
  have ho_11_13 : cn_11 (b + 1) = .inl (cA 0, 10, .inl f) := by rw [ecn_11, va_up_ne _ _ (by omega)]; exact ho_6_8
  have ho_11_14 : cn_11 (b + 2) = .inl (cA 0, 10, .inl g) := by rw [ecn_11, va_up_ne _ _ (by omega)]; exact ho_6_9
  have ho_11_15 : cn_11 t = .inr (8, [.int xa, .int xb, .int xc, .int (200 : Int32), .int (e0 1), .int (200 : Int32), .int (e0 3), .int (200 : Int32), .int (e0 5), .int (bi gd)]) := by rw [ecn_11]; exact va_up_self _ _ _
  have hfr_11 : ∀ k, k ≠ t → k ≠ b → k ≠ b + 1 → k ≠ b + 2 → cn_11 k = cn k := fun k a0 a1 a2 a3 => (congrFun ecn_11 k).trans ((va_up_ne _ _ (by omega)).trans (hfr_6 k a0 a1 a2 a3))
  refine lv_aload_n hx hb d_Three_narrow_21 rfl (lv_at hl 0 rfl) ?_
  refine lv_sipush (v := (-200)) hx hb d_Three_narrow_22 (by decide) ?_
  refine w_pf hx hb hK i_Product t_Product t_Product_ok n_Product hown hi hP hS wA_mem hN ho_11_15 rfl 4 (by decide) t_515 rfl rfl rfl rfl rfl d_Three_narrow_25 (fun H locs hP hS => ?_)
  obtain ⟨cn_16, ecn_16⟩ : ∃ q : Nat → va_E, q = va_up cn_11 t (.inr (8, [.int xa, .int xb, .int xc, .int (200 : Int32), .int (-200 : Int32), .int (200 : Int32), .int (e0 3), .int (200 : Int32), .int (e0 5), .int (bi gd)])) := ⟨_, rfl⟩
  have hP : va_P D classes (wl N adr cn_16) H := by rw [ecn_16]; exact hP
  have ho_16_17 : cn_16 b = .inr (2, [.ref (adr (b + 1)), .ref (adr (b + 2)), .int (bi ch)]) := by rw [ecn_16, va_up_ne _ _ (by omega)]; exact ho_11_12
  have ho_16_18 : cn_16 (b + 1) = .inl (cA 0, 10, .inl f) := by rw [ecn_16, va_up_ne _ _ (by omega)]; exact ho_11_13
  have ho_16_19 : cn_16 (b + 2) = .inl (cA 0, 10, .inl g) := by rw [ecn_16, va_up_ne _ _ (by omega)]; exact ho_11_14
  have ho_16_20 : cn_16 t = .inr (8, [.int xa, .int xb, .int xc, .int (200 : Int32), .int (-200 : Int32), .int (200 : Int32), .int (e0 3), .int (200 : Int32), .int (e0 5), .int (bi gd)]) := by rw [ecn_16]; exact va_up_self _ _ _
  have hfr_16 : ∀ k, k ≠ t → k ≠ b → k ≠ b + 1 → k ≠ b + 2 → cn_16 k = cn k := fun k a0 a1 a2 a3 => (congrFun ecn_16 k).trans ((va_up_ne _ _ (by omega)).trans (hfr_11 k a0 a1 a2 a3))
  refine lv_aload_n hx hb d_Three_narrow_28 rfl (lv_at hl 0 rfl) ?_
  refine lv_sipush (v := (-200)) hx hb d_Three_narrow_29 (by decide) ?_
  refine w_pf hx hb hK i_Product t_Product t_Product_ok n_Product hown hi hP hS wA_mem hN ho_16_20 rfl 6 (by decide) t_517 rfl rfl rfl rfl rfl d_Three_narrow_32 (fun H locs hP hS => ?_)
  obtain ⟨cn_21, ecn_21⟩ : ∃ q : Nat → va_E, q = va_up cn_16 t (.inr (8, [.int xa, .int xb, .int xc, .int (200 : Int32), .int (-200 : Int32), .int (200 : Int32), .int (-200 : Int32), .int (200 : Int32), .int (e0 5), .int (bi gd)])) := ⟨_, rfl⟩
  have hP : va_P D classes (wl N adr cn_21) H := by rw [ecn_21]; exact hP
  have ho_21_22 : cn_21 b = .inr (2, [.ref (adr (b + 1)), .ref (adr (b + 2)), .int (bi ch)]) := by rw [ecn_21, va_up_ne _ _ (by omega)]; exact ho_16_17
  have ho_21_23 : cn_21 (b + 1) = .inl (cA 0, 10, .inl f) := by rw [ecn_21, va_up_ne _ _ (by omega)]; exact ho_16_18
  have ho_21_24 : cn_21 (b + 2) = .inl (cA 0, 10, .inl g) := by rw [ecn_21, va_up_ne _ _ (by omega)]; exact ho_16_19
  have ho_21_25 : cn_21 t = .inr (8, [.int xa, .int xb, .int xc, .int (200 : Int32), .int (-200 : Int32), .int (200 : Int32), .int (-200 : Int32), .int (200 : Int32), .int (e0 5), .int (bi gd)]) := by rw [ecn_21]; exact va_up_self _ _ _
  have hfr_21 : ∀ k, k ≠ t → k ≠ b → k ≠ b + 1 → k ≠ b + 2 → cn_21 k = cn k := fun k a0 a1 a2 a3 => (congrFun ecn_21 k).trans ((va_up_ne _ _ (by omega)).trans (hfr_16 k a0 a1 a2 a3))
  refine lv_aload_n hx hb d_Three_narrow_35 rfl (lv_at hl 0 rfl) ?_
  refine lv_sipush (v := (-200)) hx hb d_Three_narrow_36 (by decide) ?_
  refine w_pf hx hb hK i_Product t_Product t_Product_ok n_Product hown hi hP hS wA_mem hN ho_21_25 rfl 8 (by decide) t_519 rfl rfl rfl rfl rfl d_Three_narrow_39 (fun H locs hP hS => ?_)
  obtain ⟨cn_26, ecn_26⟩ : ∃ q : Nat → va_E, q = va_up cn_21 t (.inr (8, [.int xa, .int xb, .int xc, .int (200 : Int32), .int (-200 : Int32), .int (200 : Int32), .int (-200 : Int32), .int (200 : Int32), .int (-200 : Int32), .int (bi gd)])) := ⟨_, rfl⟩
  have hP : va_P D classes (wl N adr cn_26) H := by rw [ecn_26]; exact hP
  have ho_26_27 : cn_26 b = .inr (2, [.ref (adr (b + 1)), .ref (adr (b + 2)), .int (bi ch)]) := by rw [ecn_26, va_up_ne _ _ (by omega)]; exact ho_21_22
  have ho_26_28 : cn_26 (b + 1) = .inl (cA 0, 10, .inl f) := by rw [ecn_26, va_up_ne _ _ (by omega)]; exact ho_21_23
  have ho_26_29 : cn_26 (b + 2) = .inl (cA 0, 10, .inl g) := by rw [ecn_26, va_up_ne _ _ (by omega)]; exact ho_21_24
  have ho_26_30 : cn_26 t = .inr (8, [.int xa, .int xb, .int xc, .int (200 : Int32), .int (-200 : Int32), .int (200 : Int32), .int (-200 : Int32), .int (200 : Int32), .int (-200 : Int32), .int (bi gd)]) := by rw [ecn_26]; exact va_up_self _ _ _
  have hfr_26 : ∀ k, k ≠ t → k ≠ b → k ≠ b + 1 → k ≠ b + 2 → cn_26 k = cn k := fun k a0 a1 a2 a3 => (congrFun ecn_26 k).trans ((va_up_ne _ _ (by omega)).trans (hfr_21 k a0 a1 a2 a3))
  refine lv_aload_n hx hb d_Three_narrow_42 rfl (lv_at hl 1 rfl) ?_
  refine w_gfN hx hb hK i_Box hown hP hMb.1 ho_26_27 rfl 0 (by decide) t_41 rfl rfl d_Three_narrow_43 ?_
  refine lv_aload_n hx hb d_Three_narrow_46 rfl (lv_at hl 0 rfl) ?_
  refine w_gf hx hb hK i_Product hown hP hN ho_26_30 rfl 0 (by decide) t_511 rfl rfl d_Three_narrow_47 ?_
  refine w_ld hx hb hK hP hMb.2.1 ho_26_28 (ca) hxa (by omega) (show ca < 10 by omega) d_Three_narrow_50 (fun z_31 ez_31 => ?_)
  subst ez_31
  refine lv_istore_n (lv' := [(2, .int (f ca)), (0, .ref (adr t)), (1, .ref (adr b))]) hx hb d_Three_narrow_51 rfl hl (by decide) rfl (fun ls hl => ?_)
  have L_32 : ∀ (n : Nat) (x2 : Int32) (cn1 : Nat → va_E) (e1 : Nat → Int32) (H : Heap) (locs : List Loc) (ls : Array Slot), ((g ca).toInt + 1 - x2.toInt).toNat < n → ((f ca).toInt ≤ x2.toInt ∧ x2.toInt ≤ (g ca).toInt + 1) → (FrTB t b cn cn1) → (TP cn1 t 8 xa xb xc e1 gd) → (BP cA adr cn1 b f g ch) → (EE (fun x y z => SolG (R3 1) ca cb cd (tI f) (tI g) x y z ∧ x < x2.toInt) e1) → va_P D classes (wl N adr cn1) H → va_S (wA N adr) s.heap H locs → lv_has ls 7 [(0, .ref (adr t)), (1, .ref (adr b)), (2, .int x2)] → W p l e (rl 6) s m args below meth c H locs 0 0 Q (F0 m 52 ls []) := by
    intro n
    induction n with
    | zero => intro x2 cn1 e1 H locs ls hmu; exact absurd hmu (Nat.not_lt_zero _)
    | succ n ih_32 =>
      intro x2 cn1 e1 H locs ls hmu hx2 hF1 hT1 hB1 hE1 hP hS hl
      refine lv_iload_n hx hb d_Three_narrow_52 rfl (lv_at hl 2 rfl) ?_
      refine lv_aload_n hx hb d_Three_narrow_53 rfl (lv_at hl 1 rfl) ?_
      refine w_gfN hx hb hK i_Box hown hP hMb.1 hB1.1 rfl 1 (by decide) t_47 rfl rfl d_Three_narrow_54 ?_
      refine lv_aload_n hx hb d_Three_narrow_57 rfl (lv_at hl 0 rfl) ?_
      refine w_gf hx hb hK i_Product hown hP hN hT1 rfl 0 (by decide) t_511 rfl rfl d_Three_narrow_58 ?_
      refine w_ld hx hb hK hP hMb.2.2 hB1.2.2 (ca) hxa (by omega) (show ca < 10 by omega) d_Three_narrow_61 (fun z_33 ez_33 => ?_)
      subst ez_33
      refine b_icmp_gt (tgt := 213) hx hb d_Three_narrow_62 (by decide) rfl rfl (fun c_34 => ?_) (fun c_34 => ?_)
      · refine lv_aload_n hx hb d_Three_narrow_213 rfl (lv_at hl 1 rfl) ?_
        refine lv_aload_n hx hb d_Three_narrow_214 rfl (lv_at hl 0 rfl) ?_
        refine w_gf hx hb hK i_Product hown hP hN hT1 rfl 0 (by decide) t_511 rfl rfl d_Three_narrow_215 ?_
        refine lv_aload_n hx hb d_Three_narrow_218 rfl (lv_at hl 0 rfl) ?_
        refine w_gf hx hb hK i_Product hown hP hN hT1 rfl 3 (by decide) t_514 rfl rfl d_Three_narrow_219 ?_
        refine lv_aload_n hx hb d_Three_narrow_222 rfl (lv_at hl 0 rfl) ?_
        refine w_gf hx hb hK i_Product hown hP hN hT1 rfl 4 (by decide) t_515 rfl rfl d_Three_narrow_223 ?_
        refine x_V (As := [.int xa, .int (e1 0), .int (e1 1)]) (rest := []) hx hb hml hown hK (k_Box_cut l D cA adr N hi cn1 b f g ch ⟨hB1.1, hB1.2.1, hB1.2.2⟩ hMb ca xa (e1 0) (e1 1) hxa (by omega)) t_176 t_2 t_282 t_174 t_175 yk_Box_cut ⟨Nat.le_of_ble_eq_true rfl, Nat.le_of_ble_eq_true rfl⟩ (w_rec hK hP hMb.1 hB1.1 rfl) hP rfl hl.1 rfl (Nat.le_of_ble_eq_true rfl) d_Three_narrow_226 ⟨Nat.le_of_ble_eq_true rfl, Nat.le_of_ble_eq_true rfl⟩ hS (fun q h => h) (fun r H locs hq _ hS => ?_)
        obtain ⟨cn_35, lo_35, hh_35, hlo_35, hhh_35, rfl, hFb_35, hB_35, hP⟩ := hq
        obtain ⟨ch_35, hch_35⟩ : ∃ q : Bool, q = (ch || decide ((f ca).toInt < (e1 0).toInt ∨ (e1 1).toInt < (g ca).toInt)) := ⟨_, rfl⟩
        rw [← hch_35] at hB_35
        have hx_35_36 : cn_35 t = .inr (8, [.int xa, .int xb, .int xc, .int (e1 0), .int (e1 1), .int (e1 2), .int (e1 3), .int (e1 4), .int (e1 5), .int (bi gd)]) := (hFb_35 t (by omega) (by omega) (by omega)).trans hT1
        have hfr_35 : FrTB t b cn cn_35 := hF1.tr (FrTB.b hFb_35)
        refine W.eq (g2 := F0 m 229 ls [.int (bi (decide (lo_35.toInt ≤ hh_35.toInt)))]) rfl ?_
        refine b_bool_eq (tgt := 274) hx hb d_Three_narrow_229 (by decide) (fun c_37 => ?_) (fun c_37 => ?_)
        · have hc_37 := of_decide_eq_false c_37
          refine lv_iconst (v := 0) hx hb d_Three_narrow_274 (by decide) ?_
          refine W.eq (g2 := F0 m 275 ls [.int (bi false)]) rfl ?_
          refine e_z hx hb hr hlk hQ hS d_Three_narrow_275 ?_
          refine ⟨cn_35, (upd f ca lo_35), (upd g ca hh_35), e1, false, ch_35, rfl, hfr_35, hx_35_36, ⟨hB_35.1, hB_35.2.1, hB_35.2.2⟩, ?_, hP⟩
          have hE : Ends (SolG (R3 1) ca cb cd (tI f) (tI g)) 200 (e1 0).toInt (e1 1).toInt (e1 2).toInt (e1 3).toInt (e1 4).toInt (e1 5).toInt := hE1.congr (fun x y z => ⟨fun h => h.1, fun h => ⟨h, by have h1 := h.1; unfold tI at h1; omega⟩⟩)
          have g0 : ¬ tI (upd f ca lo_35) ca ≤ tI (upd g ca hh_35) ca := by rw [tI_up, tI_up]; exact of_decide_eq_false c_37
          have hrz := hrg ca hca
          rw [← HullG_k]; exact hull3G (far := 200) (yl := tI (upd f ca lo_35)) (yh := tI (upd g ca hh_35)) (wl := tI (upd f ca lo_35)) (wh := tI (upd g ca hh_35)) (c1 := ch_35) (c2 := ch_35) hca hcb hcd hne (by omega) hE (tI_cut hlo_35 hhh_35) hch_35 (fun h => absurd h g0) (fun h => absurd h g0) ⟨fun h => absurd h (by decide), fun h => absurd h.1 g0⟩
        · have hc_37 := of_decide_eq_true c_37
          refine lv_aload_n hx hb d_Three_narrow_232 rfl (lv_at hl 1 rfl) ?_
          refine lv_aload_n hx hb d_Three_narrow_233 rfl (lv_at hl 0 rfl) ?_
          refine w_gf hx hb hK i_Product hown hP hN hx_35_36 rfl 1 (by decide) t_512 rfl rfl d_Three_narrow_234 ?_
          refine lv_aload_n hx hb d_Three_narrow_237 rfl (lv_at hl 0 rfl) ?_
          refine w_gf hx hb hK i_Product hown hP hN hx_35_36 rfl 5 (by decide) t_516 rfl rfl d_Three_narrow_238 ?_
          refine lv_aload_n hx hb d_Three_narrow_241 rfl (lv_at hl 0 rfl) ?_
          refine w_gf hx hb hK i_Product hown hP hN hx_35_36 rfl 6 (by decide) t_517 rfl rfl d_Three_narrow_242 ?_
          refine x_V (As := [.int xb, .int (e1 2), .int (e1 3)]) (rest := []) hx hb hml hown hK (k_Box_cut l D cA adr N hi cn_35 b (upd f ca lo_35) (upd g ca hh_35) ch_35 ⟨hB_35.1, hB_35.2.1, hB_35.2.2⟩ hMb cb xb (e1 2) (e1 3) hxb (by omega)) t_176 t_2 t_282 t_174 t_175 yk_Box_cut ⟨Nat.le_of_ble_eq_true rfl, Nat.le_of_ble_eq_true rfl⟩ (w_rec hK hP hMb.1 hB_35.1 rfl) hP rfl hl.1 rfl (Nat.le_of_ble_eq_true rfl) d_Three_narrow_245 ⟨Nat.le_of_ble_eq_true rfl, Nat.le_of_ble_eq_true rfl⟩ hS (fun q h => h) (fun r H locs hq _ hS => ?_)
          obtain ⟨cn_38, lo_38, hh_38, hlo_38, hhh_38, rfl, hFb_38, hB_38, hP⟩ := hq
          obtain ⟨ch_38, hch_38⟩ : ∃ q : Bool, q = (ch_35 || decide (((upd f ca lo_35) cb).toInt < (e1 2).toInt ∨ (e1 3).toInt < ((upd g ca hh_35) cb).toInt)) := ⟨_, rfl⟩
          rw [← hch_38] at hB_38
          have hx_38_39 : cn_38 t = .inr (8, [.int xa, .int xb, .int xc, .int (e1 0), .int (e1 1), .int (e1 2), .int (e1 3), .int (e1 4), .int (e1 5), .int (bi gd)]) := (hFb_38 t (by omega) (by omega) (by omega)).trans hx_35_36
          have hfr_38 : FrTB t b cn cn_38 := hfr_35.tr (FrTB.b hFb_38)
          refine W.eq (g2 := F0 m 248 ls [.int (bi (decide (lo_38.toInt ≤ hh_38.toInt)))]) rfl ?_
          refine b_bool_eq (tgt := 274) hx hb d_Three_narrow_248 (by decide) (fun c_40 => ?_) (fun c_40 => ?_)
          · have hc_40 := of_decide_eq_false c_40
            refine lv_iconst (v := 0) hx hb d_Three_narrow_274 (by decide) ?_
            refine W.eq (g2 := F0 m 275 ls [.int (bi false)]) rfl ?_
            refine e_z hx hb hr hlk hQ hS d_Three_narrow_275 ?_
            refine ⟨cn_38, (upd (upd f ca lo_35) cb lo_38), (upd (upd g ca hh_35) cb hh_38), e1, false, ch_38, rfl, hfr_38, hx_38_39, ⟨hB_38.1, hB_38.2.1, hB_38.2.2⟩, ?_, hP⟩
            have hE : Ends (SolG (R3 1) ca cb cd (tI f) (tI g)) 200 (e1 0).toInt (e1 1).toInt (e1 2).toInt (e1 3).toInt (e1 4).toInt (e1 5).toInt := hE1.congr (fun x y z => ⟨fun h => h.1, fun h => ⟨h, by have h1 := h.1; unfold tI at h1; omega⟩⟩)
            have g0 : tI (upd f ca lo_35) ca ≤ tI (upd g ca hh_35) ca := by rw [tI_up, tI_up]; exact of_decide_eq_true c_37
            have g1 : ¬ tI (upd (upd f ca lo_35) cb lo_38) cb ≤ tI (upd (upd g ca hh_35) cb hh_38) cb := by rw [tI_up, tI_up]; exact of_decide_eq_false c_40
            have hrz := hrg ca hca
            rw [← HullG_k]; exact hull3G (far := 200) (yl := tI (upd f ca lo_35)) (yh := tI (upd g ca hh_35)) (wl := tI (upd (upd f ca lo_35) cb lo_38)) (wh := tI (upd (upd g ca hh_35) cb hh_38)) (c1 := ch_35) (c2 := ch_38) hca hcb hcd hne (by omega) hE (tI_cut hlo_35 hhh_35) hch_35 (fun _ => ⟨tI_cut hlo_38 hhh_38, hch_38⟩) (fun _ h => absurd h g1) ⟨fun h => absurd h (by decide), fun h => absurd h.2.1 g1⟩
          · have hc_40 := of_decide_eq_true c_40
            refine lv_aload_n hx hb d_Three_narrow_251 rfl (lv_at hl 1 rfl) ?_
            refine lv_aload_n hx hb d_Three_narrow_252 rfl (lv_at hl 0 rfl) ?_
            refine w_gf hx hb hK i_Product hown hP hN hx_38_39 rfl 2 (by decide) t_513 rfl rfl d_Three_narrow_253 ?_
            refine lv_aload_n hx hb d_Three_narrow_256 rfl (lv_at hl 0 rfl) ?_
            refine w_gf hx hb hK i_Product hown hP hN hx_38_39 rfl 7 (by decide) t_518 rfl rfl d_Three_narrow_257 ?_
            refine lv_aload_n hx hb d_Three_narrow_260 rfl (lv_at hl 0 rfl) ?_
            refine w_gf hx hb hK i_Product hown hP hN hx_38_39 rfl 8 (by decide) t_519 rfl rfl d_Three_narrow_261 ?_
            refine x_V (As := [.int xc, .int (e1 4), .int (e1 5)]) (rest := []) hx hb hml hown hK (k_Box_cut l D cA adr N hi cn_38 b (upd (upd f ca lo_35) cb lo_38) (upd (upd g ca hh_35) cb hh_38) ch_38 ⟨hB_38.1, hB_38.2.1, hB_38.2.2⟩ hMb cd xc (e1 4) (e1 5) hxc (by omega)) t_176 t_2 t_282 t_174 t_175 yk_Box_cut ⟨Nat.le_of_ble_eq_true rfl, Nat.le_of_ble_eq_true rfl⟩ (w_rec hK hP hMb.1 hB_38.1 rfl) hP rfl hl.1 rfl (Nat.le_of_ble_eq_true rfl) d_Three_narrow_264 ⟨Nat.le_of_ble_eq_true rfl, Nat.le_of_ble_eq_true rfl⟩ hS (fun q h => h) (fun r H locs hq _ hS => ?_)
            obtain ⟨cn_41, lo_41, hh_41, hlo_41, hhh_41, rfl, hFb_41, hB_41, hP⟩ := hq
            obtain ⟨ch_41, hch_41⟩ : ∃ q : Bool, q = (ch_38 || decide (((upd (upd f ca lo_35) cb lo_38) cd).toInt < (e1 4).toInt ∨ (e1 5).toInt < ((upd (upd g ca hh_35) cb hh_38) cd).toInt)) := ⟨_, rfl⟩
            rw [← hch_41] at hB_41
            have hx_41_42 : cn_41 t = .inr (8, [.int xa, .int xb, .int xc, .int (e1 0), .int (e1 1), .int (e1 2), .int (e1 3), .int (e1 4), .int (e1 5), .int (bi gd)]) := (hFb_41 t (by omega) (by omega) (by omega)).trans hx_38_39
            have hfr_41 : FrTB t b cn cn_41 := hfr_38.tr (FrTB.b hFb_41)
            refine W.eq (g2 := F0 m 267 ls [.int (bi (decide (lo_41.toInt ≤ hh_41.toInt)))]) rfl ?_
            refine b_bool_eq (tgt := 274) hx hb d_Three_narrow_267 (by decide) (fun c_43 => ?_) (fun c_43 => ?_)
            · have hc_43 := of_decide_eq_false c_43
              refine lv_iconst (v := 0) hx hb d_Three_narrow_274 (by decide) ?_
              refine W.eq (g2 := F0 m 275 ls [.int (bi false)]) rfl ?_
              refine e_z hx hb hr hlk hQ hS d_Three_narrow_275 ?_
              refine ⟨cn_41, (upd (upd (upd f ca lo_35) cb lo_38) cd lo_41), (upd (upd (upd g ca hh_35) cb hh_38) cd hh_41), e1, false, ch_41, rfl, hfr_41, hx_41_42, ⟨hB_41.1, hB_41.2.1, hB_41.2.2⟩, ?_, hP⟩
              have hE : Ends (SolG (R3 1) ca cb cd (tI f) (tI g)) 200 (e1 0).toInt (e1 1).toInt (e1 2).toInt (e1 3).toInt (e1 4).toInt (e1 5).toInt := hE1.congr (fun x y z => ⟨fun h => h.1, fun h => ⟨h, by have h1 := h.1; unfold tI at h1; omega⟩⟩)
              have g0 : tI (upd f ca lo_35) ca ≤ tI (upd g ca hh_35) ca := by rw [tI_up, tI_up]; exact of_decide_eq_true c_37
              have g1 : tI (upd (upd f ca lo_35) cb lo_38) cb ≤ tI (upd (upd g ca hh_35) cb hh_38) cb := by rw [tI_up, tI_up]; exact of_decide_eq_true c_40
              have g2 : ¬ tI (upd (upd (upd f ca lo_35) cb lo_38) cd lo_41) cd ≤ tI (upd (upd (upd g ca hh_35) cb hh_38) cd hh_41) cd := by rw [tI_up, tI_up]; exact of_decide_eq_false c_43
              have hrz := hrg ca hca
              rw [← HullG_k]; exact hull3G (far := 200) (yl := tI (upd f ca lo_35)) (yh := tI (upd g ca hh_35)) (wl := tI (upd (upd f ca lo_35) cb lo_38)) (wh := tI (upd (upd g ca hh_35) cb hh_38)) (c1 := ch_35) (c2 := ch_38) hca hcb hcd hne (by omega) hE (tI_cut hlo_35 hhh_35) hch_35 (fun _ => ⟨tI_cut hlo_38 hhh_38, hch_38⟩) (fun _ _ => ⟨tI_cut hlo_41 hhh_41, hch_41⟩) ⟨fun h => absurd h (by decide), fun h => absurd h.2.2 g2⟩
            · have hc_43 := of_decide_eq_true c_43
              refine lv_iconst (v := 1) hx hb d_Three_narrow_270 (by decide) ?_
              refine lv_goto (tgt := 275) hx hb d_Three_narrow_271 (by decide) ?_
              refine W.eq (g2 := F0 m 275 ls [.int (bi true)]) rfl ?_
              refine e_z hx hb hr hlk hQ hS d_Three_narrow_275 ?_
              refine ⟨cn_41, (upd (upd (upd f ca lo_35) cb lo_38) cd lo_41), (upd (upd (upd g ca hh_35) cb hh_38) cd hh_41), e1, true, ch_41, rfl, hfr_41, hx_41_42, ⟨hB_41.1, hB_41.2.1, hB_41.2.2⟩, ?_, hP⟩
              have hE : Ends (SolG (R3 1) ca cb cd (tI f) (tI g)) 200 (e1 0).toInt (e1 1).toInt (e1 2).toInt (e1 3).toInt (e1 4).toInt (e1 5).toInt := hE1.congr (fun x y z => ⟨fun h => h.1, fun h => ⟨h, by have h1 := h.1; unfold tI at h1; omega⟩⟩)
              have g0 : tI (upd f ca lo_35) ca ≤ tI (upd g ca hh_35) ca := by rw [tI_up, tI_up]; exact of_decide_eq_true c_37
              have g1 : tI (upd (upd f ca lo_35) cb lo_38) cb ≤ tI (upd (upd g ca hh_35) cb hh_38) cb := by rw [tI_up, tI_up]; exact of_decide_eq_true c_40
              have g2 : tI (upd (upd (upd f ca lo_35) cb lo_38) cd lo_41) cd ≤ tI (upd (upd (upd g ca hh_35) cb hh_38) cd hh_41) cd := by rw [tI_up, tI_up]; exact of_decide_eq_true c_43
              have hrz := hrg ca hca
              rw [← HullG_k]; exact hull3G (far := 200) (yl := tI (upd f ca lo_35)) (yh := tI (upd g ca hh_35)) (wl := tI (upd (upd f ca lo_35) cb lo_38)) (wh := tI (upd (upd g ca hh_35) cb hh_38)) (c1 := ch_35) (c2 := ch_38) hca hcb hcd hne (by omega) hE (tI_cut hlo_35 hhh_35) hch_35 (fun _ => ⟨tI_cut hlo_38 hhh_38, hch_38⟩) (fun _ _ => ⟨tI_cut hlo_41 hhh_41, hch_41⟩) ⟨fun _ => ⟨g0, g1, g2⟩, fun _ => rfl⟩
      · refine lv_aload_n hx hb d_Three_narrow_65 rfl (lv_at hl 0 rfl) ?_
        refine w_gf hx hb hK i_Product hown hP hN hT1 rfl 1 (by decide) t_512 rfl rfl d_Three_narrow_66 ?_
        refine lv_aload_n hx hb d_Three_narrow_69 rfl (lv_at hl 0 rfl) ?_
        refine w_gf hx hb hK i_Product hown hP hN hT1 rfl 0 (by decide) t_511 rfl rfl d_Three_narrow_70 ?_
        have K_244 : ∀ (z_244_0 : Int32), z_244_0.toInt = (if ¬ (cb : Int) = (ca : Int) then (f cb).toInt else x2.toInt) → W p l e (rl 6) s m args below meth c H locs 0 0 Q (F0 m 89 ls [.int z_244_0]) := by
          intro z_244_0 hz_244_0
          refine lv_istore_n (lv' := [(3, .int z_244_0), (0, .ref (adr t)), (1, .ref (adr b)), (2, .int x2)]) hx hb d_Three_narrow_89 rfl hl (by decide) rfl (fun ls hl => ?_)
          refine lv_aload_n hx hb d_Three_narrow_90 rfl (lv_at hl 1 rfl) ?_
          refine w_gf hx hb hK i_Product hown hP hN hT1 rfl 1 (by decide) t_512 rfl rfl d_Three_narrow_91 ?_
          refine lv_aload_n hx hb d_Three_narrow_94 rfl (lv_at hl 1 rfl) ?_
          refine w_gf hx hb hK i_Product hown hP hN hT1 rfl 0 (by decide) t_511 rfl rfl d_Three_narrow_95 ?_
          have K_445 : ∀ (z_445_0 : Int32), z_445_0.toInt = (if ¬ (cb : Int) = (ca : Int) then (g cb).toInt else x2.toInt) → W p l e (rl 6) s m args below meth c H locs 0 0 Q (F0 m 114 ls [.int z_445_0]) := by
            intro z_445_0 hz_445_0
            refine lv_istore (lv' := [(4, .int z_445_0), (3, .int z_244_0), (0, .ref (adr t)), (1, .ref (adr b)), (2, .int x2)]) hx hb d_Three_narrow_114 hl (by decide) rfl (fun ls hl => ?_)
            refine lv_aload_n hx hb d_Three_narrow_116 rfl (lv_at hl 2 rfl) ?_
            refine w_gf hx hb hK i_Product hown hP hN hT1 rfl 2 (by decide) t_513 rfl rfl d_Three_narrow_117 ?_
            refine lv_aload_n hx hb d_Three_narrow_120 rfl (lv_at hl 2 rfl) ?_
            refine w_gf hx hb hK i_Product hown hP hN hT1 rfl 0 (by decide) t_511 rfl rfl d_Three_narrow_121 ?_
            have K_646 : ∀ (z_646_0 : Int32), z_646_0.toInt = (if ¬ (cd : Int) = (ca : Int) then (f cd).toInt else x2.toInt) → W p l e (rl 6) s m args below meth c H locs 0 0 Q (F0 m 140 ls [.int z_646_0]) := by
              intro z_646_0 hz_646_0
              refine lv_istore (lv' := [(5, .int z_646_0), (4, .int z_445_0), (3, .int z_244_0), (0, .ref (adr t)), (1, .ref (adr b)), (2, .int x2)]) hx hb d_Three_narrow_140 hl (by decide) rfl (fun ls hl => ?_)
              refine lv_aload_n hx hb d_Three_narrow_142 rfl (lv_at hl 3 rfl) ?_
              refine w_gf hx hb hK i_Product hown hP hN hT1 rfl 2 (by decide) t_513 rfl rfl d_Three_narrow_143 ?_
              refine lv_aload_n hx hb d_Three_narrow_146 rfl (lv_at hl 3 rfl) ?_
              refine w_gf hx hb hK i_Product hown hP hN hT1 rfl 0 (by decide) t_511 rfl rfl d_Three_narrow_147 ?_
              have K_847 : ∀ (z_847_0 : Int32), z_847_0.toInt = (if ¬ (cd : Int) = (ca : Int) then (g cd).toInt else x2.toInt) → W p l e (rl 6) s m args below meth c H locs 0 0 Q (F0 m 166 ls [.int z_847_0]) := by
                intro z_847_0 hz_847_0
                refine lv_istore (lv' := [(6, .int z_847_0), (5, .int z_646_0), (4, .int z_445_0), (3, .int z_244_0), (0, .ref (adr t)), (1, .ref (adr b)), (2, .int x2)]) hx hb d_Three_narrow_166 hl (by decide) rfl (fun ls hl => ?_)
                refine lv_aload_n hx hb d_Three_narrow_168 rfl (lv_at hl 4 rfl) ?_
                refine lv_iload_n hx hb d_Three_narrow_169 rfl (lv_at hl 6 rfl) ?_
                refine lv_iload_n hx hb d_Three_narrow_170 rfl (lv_at hl 3 rfl) ?_
                refine lv_iload hx hb d_Three_narrow_171 (lv_at hl 2 rfl) ?_
                refine lv_iload hx hb d_Three_narrow_173 (lv_at hl 1 rfl) ?_
                refine lv_iload hx hb d_Three_narrow_175 (lv_at hl 0 rfl) ?_
                refine lv_aload_n hx hb d_Three_narrow_177 rfl (lv_at hl 4 rfl) ?_
                refine w_gf hx hb hK i_Product hown hP hN hT1 rfl 1 (by decide) t_512 rfl rfl d_Three_narrow_178 ?_
                refine lv_aload_n hx hb d_Three_narrow_181 rfl (lv_at hl 4 rfl) ?_
                refine w_gf hx hb hK i_Product hown hP hN hT1 rfl 2 (by decide) t_513 rfl rfl d_Three_narrow_182 ?_
                have K_1048 : ∀ (b_1048_0 : Bool), (b_1048_0 = true ↔ ((cb : Int) = (cd : Int) ∧ ¬ (cb : Int) = (ca : Int))) → W p l e (rl 6) s m args below meth c H locs 0 0 Q (F0 m 204 ls [.int (bi b_1048_0), .int z_847_0, .int z_646_0, .int z_445_0, .int z_244_0, .int x2, .ref (adr t)]) := by
                  intro b_1048_0 hb_1048_0
                  have hsp9 := th_sp (R := (R3 1)) (a := ca) (b := cb) (c := cd) (bl := tI f) (bh := tI g) (x := x2.toInt) (by unfold tI; omega) hz_244_0 hz_445_0 hz_646_0 hz_847_0 hb_1048_0
                  have hr3 : -100 ≤ z_244_0.toInt ∧ z_244_0.toInt ≤ z_445_0.toInt ∧ z_445_0.toInt ≤ 100 := by rw [hz_244_0, hz_445_0]; split <;> omega
                  have hr4 : -100 ≤ z_646_0.toInt ∧ z_646_0.toInt ≤ z_847_0.toInt ∧ z_847_0.toInt ≤ 100 := by rw [hz_646_0, hz_847_0]; split <;> omega
                  have htw9 : b_1048_0 = true → z_244_0.toInt = z_646_0.toInt ∧ z_445_0.toInt = z_847_0.toInt := fun h => by have q := hb_1048_0.mp h; have e9 : cb = cd := (by omega); rw [hz_244_0, hz_445_0, hz_646_0, hz_847_0, if_pos q.2, if_pos q.2, if_pos (by omega), if_pos (by omega), e9]; exact ⟨rfl, rfl⟩
                  refine x_A (As := [.int x2, .int z_244_0, .int z_445_0, .int z_646_0, .int z_847_0, .int (bi b_1048_0)]) (rest := []) hx hb hml hown hK (k_Product_span l D cA adr N hi cn1 t xa xb xc e1 gd hT1 hN x2 z_244_0 z_445_0 z_646_0 z_847_0 b_1048_0 (by omega) (by omega) (by omega) htw9) t_252 t_13 t_218 t_220 t_219 t_250 t_251 ⟨by decide, by decide, yk_Product_span.2.2⟩ ⟨Nat.le_of_ble_eq_true rfl, Nat.le_of_ble_eq_true rfl⟩ (w_rec hK hP hN hT1 rfl) hP rfl hl.1 rfl (Nat.le_of_ble_eq_true rfl) d_Three_narrow_204 ⟨Nat.le_of_ble_eq_true rfl, Nat.le_of_ble_eq_true rfl⟩ hS (fun q h => h) (fun r H locs hq _ hS => ?_)
                  obtain ⟨cn_1049, e_1049, rfl, hFt_1049, hT_1049, hSp_1049, hP⟩ := hq
                  have hx_1049_1050 : cn_1049 b = .inr (2, [.ref (adr (b + 1)), .ref (adr (b + 2)), .int (bi ch)]) := (hFt_1049 b (by omega)).trans hB1.1
                  have hx_1049_1051 : cn_1049 (b + 1) = .inl (cA 0, 10, .inl f) := (hFt_1049 (b + 1) (by omega)).trans hB1.2.1
                  have hx_1049_1052 : cn_1049 (b + 2) = .inl (cA 0, 10, .inl g) := (hFt_1049 (b + 2) (by omega)).trans hB1.2.2
                  refine W.eq (g2 := F0 m 207 ls []) rfl ?_
                  refine x_iinc (k := 6) (lv' := fun v_ => [(2, .int v_), (6, .int z_847_0), (5, .int z_646_0), (4, .int z_445_0), (3, .int z_244_0), (0, .ref (adr t)), (1, .ref (adr b))]) hx hb d_Three_narrow_207 hl rfl rfl (by decide) (by omega) (by decide) (fun v_ => rfl) (fun z_1053 tz_1053 ls hl => ?_)
                  refine lv_goto (tgt := 52) hx hb d_Three_narrow_210 (by decide) ?_
                  have hE9 := th_step hsp9 (hSp_1049 _ hE1)
                  rw [← tz_1053] at hE9
                  exact ih_32 z_1053 cn_1049 e_1049 _ _ _ (by omega) (by omega) (hF1.tr (FrTB.t hFt_1049)) hT_1049 ⟨hx_1049_1050, hx_1049_1051, hx_1049_1052⟩ hE9 hP hS (lv_sub hl [5, 6, 0] rfl)
                refine b_icmp_ne (tgt := 203) hx hb d_Three_narrow_185 (by decide) hxb hxc (fun c_1054 => ?_) (fun c_1054 => ?_)
                · refine lv_iconst (v := 0) hx hb d_Three_narrow_203 (by decide) ?_
                  exact K_1048 false ⟨fun h => absurd h (by decide), fun h => absurd h (by omega)⟩
                · refine lv_aload_n hx hb d_Three_narrow_188 rfl (lv_at hl 4 rfl) ?_
                  refine w_gf hx hb hK i_Product hown hP hN hT1 rfl 1 (by decide) t_512 rfl rfl d_Three_narrow_189 ?_
                  refine lv_aload_n hx hb d_Three_narrow_192 rfl (lv_at hl 4 rfl) ?_
                  refine w_gf hx hb hK i_Product hown hP hN hT1 rfl 0 (by decide) t_511 rfl rfl d_Three_narrow_193 ?_
                  refine b_icmp_eq (tgt := 203) hx hb d_Three_narrow_196 (by decide) hxb hxa (fun c_1055 => ?_) (fun c_1055 => ?_)
                  · refine lv_iconst (v := 0) hx hb d_Three_narrow_203 (by decide) ?_
                    exact K_1048 false ⟨fun h => absurd h (by decide), fun h => absurd h (by omega)⟩
                  · refine lv_iconst (v := 1) hx hb d_Three_narrow_199 (by decide) ?_
                    refine lv_goto (tgt := 204) hx hb d_Three_narrow_200 (by decide) ?_
                    exact K_1048 true ⟨fun _ => by omega, fun _ => rfl⟩
              refine b_icmp_ne (tgt := 157) hx hb d_Three_narrow_150 (by decide) hxc hxa (fun c_1056 => ?_) (fun c_1056 => ?_)
              · refine lv_aload_n hx hb d_Three_narrow_157 rfl (lv_at hl 4 rfl) ?_
                refine w_gfN hx hb hK i_Box hown hP hMb.1 hB1.1 rfl 1 (by decide) t_47 rfl rfl d_Three_narrow_158 ?_
                refine lv_aload_n hx hb d_Three_narrow_161 rfl (lv_at hl 3 rfl) ?_
                refine w_gf hx hb hK i_Product hown hP hN hT1 rfl 2 (by decide) t_513 rfl rfl d_Three_narrow_162 ?_
                refine w_ld hx hb hK hP hMb.2.2 hB1.2.2 (cd) hxc (by omega) (show cd < 10 by omega) d_Three_narrow_165 (fun z_1057 ez_1057 => ?_)
                subst ez_1057
                exact K_847 (g cd) (by omega)
              · refine lv_iload_n hx hb d_Three_narrow_153 rfl (lv_at hl 5 rfl) ?_
                refine lv_goto (tgt := 166) hx hb d_Three_narrow_154 (by decide) ?_
                exact K_847 x2 (by omega)
            refine b_icmp_ne (tgt := 131) hx hb d_Three_narrow_124 (by decide) hxc hxa (fun c_1058 => ?_) (fun c_1058 => ?_)
            · refine lv_aload_n hx hb d_Three_narrow_131 rfl (lv_at hl 3 rfl) ?_
              refine w_gfN hx hb hK i_Box hown hP hMb.1 hB1.1 rfl 0 (by decide) t_41 rfl rfl d_Three_narrow_132 ?_
              refine lv_aload_n hx hb d_Three_narrow_135 rfl (lv_at hl 2 rfl) ?_
              refine w_gf hx hb hK i_Product hown hP hN hT1 rfl 2 (by decide) t_513 rfl rfl d_Three_narrow_136 ?_
              refine w_ld hx hb hK hP hMb.2.1 hB1.2.1 (cd) hxc (by omega) (show cd < 10 by omega) d_Three_narrow_139 (fun z_1059 ez_1059 => ?_)
              subst ez_1059
              exact K_646 (f cd) (by omega)
            · refine lv_iload_n hx hb d_Three_narrow_127 rfl (lv_at hl 4 rfl) ?_
              refine lv_goto (tgt := 140) hx hb d_Three_narrow_128 (by decide) ?_
              exact K_646 x2 (by omega)
          refine b_icmp_ne (tgt := 105) hx hb d_Three_narrow_98 (by decide) hxb hxa (fun c_1060 => ?_) (fun c_1060 => ?_)
          · refine lv_aload_n hx hb d_Three_narrow_105 rfl (lv_at hl 2 rfl) ?_
            refine w_gfN hx hb hK i_Box hown hP hMb.1 hB1.1 rfl 1 (by decide) t_47 rfl rfl d_Three_narrow_106 ?_
            refine lv_aload_n hx hb d_Three_narrow_109 rfl (lv_at hl 1 rfl) ?_
            refine w_gf hx hb hK i_Product hown hP hN hT1 rfl 1 (by decide) t_512 rfl rfl d_Three_narrow_110 ?_
            refine w_ld hx hb hK hP hMb.2.2 hB1.2.2 (cb) hxb (by omega) (show cb < 10 by omega) d_Three_narrow_113 (fun z_1061 ez_1061 => ?_)
            subst ez_1061
            exact K_445 (g cb) (by omega)
          · refine lv_iload_n hx hb d_Three_narrow_101 rfl (lv_at hl 3 rfl) ?_
            refine lv_goto (tgt := 114) hx hb d_Three_narrow_102 (by decide) ?_
            exact K_445 x2 (by omega)
        refine b_icmp_ne (tgt := 80) hx hb d_Three_narrow_73 (by decide) hxb hxa (fun c_1062 => ?_) (fun c_1062 => ?_)
        · refine lv_aload_n hx hb d_Three_narrow_80 rfl (lv_at hl 1 rfl) ?_
          refine w_gfN hx hb hK i_Box hown hP hMb.1 hB1.1 rfl 0 (by decide) t_41 rfl rfl d_Three_narrow_81 ?_
          refine lv_aload_n hx hb d_Three_narrow_84 rfl (lv_at hl 0 rfl) ?_
          refine w_gf hx hb hK i_Product hown hP hN hT1 rfl 1 (by decide) t_512 rfl rfl d_Three_narrow_85 ?_
          refine w_ld hx hb hK hP hMb.2.1 hB1.2.1 (cb) hxb (by omega) (show cb < 10 by omega) d_Three_narrow_88 (fun z_1063 ez_1063 => ?_)
          subst ez_1063
          exact K_244 (f cb) (by omega)
        · refine lv_iload_n hx hb d_Three_narrow_76 rfl (lv_at hl 2 rfl) ?_
          refine lv_goto (tgt := 89) hx hb d_Three_narrow_77 (by decide) ?_
          exact K_244 x2 (by omega)
  obtain ⟨ez, hez⟩ : ∃ q : Nat → Int32, q = (fun k => match k with | 0 => (200 : Int32) | 1 => (-200 : Int32) | 2 => (200 : Int32) | 3 => (-200 : Int32) | 4 => (200 : Int32) | _ => (-200 : Int32)) := ⟨_, rfl⟩
  exact L_32 (_ + 1) (f ca) cn_26 ez _ _ _ (Nat.lt_succ_self _) (by omega) (show FrTB t b cn cn_26 from fun k a0 a1 a2 a3 => hfr_26 k a0 a1 a2 a3) (by rw [hez]; exact ho_26_30) ⟨ho_26_27, ho_26_28, ho_26_29⟩ (by rw [hez]; show Ends _ 200 (200 : Int32).toInt (-200 : Int32).toInt (200 : Int32).toInt (-200 : Int32).toInt (200 : Int32).toInt (-200 : Int32).toInt; rw [kc_200, kc_m200]; exact Ends.none (fun x y z h => by have h1 := h.1.1; have h2 := h.2; unfold tI at h1; omega)) hP hS (lv_sub hl [1, 2, 0] rfl)
set_option maxHeartbeats 4000000 in
set_option maxRecDepth 20000 in
theorem k_narrow_Quotient (l : Launch) (D : va_G) (cA : Nat → ClassId) (adr : Nat → Nat) (N : List Nat) (hi : wI N adr) (cn : Nat → va_E) (t : Nat) (xa xb xc : Int32) (e0 : Nat → Int32) (gd : Bool) (hT : TP cn t 9 xa xb xc e0 gd) (hN : t ∈ N) (b : Nat) (f g : Nat → Int32) (ch : Bool) (hB : BP cA adr cn b f g ch) (hMb : BM N b) (hdt : t ≠ b ∧ t ≠ b + 1 ∧ t ≠ b + 2) (nn : Nat) (hn10 : nn ≤ 10) (hne : Ne nn (tI f) (tI g)) (hrg : ∀ k, k < nn → -100 ≤ tI f k ∧ tI g k ≤ 100) (ca cb cd : Nat) (hxa : xa.toInt = (ca : Int)) (hxb : xb.toInt = (cb : Int)) (hxc : xc.toInt = (cd : Int)) (hca : ca < nn) (hcb : cb < nn) (hcd : cd < nn) : Ct l y_Three_narrow b_Three_narrow 7 (some .boolean) 6 D cA [.ref (adr t), .ref (adr b)] (fun H => va_P D classes (wl N adr cn) H) (fun r H => ∃ (cn2 : Nat → va_E) (f2 g2 : Nat → Int32) (e2 : Nat → Int32) (q c2 : Bool), r = some (.int (bi q)) ∧ FrTB t b cn cn2 ∧ TP cn2 t 9 xa xb xc e2 gd ∧ BP cA adr cn2 b f2 g2 c2 ∧ NOK nn (Hull 2 cb ca cd) (tI f) (tI g) q (tI f2) (tI g2) ch c2 ∧ va_P D classes (wl N adr cn2) H) (wA N adr) := by
  refine Ct.mk (by decide) (Nat.le_of_ble_eq_true rfl) ?_
  intro p e s m args below meth c Q H locs ls hx hb hr hml hlk hown hin hK hQ hS hP hl
  have hl : lv_has ls 7 [(0, .ref (adr t)), (1, .ref (adr b))] := hl
  have hown : s.vm.findClass "RangeSheet$Three" = some m.cls := hown
  have hra := hrg ca hca; have hrb := hrg cb hcb; have hrc := hrg cd hcd; have hna := hne ca hca; have hnb := hne cb hcb; have hnc := hne cd hcd; unfold tI at hra hrb hrc hna hnb hnc
  refine lv_aload_n hx hb d_Three_narrow_0 rfl (lv_at hl 0 rfl) ?_
  refine lv_sipush (v := 200) hx hb d_Three_narrow_1 (by decide) ?_
  refine w_pf hx hb hK i_Quotient t_Quotient t_Quotient_ok n_Quotient hown hi hP hS wA_mem hN hT rfl 3 (by decide) t_514 rfl rfl rfl rfl rfl d_Three_narrow_4 (fun H locs hP hS => ?_)
  obtain ⟨cn_1, ecn_1⟩ : ∃ q : Nat → va_E, q = va_up cn t (.inr (9, [.int xa, .int xb, .int xc, .int (200 : Int32), .int (e0 1), .int (e0 2), .int (e0 3), .int (e0 4), .int (e0 5), .int (bi gd)])) := ⟨_, rfl⟩
  have hP : va_P D classes (wl N adr cn_1) H := by rw [ecn_1]; exact hP
  have ho_1_2 : cn_1 b = .inr (2, [.ref (adr (b + 1)), .ref (adr (b + 2)), .int (bi ch)]) := by rw [ecn_1, va_up_ne _ _ (by omega)]; exact hB.1
  have ho_1_3 : cn_1 (b + 1) = .inl (cA 0, 10, .inl f) := by rw [ecn_1, va_up_ne _ _ (by omega)]; exact hB.2.1
  have ho_1_4 : cn_1 (b + 2) = .inl (cA 0, 10, .inl g) := by rw [ecn_1, va_up_ne _ _ (by omega)]; exact hB.2.2
  have ho_1_5 : cn_1 t = .inr (9, [.int xa, .int xb, .int xc, .int (200 : Int32), .int (e0 1), .int (e0 2), .int (e0 3), .int (e0 4), .int (e0 5), .int (bi gd)]) := by rw [ecn_1]; exact va_up_self _ _ _
  have hfr_1 : ∀ k, k ≠ t → k ≠ b → k ≠ b + 1 → k ≠ b + 2 → cn_1 k = cn k := fun k a0 a1 a2 a3 => (congrFun ecn_1 k).trans ((va_up_ne _ _ (by omega)).trans rfl)
  refine lv_aload_n hx hb d_Three_narrow_7 rfl (lv_at hl 0 rfl) ?_
  refine lv_sipush (v := 200) hx hb d_Three_narrow_8 (by decide) ?_
  refine w_pf hx hb hK i_Quotient t_Quotient t_Quotient_ok n_Quotient hown hi hP hS wA_mem hN ho_1_5 rfl 5 (by decide) t_516 rfl rfl rfl rfl rfl d_Three_narrow_11 (fun H locs hP hS => ?_)
  obtain ⟨cn_6, ecn_6⟩ : ∃ q : Nat → va_E, q = va_up cn_1 t (.inr (9, [.int xa, .int xb, .int xc, .int (200 : Int32), .int (e0 1), .int (200 : Int32), .int (e0 3), .int (e0 4), .int (e0 5), .int (bi gd)])) := ⟨_, rfl⟩
  have hP : va_P D classes (wl N adr cn_6) H := by rw [ecn_6]; exact hP
  have ho_6_7 : cn_6 b = .inr (2, [.ref (adr (b + 1)), .ref (adr (b + 2)), .int (bi ch)]) := by rw [ecn_6, va_up_ne _ _ (by omega)]; exact ho_1_2
  have ho_6_8 : cn_6 (b + 1) = .inl (cA 0, 10, .inl f) := by rw [ecn_6, va_up_ne _ _ (by omega)]; exact ho_1_3
  have ho_6_9 : cn_6 (b + 2) = .inl (cA 0, 10, .inl g) := by rw [ecn_6, va_up_ne _ _ (by omega)]; exact ho_1_4
  have ho_6_10 : cn_6 t = .inr (9, [.int xa, .int xb, .int xc, .int (200 : Int32), .int (e0 1), .int (200 : Int32), .int (e0 3), .int (e0 4), .int (e0 5), .int (bi gd)]) := by rw [ecn_6]; exact va_up_self _ _ _
  have hfr_6 : ∀ k, k ≠ t → k ≠ b → k ≠ b + 1 → k ≠ b + 2 → cn_6 k = cn k := fun k a0 a1 a2 a3 => (congrFun ecn_6 k).trans ((va_up_ne _ _ (by omega)).trans (hfr_1 k a0 a1 a2 a3))
  refine lv_aload_n hx hb d_Three_narrow_14 rfl (lv_at hl 0 rfl) ?_
  refine lv_sipush (v := 200) hx hb d_Three_narrow_15 (by decide) ?_
  refine w_pf hx hb hK i_Quotient t_Quotient t_Quotient_ok n_Quotient hown hi hP hS wA_mem hN ho_6_10 rfl 7 (by decide) t_518 rfl rfl rfl rfl rfl d_Three_narrow_18 (fun H locs hP hS => ?_)
  obtain ⟨cn_11, ecn_11⟩ : ∃ q : Nat → va_E, q = va_up cn_6 t (.inr (9, [.int xa, .int xb, .int xc, .int (200 : Int32), .int (e0 1), .int (200 : Int32), .int (e0 3), .int (200 : Int32), .int (e0 5), .int (bi gd)])) := ⟨_, rfl⟩
  have hP : va_P D classes (wl N adr cn_11) H := by rw [ecn_11]; exact hP
  have ho_11_12 : cn_11 b = .inr (2, [.ref (adr (b + 1)), .ref (adr (b + 2)), .int (bi ch)]) := by rw [ecn_11, va_up_ne _ _ (by omega)]; exact ho_6_7
  have ho_11_13 : cn_11 (b + 1) = .inl (cA 0, 10, .inl f) := by rw [ecn_11, va_up_ne _ _ (by omega)]; exact ho_6_8
  have ho_11_14 : cn_11 (b + 2) = .inl (cA 0, 10, .inl g) := by rw [ecn_11, va_up_ne _ _ (by omega)]; exact ho_6_9
  have ho_11_15 : cn_11 t = .inr (9, [.int xa, .int xb, .int xc, .int (200 : Int32), .int (e0 1), .int (200 : Int32), .int (e0 3), .int (200 : Int32), .int (e0 5), .int (bi gd)]) := by rw [ecn_11]; exact va_up_self _ _ _
  have hfr_11 : ∀ k, k ≠ t → k ≠ b → k ≠ b + 1 → k ≠ b + 2 → cn_11 k = cn k := fun k a0 a1 a2 a3 => (congrFun ecn_11 k).trans ((va_up_ne _ _ (by omega)).trans (hfr_6 k a0 a1 a2 a3))
  refine lv_aload_n hx hb d_Three_narrow_21 rfl (lv_at hl 0 rfl) ?_
  refine lv_sipush (v := (-200)) hx hb d_Three_narrow_22 (by decide) ?_
  refine w_pf hx hb hK i_Quotient t_Quotient t_Quotient_ok n_Quotient hown hi hP hS wA_mem hN ho_11_15 rfl 4 (by decide) t_515 rfl rfl rfl rfl rfl d_Three_narrow_25 (fun H locs hP hS => ?_)
  obtain ⟨cn_16, ecn_16⟩ : ∃ q : Nat → va_E, q = va_up cn_11 t (.inr (9, [.int xa, .int xb, .int xc, .int (200 : Int32), .int (-200 : Int32), .int (200 : Int32), .int (e0 3), .int (200 : Int32), .int (e0 5), .int (bi gd)])) := ⟨_, rfl⟩
  have hP : va_P D classes (wl N adr cn_16) H := by rw [ecn_16]; exact hP
  have ho_16_17 : cn_16 b = .inr (2, [.ref (adr (b + 1)), .ref (adr (b + 2)), .int (bi ch)]) := by rw [ecn_16, va_up_ne _ _ (by omega)]; exact ho_11_12
  have ho_16_18 : cn_16 (b + 1) = .inl (cA 0, 10, .inl f) := by rw [ecn_16, va_up_ne _ _ (by omega)]; exact ho_11_13
  have ho_16_19 : cn_16 (b + 2) = .inl (cA 0, 10, .inl g) := by rw [ecn_16, va_up_ne _ _ (by omega)]; exact ho_11_14
  have ho_16_20 : cn_16 t = .inr (9, [.int xa, .int xb, .int xc, .int (200 : Int32), .int (-200 : Int32), .int (200 : Int32), .int (e0 3), .int (200 : Int32), .int (e0 5), .int (bi gd)]) := by rw [ecn_16]; exact va_up_self _ _ _
  have hfr_16 : ∀ k, k ≠ t → k ≠ b → k ≠ b + 1 → k ≠ b + 2 → cn_16 k = cn k := fun k a0 a1 a2 a3 => (congrFun ecn_16 k).trans ((va_up_ne _ _ (by omega)).trans (hfr_11 k a0 a1 a2 a3))
  refine lv_aload_n hx hb d_Three_narrow_28 rfl (lv_at hl 0 rfl) ?_
  refine lv_sipush (v := (-200)) hx hb d_Three_narrow_29 (by decide) ?_
  refine w_pf hx hb hK i_Quotient t_Quotient t_Quotient_ok n_Quotient hown hi hP hS wA_mem hN ho_16_20 rfl 6 (by decide) t_517 rfl rfl rfl rfl rfl d_Three_narrow_32 (fun H locs hP hS => ?_)
  obtain ⟨cn_21, ecn_21⟩ : ∃ q : Nat → va_E, q = va_up cn_16 t (.inr (9, [.int xa, .int xb, .int xc, .int (200 : Int32), .int (-200 : Int32), .int (200 : Int32), .int (-200 : Int32), .int (200 : Int32), .int (e0 5), .int (bi gd)])) := ⟨_, rfl⟩
  have hP : va_P D classes (wl N adr cn_21) H := by rw [ecn_21]; exact hP
  have ho_21_22 : cn_21 b = .inr (2, [.ref (adr (b + 1)), .ref (adr (b + 2)), .int (bi ch)]) := by rw [ecn_21, va_up_ne _ _ (by omega)]; exact ho_16_17
  have ho_21_23 : cn_21 (b + 1) = .inl (cA 0, 10, .inl f) := by rw [ecn_21, va_up_ne _ _ (by omega)]; exact ho_16_18
  have ho_21_24 : cn_21 (b + 2) = .inl (cA 0, 10, .inl g) := by rw [ecn_21, va_up_ne _ _ (by omega)]; exact ho_16_19
  have ho_21_25 : cn_21 t = .inr (9, [.int xa, .int xb, .int xc, .int (200 : Int32), .int (-200 : Int32), .int (200 : Int32), .int (-200 : Int32), .int (200 : Int32), .int (e0 5), .int (bi gd)]) := by rw [ecn_21]; exact va_up_self _ _ _
  have hfr_21 : ∀ k, k ≠ t → k ≠ b → k ≠ b + 1 → k ≠ b + 2 → cn_21 k = cn k := fun k a0 a1 a2 a3 => (congrFun ecn_21 k).trans ((va_up_ne _ _ (by omega)).trans (hfr_16 k a0 a1 a2 a3))
  refine lv_aload_n hx hb d_Three_narrow_35 rfl (lv_at hl 0 rfl) ?_
  refine lv_sipush (v := (-200)) hx hb d_Three_narrow_36 (by decide) ?_
  refine w_pf hx hb hK i_Quotient t_Quotient t_Quotient_ok n_Quotient hown hi hP hS wA_mem hN ho_21_25 rfl 8 (by decide) t_519 rfl rfl rfl rfl rfl d_Three_narrow_39 (fun H locs hP hS => ?_)
  obtain ⟨cn_26, ecn_26⟩ : ∃ q : Nat → va_E, q = va_up cn_21 t (.inr (9, [.int xa, .int xb, .int xc, .int (200 : Int32), .int (-200 : Int32), .int (200 : Int32), .int (-200 : Int32), .int (200 : Int32), .int (-200 : Int32), .int (bi gd)])) := ⟨_, rfl⟩
  have hP : va_P D classes (wl N adr cn_26) H := by rw [ecn_26]; exact hP
  have ho_26_27 : cn_26 b = .inr (2, [.ref (adr (b + 1)), .ref (adr (b + 2)), .int (bi ch)]) := by rw [ecn_26, va_up_ne _ _ (by omega)]; exact ho_21_22
  have ho_26_28 : cn_26 (b + 1) = .inl (cA 0, 10, .inl f) := by rw [ecn_26, va_up_ne _ _ (by omega)]; exact ho_21_23
  have ho_26_29 : cn_26 (b + 2) = .inl (cA 0, 10, .inl g) := by rw [ecn_26, va_up_ne _ _ (by omega)]; exact ho_21_24
  have ho_26_30 : cn_26 t = .inr (9, [.int xa, .int xb, .int xc, .int (200 : Int32), .int (-200 : Int32), .int (200 : Int32), .int (-200 : Int32), .int (200 : Int32), .int (-200 : Int32), .int (bi gd)]) := by rw [ecn_26]; exact va_up_self _ _ _
  have hfr_26 : ∀ k, k ≠ t → k ≠ b → k ≠ b + 1 → k ≠ b + 2 → cn_26 k = cn k := fun k a0 a1 a2 a3 => (congrFun ecn_26 k).trans ((va_up_ne _ _ (by omega)).trans (hfr_21 k a0 a1 a2 a3))
  refine lv_aload_n hx hb d_Three_narrow_42 rfl (lv_at hl 1 rfl) ?_
  refine w_gfN hx hb hK i_Box hown hP hMb.1 ho_26_27 rfl 0 (by decide) t_41 rfl rfl d_Three_narrow_43 ?_
  refine lv_aload_n hx hb d_Three_narrow_46 rfl (lv_at hl 0 rfl) ?_
  refine w_gf hx hb hK i_Quotient hown hP hN ho_26_30 rfl 0 (by decide) t_511 rfl rfl d_Three_narrow_47 ?_
  refine w_ld hx hb hK hP hMb.2.1 ho_26_28 (ca) hxa (by omega) (show ca < 10 by omega) d_Three_narrow_50 (fun z_31 ez_31 => ?_)
  subst ez_31
  refine lv_istore_n (lv' := [(2, .int (f ca)), (0, .ref (adr t)), (1, .ref (adr b))]) hx hb d_Three_narrow_51 rfl hl (by decide) rfl (fun ls hl => ?_)
  have L_32 : ∀ (n : Nat) (x2 : Int32) (cn1 : Nat → va_E) (e1 : Nat → Int32) (H : Heap) (locs : List Loc) (ls : Array Slot), ((g ca).toInt + 1 - x2.toInt).toNat < n → ((f ca).toInt ≤ x2.toInt ∧ x2.toInt ≤ (g ca).toInt + 1) → (FrTB t b cn cn1) → (TP cn1 t 9 xa xb xc e1 gd) → (BP cA adr cn1 b f g ch) → (EE (fun x y z => SolG RQ ca cb cd (tI f) (tI g) x y z ∧ x < x2.toInt) e1) → va_P D classes (wl N adr cn1) H → va_S (wA N adr) s.heap H locs → lv_has ls 7 [(0, .ref (adr t)), (1, .ref (adr b)), (2, .int x2)] → W p l e (rl 6) s m args below meth c H locs 0 0 Q (F0 m 52 ls []) := by
    intro n
    induction n with
    | zero => intro x2 cn1 e1 H locs ls hmu; exact absurd hmu (Nat.not_lt_zero _)
    | succ n ih_32 =>
      intro x2 cn1 e1 H locs ls hmu hx2 hF1 hT1 hB1 hE1 hP hS hl
      refine lv_iload_n hx hb d_Three_narrow_52 rfl (lv_at hl 2 rfl) ?_
      refine lv_aload_n hx hb d_Three_narrow_53 rfl (lv_at hl 1 rfl) ?_
      refine w_gfN hx hb hK i_Box hown hP hMb.1 hB1.1 rfl 1 (by decide) t_47 rfl rfl d_Three_narrow_54 ?_
      refine lv_aload_n hx hb d_Three_narrow_57 rfl (lv_at hl 0 rfl) ?_
      refine w_gf hx hb hK i_Quotient hown hP hN hT1 rfl 0 (by decide) t_511 rfl rfl d_Three_narrow_58 ?_
      refine w_ld hx hb hK hP hMb.2.2 hB1.2.2 (ca) hxa (by omega) (show ca < 10 by omega) d_Three_narrow_61 (fun z_33 ez_33 => ?_)
      subst ez_33
      refine b_icmp_gt (tgt := 213) hx hb d_Three_narrow_62 (by decide) rfl rfl (fun c_34 => ?_) (fun c_34 => ?_)
      · refine lv_aload_n hx hb d_Three_narrow_213 rfl (lv_at hl 1 rfl) ?_
        refine lv_aload_n hx hb d_Three_narrow_214 rfl (lv_at hl 0 rfl) ?_
        refine w_gf hx hb hK i_Quotient hown hP hN hT1 rfl 0 (by decide) t_511 rfl rfl d_Three_narrow_215 ?_
        refine lv_aload_n hx hb d_Three_narrow_218 rfl (lv_at hl 0 rfl) ?_
        refine w_gf hx hb hK i_Quotient hown hP hN hT1 rfl 3 (by decide) t_514 rfl rfl d_Three_narrow_219 ?_
        refine lv_aload_n hx hb d_Three_narrow_222 rfl (lv_at hl 0 rfl) ?_
        refine w_gf hx hb hK i_Quotient hown hP hN hT1 rfl 4 (by decide) t_515 rfl rfl d_Three_narrow_223 ?_
        refine x_V (As := [.int xa, .int (e1 0), .int (e1 1)]) (rest := []) hx hb hml hown hK (k_Box_cut l D cA adr N hi cn1 b f g ch ⟨hB1.1, hB1.2.1, hB1.2.2⟩ hMb ca xa (e1 0) (e1 1) hxa (by omega)) t_176 t_2 t_282 t_174 t_175 yk_Box_cut ⟨Nat.le_of_ble_eq_true rfl, Nat.le_of_ble_eq_true rfl⟩ (w_rec hK hP hMb.1 hB1.1 rfl) hP rfl hl.1 rfl (Nat.le_of_ble_eq_true rfl) d_Three_narrow_226 ⟨Nat.le_of_ble_eq_true rfl, Nat.le_of_ble_eq_true rfl⟩ hS (fun q h => h) (fun r H locs hq _ hS => ?_)
        obtain ⟨cn_35, lo_35, hh_35, hlo_35, hhh_35, rfl, hFb_35, hB_35, hP⟩ := hq
        obtain ⟨ch_35, hch_35⟩ : ∃ q : Bool, q = (ch || decide ((f ca).toInt < (e1 0).toInt ∨ (e1 1).toInt < (g ca).toInt)) := ⟨_, rfl⟩
        rw [← hch_35] at hB_35
        have hx_35_36 : cn_35 t = .inr (9, [.int xa, .int xb, .int xc, .int (e1 0), .int (e1 1), .int (e1 2), .int (e1 3), .int (e1 4), .int (e1 5), .int (bi gd)]) := (hFb_35 t (by omega) (by omega) (by omega)).trans hT1
        have hfr_35 : FrTB t b cn cn_35 := hF1.tr (FrTB.b hFb_35)
        refine W.eq (g2 := F0 m 229 ls [.int (bi (decide (lo_35.toInt ≤ hh_35.toInt)))]) rfl ?_
        refine b_bool_eq (tgt := 274) hx hb d_Three_narrow_229 (by decide) (fun c_37 => ?_) (fun c_37 => ?_)
        · have hc_37 := of_decide_eq_false c_37
          refine lv_iconst (v := 0) hx hb d_Three_narrow_274 (by decide) ?_
          refine W.eq (g2 := F0 m 275 ls [.int (bi false)]) rfl ?_
          refine e_z hx hb hr hlk hQ hS d_Three_narrow_275 ?_
          refine ⟨cn_35, (upd f ca lo_35), (upd g ca hh_35), e1, false, ch_35, rfl, hfr_35, hx_35_36, ⟨hB_35.1, hB_35.2.1, hB_35.2.2⟩, ?_, hP⟩
          have hE : Ends (SolG RQ ca cb cd (tI f) (tI g)) 200 (e1 0).toInt (e1 1).toInt (e1 2).toInt (e1 3).toInt (e1 4).toInt (e1 5).toInt := hE1.congr (fun x y z => ⟨fun h => h.1, fun h => ⟨h, by have h1 := h.1; unfold tI at h1; omega⟩⟩)
          have g0 : ¬ tI (upd f ca lo_35) ca ≤ tI (upd g ca hh_35) ca := by rw [tI_up, tI_up]; exact of_decide_eq_false c_37
          have hrz := hrg ca hca
          rw [← HullG_q]; exact hull3G (far := 200) (yl := tI (upd f ca lo_35)) (yh := tI (upd g ca hh_35)) (wl := tI (upd f ca lo_35)) (wh := tI (upd g ca hh_35)) (c1 := ch_35) (c2 := ch_35) hca hcb hcd hne (by omega) hE (tI_cut hlo_35 hhh_35) hch_35 (fun h => absurd h g0) (fun h => absurd h g0) ⟨fun h => absurd h (by decide), fun h => absurd h.1 g0⟩
        · have hc_37 := of_decide_eq_true c_37
          refine lv_aload_n hx hb d_Three_narrow_232 rfl (lv_at hl 1 rfl) ?_
          refine lv_aload_n hx hb d_Three_narrow_233 rfl (lv_at hl 0 rfl) ?_
          refine w_gf hx hb hK i_Quotient hown hP hN hx_35_36 rfl 1 (by decide) t_512 rfl rfl d_Three_narrow_234 ?_
          refine lv_aload_n hx hb d_Three_narrow_237 rfl (lv_at hl 0 rfl) ?_
          refine w_gf hx hb hK i_Quotient hown hP hN hx_35_36 rfl 5 (by decide) t_516 rfl rfl d_Three_narrow_238 ?_
          refine lv_aload_n hx hb d_Three_narrow_241 rfl (lv_at hl 0 rfl) ?_
          refine w_gf hx hb hK i_Quotient hown hP hN hx_35_36 rfl 6 (by decide) t_517 rfl rfl d_Three_narrow_242 ?_
          refine x_V (As := [.int xb, .int (e1 2), .int (e1 3)]) (rest := []) hx hb hml hown hK (k_Box_cut l D cA adr N hi cn_35 b (upd f ca lo_35) (upd g ca hh_35) ch_35 ⟨hB_35.1, hB_35.2.1, hB_35.2.2⟩ hMb cb xb (e1 2) (e1 3) hxb (by omega)) t_176 t_2 t_282 t_174 t_175 yk_Box_cut ⟨Nat.le_of_ble_eq_true rfl, Nat.le_of_ble_eq_true rfl⟩ (w_rec hK hP hMb.1 hB_35.1 rfl) hP rfl hl.1 rfl (Nat.le_of_ble_eq_true rfl) d_Three_narrow_245 ⟨Nat.le_of_ble_eq_true rfl, Nat.le_of_ble_eq_true rfl⟩ hS (fun q h => h) (fun r H locs hq _ hS => ?_)
          obtain ⟨cn_38, lo_38, hh_38, hlo_38, hhh_38, rfl, hFb_38, hB_38, hP⟩ := hq
          obtain ⟨ch_38, hch_38⟩ : ∃ q : Bool, q = (ch_35 || decide (((upd f ca lo_35) cb).toInt < (e1 2).toInt ∨ (e1 3).toInt < ((upd g ca hh_35) cb).toInt)) := ⟨_, rfl⟩
          rw [← hch_38] at hB_38
          have hx_38_39 : cn_38 t = .inr (9, [.int xa, .int xb, .int xc, .int (e1 0), .int (e1 1), .int (e1 2), .int (e1 3), .int (e1 4), .int (e1 5), .int (bi gd)]) := (hFb_38 t (by omega) (by omega) (by omega)).trans hx_35_36
          have hfr_38 : FrTB t b cn cn_38 := hfr_35.tr (FrTB.b hFb_38)
          refine W.eq (g2 := F0 m 248 ls [.int (bi (decide (lo_38.toInt ≤ hh_38.toInt)))]) rfl ?_
          refine b_bool_eq (tgt := 274) hx hb d_Three_narrow_248 (by decide) (fun c_40 => ?_) (fun c_40 => ?_)
          · have hc_40 := of_decide_eq_false c_40
            refine lv_iconst (v := 0) hx hb d_Three_narrow_274 (by decide) ?_
            refine W.eq (g2 := F0 m 275 ls [.int (bi false)]) rfl ?_
            refine e_z hx hb hr hlk hQ hS d_Three_narrow_275 ?_
            refine ⟨cn_38, (upd (upd f ca lo_35) cb lo_38), (upd (upd g ca hh_35) cb hh_38), e1, false, ch_38, rfl, hfr_38, hx_38_39, ⟨hB_38.1, hB_38.2.1, hB_38.2.2⟩, ?_, hP⟩
            have hE : Ends (SolG RQ ca cb cd (tI f) (tI g)) 200 (e1 0).toInt (e1 1).toInt (e1 2).toInt (e1 3).toInt (e1 4).toInt (e1 5).toInt := hE1.congr (fun x y z => ⟨fun h => h.1, fun h => ⟨h, by have h1 := h.1; unfold tI at h1; omega⟩⟩)
            have g0 : tI (upd f ca lo_35) ca ≤ tI (upd g ca hh_35) ca := by rw [tI_up, tI_up]; exact of_decide_eq_true c_37
            have g1 : ¬ tI (upd (upd f ca lo_35) cb lo_38) cb ≤ tI (upd (upd g ca hh_35) cb hh_38) cb := by rw [tI_up, tI_up]; exact of_decide_eq_false c_40
            have hrz := hrg ca hca
            rw [← HullG_q]; exact hull3G (far := 200) (yl := tI (upd f ca lo_35)) (yh := tI (upd g ca hh_35)) (wl := tI (upd (upd f ca lo_35) cb lo_38)) (wh := tI (upd (upd g ca hh_35) cb hh_38)) (c1 := ch_35) (c2 := ch_38) hca hcb hcd hne (by omega) hE (tI_cut hlo_35 hhh_35) hch_35 (fun _ => ⟨tI_cut hlo_38 hhh_38, hch_38⟩) (fun _ h => absurd h g1) ⟨fun h => absurd h (by decide), fun h => absurd h.2.1 g1⟩
          · have hc_40 := of_decide_eq_true c_40
            refine lv_aload_n hx hb d_Three_narrow_251 rfl (lv_at hl 1 rfl) ?_
            refine lv_aload_n hx hb d_Three_narrow_252 rfl (lv_at hl 0 rfl) ?_
            refine w_gf hx hb hK i_Quotient hown hP hN hx_38_39 rfl 2 (by decide) t_513 rfl rfl d_Three_narrow_253 ?_
            refine lv_aload_n hx hb d_Three_narrow_256 rfl (lv_at hl 0 rfl) ?_
            refine w_gf hx hb hK i_Quotient hown hP hN hx_38_39 rfl 7 (by decide) t_518 rfl rfl d_Three_narrow_257 ?_
            refine lv_aload_n hx hb d_Three_narrow_260 rfl (lv_at hl 0 rfl) ?_
            refine w_gf hx hb hK i_Quotient hown hP hN hx_38_39 rfl 8 (by decide) t_519 rfl rfl d_Three_narrow_261 ?_
            refine x_V (As := [.int xc, .int (e1 4), .int (e1 5)]) (rest := []) hx hb hml hown hK (k_Box_cut l D cA adr N hi cn_38 b (upd (upd f ca lo_35) cb lo_38) (upd (upd g ca hh_35) cb hh_38) ch_38 ⟨hB_38.1, hB_38.2.1, hB_38.2.2⟩ hMb cd xc (e1 4) (e1 5) hxc (by omega)) t_176 t_2 t_282 t_174 t_175 yk_Box_cut ⟨Nat.le_of_ble_eq_true rfl, Nat.le_of_ble_eq_true rfl⟩ (w_rec hK hP hMb.1 hB_38.1 rfl) hP rfl hl.1 rfl (Nat.le_of_ble_eq_true rfl) d_Three_narrow_264 ⟨Nat.le_of_ble_eq_true rfl, Nat.le_of_ble_eq_true rfl⟩ hS (fun q h => h) (fun r H locs hq _ hS => ?_)
            obtain ⟨cn_41, lo_41, hh_41, hlo_41, hhh_41, rfl, hFb_41, hB_41, hP⟩ := hq
            obtain ⟨ch_41, hch_41⟩ : ∃ q : Bool, q = (ch_38 || decide (((upd (upd f ca lo_35) cb lo_38) cd).toInt < (e1 4).toInt ∨ (e1 5).toInt < ((upd (upd g ca hh_35) cb hh_38) cd).toInt)) := ⟨_, rfl⟩
            rw [← hch_41] at hB_41
            have hx_41_42 : cn_41 t = .inr (9, [.int xa, .int xb, .int xc, .int (e1 0), .int (e1 1), .int (e1 2), .int (e1 3), .int (e1 4), .int (e1 5), .int (bi gd)]) := (hFb_41 t (by omega) (by omega) (by omega)).trans hx_38_39
            have hfr_41 : FrTB t b cn cn_41 := hfr_38.tr (FrTB.b hFb_41)
            refine W.eq (g2 := F0 m 267 ls [.int (bi (decide (lo_41.toInt ≤ hh_41.toInt)))]) rfl ?_
            refine b_bool_eq (tgt := 274) hx hb d_Three_narrow_267 (by decide) (fun c_43 => ?_) (fun c_43 => ?_)
            · have hc_43 := of_decide_eq_false c_43
              refine lv_iconst (v := 0) hx hb d_Three_narrow_274 (by decide) ?_
              refine W.eq (g2 := F0 m 275 ls [.int (bi false)]) rfl ?_
              refine e_z hx hb hr hlk hQ hS d_Three_narrow_275 ?_
              refine ⟨cn_41, (upd (upd (upd f ca lo_35) cb lo_38) cd lo_41), (upd (upd (upd g ca hh_35) cb hh_38) cd hh_41), e1, false, ch_41, rfl, hfr_41, hx_41_42, ⟨hB_41.1, hB_41.2.1, hB_41.2.2⟩, ?_, hP⟩
              have hE : Ends (SolG RQ ca cb cd (tI f) (tI g)) 200 (e1 0).toInt (e1 1).toInt (e1 2).toInt (e1 3).toInt (e1 4).toInt (e1 5).toInt := hE1.congr (fun x y z => ⟨fun h => h.1, fun h => ⟨h, by have h1 := h.1; unfold tI at h1; omega⟩⟩)
              have g0 : tI (upd f ca lo_35) ca ≤ tI (upd g ca hh_35) ca := by rw [tI_up, tI_up]; exact of_decide_eq_true c_37
              have g1 : tI (upd (upd f ca lo_35) cb lo_38) cb ≤ tI (upd (upd g ca hh_35) cb hh_38) cb := by rw [tI_up, tI_up]; exact of_decide_eq_true c_40
              have g2 : ¬ tI (upd (upd (upd f ca lo_35) cb lo_38) cd lo_41) cd ≤ tI (upd (upd (upd g ca hh_35) cb hh_38) cd hh_41) cd := by rw [tI_up, tI_up]; exact of_decide_eq_false c_43
              have hrz := hrg ca hca
              rw [← HullG_q]; exact hull3G (far := 200) (yl := tI (upd f ca lo_35)) (yh := tI (upd g ca hh_35)) (wl := tI (upd (upd f ca lo_35) cb lo_38)) (wh := tI (upd (upd g ca hh_35) cb hh_38)) (c1 := ch_35) (c2 := ch_38) hca hcb hcd hne (by omega) hE (tI_cut hlo_35 hhh_35) hch_35 (fun _ => ⟨tI_cut hlo_38 hhh_38, hch_38⟩) (fun _ _ => ⟨tI_cut hlo_41 hhh_41, hch_41⟩) ⟨fun h => absurd h (by decide), fun h => absurd h.2.2 g2⟩
            · have hc_43 := of_decide_eq_true c_43
              refine lv_iconst (v := 1) hx hb d_Three_narrow_270 (by decide) ?_
              refine lv_goto (tgt := 275) hx hb d_Three_narrow_271 (by decide) ?_
              refine W.eq (g2 := F0 m 275 ls [.int (bi true)]) rfl ?_
              refine e_z hx hb hr hlk hQ hS d_Three_narrow_275 ?_
              refine ⟨cn_41, (upd (upd (upd f ca lo_35) cb lo_38) cd lo_41), (upd (upd (upd g ca hh_35) cb hh_38) cd hh_41), e1, true, ch_41, rfl, hfr_41, hx_41_42, ⟨hB_41.1, hB_41.2.1, hB_41.2.2⟩, ?_, hP⟩
              have hE : Ends (SolG RQ ca cb cd (tI f) (tI g)) 200 (e1 0).toInt (e1 1).toInt (e1 2).toInt (e1 3).toInt (e1 4).toInt (e1 5).toInt := hE1.congr (fun x y z => ⟨fun h => h.1, fun h => ⟨h, by have h1 := h.1; unfold tI at h1; omega⟩⟩)
              have g0 : tI (upd f ca lo_35) ca ≤ tI (upd g ca hh_35) ca := by rw [tI_up, tI_up]; exact of_decide_eq_true c_37
              have g1 : tI (upd (upd f ca lo_35) cb lo_38) cb ≤ tI (upd (upd g ca hh_35) cb hh_38) cb := by rw [tI_up, tI_up]; exact of_decide_eq_true c_40
              have g2 : tI (upd (upd (upd f ca lo_35) cb lo_38) cd lo_41) cd ≤ tI (upd (upd (upd g ca hh_35) cb hh_38) cd hh_41) cd := by rw [tI_up, tI_up]; exact of_decide_eq_true c_43
              have hrz := hrg ca hca
              rw [← HullG_q]; exact hull3G (far := 200) (yl := tI (upd f ca lo_35)) (yh := tI (upd g ca hh_35)) (wl := tI (upd (upd f ca lo_35) cb lo_38)) (wh := tI (upd (upd g ca hh_35) cb hh_38)) (c1 := ch_35) (c2 := ch_38) hca hcb hcd hne (by omega) hE (tI_cut hlo_35 hhh_35) hch_35 (fun _ => ⟨tI_cut hlo_38 hhh_38, hch_38⟩) (fun _ _ => ⟨tI_cut hlo_41 hhh_41, hch_41⟩) ⟨fun _ => ⟨g0, g1, g2⟩, fun _ => rfl⟩
      · refine lv_aload_n hx hb d_Three_narrow_65 rfl (lv_at hl 0 rfl) ?_
        refine w_gf hx hb hK i_Quotient hown hP hN hT1 rfl 1 (by decide) t_512 rfl rfl d_Three_narrow_66 ?_
        refine lv_aload_n hx hb d_Three_narrow_69 rfl (lv_at hl 0 rfl) ?_
        refine w_gf hx hb hK i_Quotient hown hP hN hT1 rfl 0 (by decide) t_511 rfl rfl d_Three_narrow_70 ?_
        have K_244 : ∀ (z_244_0 : Int32), z_244_0.toInt = (if ¬ (cb : Int) = (ca : Int) then (f cb).toInt else x2.toInt) → W p l e (rl 6) s m args below meth c H locs 0 0 Q (F0 m 89 ls [.int z_244_0]) := by
          intro z_244_0 hz_244_0
          refine lv_istore_n (lv' := [(3, .int z_244_0), (0, .ref (adr t)), (1, .ref (adr b)), (2, .int x2)]) hx hb d_Three_narrow_89 rfl hl (by decide) rfl (fun ls hl => ?_)
          refine lv_aload_n hx hb d_Three_narrow_90 rfl (lv_at hl 1 rfl) ?_
          refine w_gf hx hb hK i_Quotient hown hP hN hT1 rfl 1 (by decide) t_512 rfl rfl d_Three_narrow_91 ?_
          refine lv_aload_n hx hb d_Three_narrow_94 rfl (lv_at hl 1 rfl) ?_
          refine w_gf hx hb hK i_Quotient hown hP hN hT1 rfl 0 (by decide) t_511 rfl rfl d_Three_narrow_95 ?_
          have K_445 : ∀ (z_445_0 : Int32), z_445_0.toInt = (if ¬ (cb : Int) = (ca : Int) then (g cb).toInt else x2.toInt) → W p l e (rl 6) s m args below meth c H locs 0 0 Q (F0 m 114 ls [.int z_445_0]) := by
            intro z_445_0 hz_445_0
            refine lv_istore (lv' := [(4, .int z_445_0), (3, .int z_244_0), (0, .ref (adr t)), (1, .ref (adr b)), (2, .int x2)]) hx hb d_Three_narrow_114 hl (by decide) rfl (fun ls hl => ?_)
            refine lv_aload_n hx hb d_Three_narrow_116 rfl (lv_at hl 2 rfl) ?_
            refine w_gf hx hb hK i_Quotient hown hP hN hT1 rfl 2 (by decide) t_513 rfl rfl d_Three_narrow_117 ?_
            refine lv_aload_n hx hb d_Three_narrow_120 rfl (lv_at hl 2 rfl) ?_
            refine w_gf hx hb hK i_Quotient hown hP hN hT1 rfl 0 (by decide) t_511 rfl rfl d_Three_narrow_121 ?_
            have K_646 : ∀ (z_646_0 : Int32), z_646_0.toInt = (if ¬ (cd : Int) = (ca : Int) then (f cd).toInt else x2.toInt) → W p l e (rl 6) s m args below meth c H locs 0 0 Q (F0 m 140 ls [.int z_646_0]) := by
              intro z_646_0 hz_646_0
              refine lv_istore (lv' := [(5, .int z_646_0), (4, .int z_445_0), (3, .int z_244_0), (0, .ref (adr t)), (1, .ref (adr b)), (2, .int x2)]) hx hb d_Three_narrow_140 hl (by decide) rfl (fun ls hl => ?_)
              refine lv_aload_n hx hb d_Three_narrow_142 rfl (lv_at hl 3 rfl) ?_
              refine w_gf hx hb hK i_Quotient hown hP hN hT1 rfl 2 (by decide) t_513 rfl rfl d_Three_narrow_143 ?_
              refine lv_aload_n hx hb d_Three_narrow_146 rfl (lv_at hl 3 rfl) ?_
              refine w_gf hx hb hK i_Quotient hown hP hN hT1 rfl 0 (by decide) t_511 rfl rfl d_Three_narrow_147 ?_
              have K_847 : ∀ (z_847_0 : Int32), z_847_0.toInt = (if ¬ (cd : Int) = (ca : Int) then (g cd).toInt else x2.toInt) → W p l e (rl 6) s m args below meth c H locs 0 0 Q (F0 m 166 ls [.int z_847_0]) := by
                intro z_847_0 hz_847_0
                refine lv_istore (lv' := [(6, .int z_847_0), (5, .int z_646_0), (4, .int z_445_0), (3, .int z_244_0), (0, .ref (adr t)), (1, .ref (adr b)), (2, .int x2)]) hx hb d_Three_narrow_166 hl (by decide) rfl (fun ls hl => ?_)
                refine lv_aload_n hx hb d_Three_narrow_168 rfl (lv_at hl 4 rfl) ?_
                refine lv_iload_n hx hb d_Three_narrow_169 rfl (lv_at hl 6 rfl) ?_
                refine lv_iload_n hx hb d_Three_narrow_170 rfl (lv_at hl 3 rfl) ?_
                refine lv_iload hx hb d_Three_narrow_171 (lv_at hl 2 rfl) ?_
                refine lv_iload hx hb d_Three_narrow_173 (lv_at hl 1 rfl) ?_
                refine lv_iload hx hb d_Three_narrow_175 (lv_at hl 0 rfl) ?_
                refine lv_aload_n hx hb d_Three_narrow_177 rfl (lv_at hl 4 rfl) ?_
                refine w_gf hx hb hK i_Quotient hown hP hN hT1 rfl 1 (by decide) t_512 rfl rfl d_Three_narrow_178 ?_
                refine lv_aload_n hx hb d_Three_narrow_181 rfl (lv_at hl 4 rfl) ?_
                refine w_gf hx hb hK i_Quotient hown hP hN hT1 rfl 2 (by decide) t_513 rfl rfl d_Three_narrow_182 ?_
                have K_1048 : ∀ (b_1048_0 : Bool), (b_1048_0 = true ↔ ((cb : Int) = (cd : Int) ∧ ¬ (cb : Int) = (ca : Int))) → W p l e (rl 6) s m args below meth c H locs 0 0 Q (F0 m 204 ls [.int (bi b_1048_0), .int z_847_0, .int z_646_0, .int z_445_0, .int z_244_0, .int x2, .ref (adr t)]) := by
                  intro b_1048_0 hb_1048_0
                  have hsp9 := th_sp (R := RQ) (a := ca) (b := cb) (c := cd) (bl := tI f) (bh := tI g) (x := x2.toInt) (by unfold tI; omega) hz_244_0 hz_445_0 hz_646_0 hz_847_0 hb_1048_0
                  have hr3 : -100 ≤ z_244_0.toInt ∧ z_244_0.toInt ≤ z_445_0.toInt ∧ z_445_0.toInt ≤ 100 := by rw [hz_244_0, hz_445_0]; split <;> omega
                  have hr4 : -100 ≤ z_646_0.toInt ∧ z_646_0.toInt ≤ z_847_0.toInt ∧ z_847_0.toInt ≤ 100 := by rw [hz_646_0, hz_847_0]; split <;> omega
                  have htw9 : b_1048_0 = true → z_244_0.toInt = z_646_0.toInt ∧ z_445_0.toInt = z_847_0.toInt := fun h => by have q := hb_1048_0.mp h; have e9 : cb = cd := (by omega); rw [hz_244_0, hz_445_0, hz_646_0, hz_847_0, if_pos q.2, if_pos q.2, if_pos (by omega), if_pos (by omega), e9]; exact ⟨rfl, rfl⟩
                  refine x_A (As := [.int x2, .int z_244_0, .int z_445_0, .int z_646_0, .int z_847_0, .int (bi b_1048_0)]) (rest := []) hx hb hml hown hK (k_Quotient_span l D cA adr N hi cn1 t xa xb xc e1 gd hT1 hN x2 z_244_0 z_445_0 z_646_0 z_847_0 b_1048_0 (by omega) (by omega) (by omega) htw9) t_267 t_14 t_218 t_220 t_219 t_265 t_266 ⟨by decide, by decide, yk_Quotient_span.2.2⟩ ⟨Nat.le_of_ble_eq_true rfl, Nat.le_of_ble_eq_true rfl⟩ (w_rec hK hP hN hT1 rfl) hP rfl hl.1 rfl (Nat.le_of_ble_eq_true rfl) d_Three_narrow_204 ⟨Nat.le_of_ble_eq_true rfl, Nat.le_of_ble_eq_true rfl⟩ hS (fun q h => h) (fun r H locs hq _ hS => ?_)
                  obtain ⟨cn_1049, e_1049, rfl, hFt_1049, hT_1049, hSp_1049, hP⟩ := hq
                  have hx_1049_1050 : cn_1049 b = .inr (2, [.ref (adr (b + 1)), .ref (adr (b + 2)), .int (bi ch)]) := (hFt_1049 b (by omega)).trans hB1.1
                  have hx_1049_1051 : cn_1049 (b + 1) = .inl (cA 0, 10, .inl f) := (hFt_1049 (b + 1) (by omega)).trans hB1.2.1
                  have hx_1049_1052 : cn_1049 (b + 2) = .inl (cA 0, 10, .inl g) := (hFt_1049 (b + 2) (by omega)).trans hB1.2.2
                  refine W.eq (g2 := F0 m 207 ls []) rfl ?_
                  refine x_iinc (k := 6) (lv' := fun v_ => [(2, .int v_), (6, .int z_847_0), (5, .int z_646_0), (4, .int z_445_0), (3, .int z_244_0), (0, .ref (adr t)), (1, .ref (adr b))]) hx hb d_Three_narrow_207 hl rfl rfl (by decide) (by omega) (by decide) (fun v_ => rfl) (fun z_1053 tz_1053 ls hl => ?_)
                  refine lv_goto (tgt := 52) hx hb d_Three_narrow_210 (by decide) ?_
                  have hE9 := th_step hsp9 (hSp_1049 _ hE1)
                  rw [← tz_1053] at hE9
                  exact ih_32 z_1053 cn_1049 e_1049 _ _ _ (by omega) (by omega) (hF1.tr (FrTB.t hFt_1049)) hT_1049 ⟨hx_1049_1050, hx_1049_1051, hx_1049_1052⟩ hE9 hP hS (lv_sub hl [5, 6, 0] rfl)
                refine b_icmp_ne (tgt := 203) hx hb d_Three_narrow_185 (by decide) hxb hxc (fun c_1054 => ?_) (fun c_1054 => ?_)
                · refine lv_iconst (v := 0) hx hb d_Three_narrow_203 (by decide) ?_
                  exact K_1048 false ⟨fun h => absurd h (by decide), fun h => absurd h (by omega)⟩
                · refine lv_aload_n hx hb d_Three_narrow_188 rfl (lv_at hl 4 rfl) ?_
                  refine w_gf hx hb hK i_Quotient hown hP hN hT1 rfl 1 (by decide) t_512 rfl rfl d_Three_narrow_189 ?_
                  refine lv_aload_n hx hb d_Three_narrow_192 rfl (lv_at hl 4 rfl) ?_
                  refine w_gf hx hb hK i_Quotient hown hP hN hT1 rfl 0 (by decide) t_511 rfl rfl d_Three_narrow_193 ?_
                  refine b_icmp_eq (tgt := 203) hx hb d_Three_narrow_196 (by decide) hxb hxa (fun c_1055 => ?_) (fun c_1055 => ?_)
                  · refine lv_iconst (v := 0) hx hb d_Three_narrow_203 (by decide) ?_
                    exact K_1048 false ⟨fun h => absurd h (by decide), fun h => absurd h (by omega)⟩
                  · refine lv_iconst (v := 1) hx hb d_Three_narrow_199 (by decide) ?_
                    refine lv_goto (tgt := 204) hx hb d_Three_narrow_200 (by decide) ?_
                    exact K_1048 true ⟨fun _ => by omega, fun _ => rfl⟩
              refine b_icmp_ne (tgt := 157) hx hb d_Three_narrow_150 (by decide) hxc hxa (fun c_1056 => ?_) (fun c_1056 => ?_)
              · refine lv_aload_n hx hb d_Three_narrow_157 rfl (lv_at hl 4 rfl) ?_
                refine w_gfN hx hb hK i_Box hown hP hMb.1 hB1.1 rfl 1 (by decide) t_47 rfl rfl d_Three_narrow_158 ?_
                refine lv_aload_n hx hb d_Three_narrow_161 rfl (lv_at hl 3 rfl) ?_
                refine w_gf hx hb hK i_Quotient hown hP hN hT1 rfl 2 (by decide) t_513 rfl rfl d_Three_narrow_162 ?_
                refine w_ld hx hb hK hP hMb.2.2 hB1.2.2 (cd) hxc (by omega) (show cd < 10 by omega) d_Three_narrow_165 (fun z_1057 ez_1057 => ?_)
                subst ez_1057
                exact K_847 (g cd) (by omega)
              · refine lv_iload_n hx hb d_Three_narrow_153 rfl (lv_at hl 5 rfl) ?_
                refine lv_goto (tgt := 166) hx hb d_Three_narrow_154 (by decide) ?_
                exact K_847 x2 (by omega)
            refine b_icmp_ne (tgt := 131) hx hb d_Three_narrow_124 (by decide) hxc hxa (fun c_1058 => ?_) (fun c_1058 => ?_)
            · refine lv_aload_n hx hb d_Three_narrow_131 rfl (lv_at hl 3 rfl) ?_
              refine w_gfN hx hb hK i_Box hown hP hMb.1 hB1.1 rfl 0 (by decide) t_41 rfl rfl d_Three_narrow_132 ?_
              refine lv_aload_n hx hb d_Three_narrow_135 rfl (lv_at hl 2 rfl) ?_
              refine w_gf hx hb hK i_Quotient hown hP hN hT1 rfl 2 (by decide) t_513 rfl rfl d_Three_narrow_136 ?_
              refine w_ld hx hb hK hP hMb.2.1 hB1.2.1 (cd) hxc (by omega) (show cd < 10 by omega) d_Three_narrow_139 (fun z_1059 ez_1059 => ?_)
              subst ez_1059
              exact K_646 (f cd) (by omega)
            · refine lv_iload_n hx hb d_Three_narrow_127 rfl (lv_at hl 4 rfl) ?_
              refine lv_goto (tgt := 140) hx hb d_Three_narrow_128 (by decide) ?_
              exact K_646 x2 (by omega)
          refine b_icmp_ne (tgt := 105) hx hb d_Three_narrow_98 (by decide) hxb hxa (fun c_1060 => ?_) (fun c_1060 => ?_)
          · refine lv_aload_n hx hb d_Three_narrow_105 rfl (lv_at hl 2 rfl) ?_
            refine w_gfN hx hb hK i_Box hown hP hMb.1 hB1.1 rfl 1 (by decide) t_47 rfl rfl d_Three_narrow_106 ?_
            refine lv_aload_n hx hb d_Three_narrow_109 rfl (lv_at hl 1 rfl) ?_
            refine w_gf hx hb hK i_Quotient hown hP hN hT1 rfl 1 (by decide) t_512 rfl rfl d_Three_narrow_110 ?_
            refine w_ld hx hb hK hP hMb.2.2 hB1.2.2 (cb) hxb (by omega) (show cb < 10 by omega) d_Three_narrow_113 (fun z_1061 ez_1061 => ?_)
            subst ez_1061
            exact K_445 (g cb) (by omega)
          · refine lv_iload_n hx hb d_Three_narrow_101 rfl (lv_at hl 3 rfl) ?_
            refine lv_goto (tgt := 114) hx hb d_Three_narrow_102 (by decide) ?_
            exact K_445 x2 (by omega)
        refine b_icmp_ne (tgt := 80) hx hb d_Three_narrow_73 (by decide) hxb hxa (fun c_1062 => ?_) (fun c_1062 => ?_)
        · refine lv_aload_n hx hb d_Three_narrow_80 rfl (lv_at hl 1 rfl) ?_
          refine w_gfN hx hb hK i_Box hown hP hMb.1 hB1.1 rfl 0 (by decide) t_41 rfl rfl d_Three_narrow_81 ?_
          refine lv_aload_n hx hb d_Three_narrow_84 rfl (lv_at hl 0 rfl) ?_
          refine w_gf hx hb hK i_Quotient hown hP hN hT1 rfl 1 (by decide) t_512 rfl rfl d_Three_narrow_85 ?_
          refine w_ld hx hb hK hP hMb.2.1 hB1.2.1 (cb) hxb (by omega) (show cb < 10 by omega) d_Three_narrow_88 (fun z_1063 ez_1063 => ?_)
          subst ez_1063
          exact K_244 (f cb) (by omega)
        · refine lv_iload_n hx hb d_Three_narrow_76 rfl (lv_at hl 2 rfl) ?_
          refine lv_goto (tgt := 89) hx hb d_Three_narrow_77 (by decide) ?_
          exact K_244 x2 (by omega)
  obtain ⟨ez, hez⟩ : ∃ q : Nat → Int32, q = (fun k => match k with | 0 => (200 : Int32) | 1 => (-200 : Int32) | 2 => (200 : Int32) | 3 => (-200 : Int32) | 4 => (200 : Int32) | _ => (-200 : Int32)) := ⟨_, rfl⟩
  exact L_32 (_ + 1) (f ca) cn_26 ez _ _ _ (Nat.lt_succ_self _) (by omega) (show FrTB t b cn cn_26 from fun k a0 a1 a2 a3 => hfr_26 k a0 a1 a2 a3) (by rw [hez]; exact ho_26_30) ⟨ho_26_27, ho_26_28, ho_26_29⟩ (by rw [hez]; show Ends _ 200 (200 : Int32).toInt (-200 : Int32).toInt (200 : Int32).toInt (-200 : Int32).toInt (200 : Int32).toInt (-200 : Int32).toInt; rw [kc_200, kc_m200]; exact Ends.none (fun x y z h => by have h1 := h.1.1; have h2 := h.2; unfold tI at h1; omega)) hP hS (lv_sub hl [1, 2, 0] rfl)
set_option maxHeartbeats 4000000 in
set_option maxRecDepth 20000 in
theorem k_narrow_Lesser (l : Launch) (D : va_G) (cA : Nat → ClassId) (adr : Nat → Nat) (N : List Nat) (hi : wI N adr) (cn : Nat → va_E) (t : Nat) (xa xb xc : Int32) (e0 : Nat → Int32) (gd : Bool) (hT : TP cn t 10 xa xb xc e0 gd) (hN : t ∈ N) (b : Nat) (f g : Nat → Int32) (ch : Bool) (hB : BP cA adr cn b f g ch) (hMb : BM N b) (hdt : t ≠ b ∧ t ≠ b + 1 ∧ t ≠ b + 2) (nn : Nat) (hn10 : nn ≤ 10) (hne : Ne nn (tI f) (tI g)) (hrg : ∀ k, k < nn → -100 ≤ tI f k ∧ tI g k ≤ 100) (ca cb cd : Nat) (hxa : xa.toInt = (ca : Int)) (hxb : xb.toInt = (cb : Int)) (hxc : xc.toInt = (cd : Int)) (hca : ca < nn) (hcb : cb < nn) (hcd : cd < nn) : Ct l y_Three_narrow b_Three_narrow 7 (some .boolean) 6 D cA [.ref (adr t), .ref (adr b)] (fun H => va_P D classes (wl N adr cn) H) (fun r H => ∃ (cn2 : Nat → va_E) (f2 g2 : Nat → Int32) (e2 : Nat → Int32) (q c2 : Bool), r = some (.int (bi q)) ∧ FrTB t b cn cn2 ∧ TP cn2 t 10 xa xb xc e2 gd ∧ BP cA adr cn2 b f2 g2 c2 ∧ NOK nn (Hull 3 ca cb cd) (tI f) (tI g) q (tI f2) (tI g2) ch c2 ∧ va_P D classes (wl N adr cn2) H) (wA N adr) := by
  refine Ct.mk (by decide) (Nat.le_of_ble_eq_true rfl) ?_
  intro p e s m args below meth c Q H locs ls hx hb hr hml hlk hown hin hK hQ hS hP hl
  have hl : lv_has ls 7 [(0, .ref (adr t)), (1, .ref (adr b))] := hl
  have hown : s.vm.findClass "RangeSheet$Three" = some m.cls := hown
  have hra := hrg ca hca; have hrb := hrg cb hcb; have hrc := hrg cd hcd; have hna := hne ca hca; have hnb := hne cb hcb; have hnc := hne cd hcd; unfold tI at hra hrb hrc hna hnb hnc
  refine lv_aload_n hx hb d_Three_narrow_0 rfl (lv_at hl 0 rfl) ?_
  refine lv_sipush (v := 200) hx hb d_Three_narrow_1 (by decide) ?_
  refine w_pf hx hb hK i_Lesser t_Lesser t_Lesser_ok n_Lesser hown hi hP hS wA_mem hN hT rfl 3 (by decide) t_514 rfl rfl rfl rfl rfl d_Three_narrow_4 (fun H locs hP hS => ?_)
  obtain ⟨cn_1, ecn_1⟩ : ∃ q : Nat → va_E, q = va_up cn t (.inr (10, [.int xa, .int xb, .int xc, .int (200 : Int32), .int (e0 1), .int (e0 2), .int (e0 3), .int (e0 4), .int (e0 5), .int (bi gd)])) := ⟨_, rfl⟩
  have hP : va_P D classes (wl N adr cn_1) H := by rw [ecn_1]; exact hP
  have ho_1_2 : cn_1 b = .inr (2, [.ref (adr (b + 1)), .ref (adr (b + 2)), .int (bi ch)]) := by rw [ecn_1, va_up_ne _ _ (by omega)]; exact hB.1
  have ho_1_3 : cn_1 (b + 1) = .inl (cA 0, 10, .inl f) := by rw [ecn_1, va_up_ne _ _ (by omega)]; exact hB.2.1
  have ho_1_4 : cn_1 (b + 2) = .inl (cA 0, 10, .inl g) := by rw [ecn_1, va_up_ne _ _ (by omega)]; exact hB.2.2
  have ho_1_5 : cn_1 t = .inr (10, [.int xa, .int xb, .int xc, .int (200 : Int32), .int (e0 1), .int (e0 2), .int (e0 3), .int (e0 4), .int (e0 5), .int (bi gd)]) := by rw [ecn_1]; exact va_up_self _ _ _
  have hfr_1 : ∀ k, k ≠ t → k ≠ b → k ≠ b + 1 → k ≠ b + 2 → cn_1 k = cn k := fun k a0 a1 a2 a3 => (congrFun ecn_1 k).trans ((va_up_ne _ _ (by omega)).trans rfl)
  refine lv_aload_n hx hb d_Three_narrow_7 rfl (lv_at hl 0 rfl) ?_
  refine lv_sipush (v := 200) hx hb d_Three_narrow_8 (by decide) ?_
  refine w_pf hx hb hK i_Lesser t_Lesser t_Lesser_ok n_Lesser hown hi hP hS wA_mem hN ho_1_5 rfl 5 (by decide) t_516 rfl rfl rfl rfl rfl d_Three_narrow_11 (fun H locs hP hS => ?_)
  obtain ⟨cn_6, ecn_6⟩ : ∃ q : Nat → va_E, q = va_up cn_1 t (.inr (10, [.int xa, .int xb, .int xc, .int (200 : Int32), .int (e0 1), .int (200 : Int32), .int (e0 3), .int (e0 4), .int (e0 5), .int (bi gd)])) := ⟨_, rfl⟩
  have hP : va_P D classes (wl N adr cn_6) H := by rw [ecn_6]; exact hP
  have ho_6_7 : cn_6 b = .inr (2, [.ref (adr (b + 1)), .ref (adr (b + 2)), .int (bi ch)]) := by rw [ecn_6, va_up_ne _ _ (by omega)]; exact ho_1_2
  have ho_6_8 : cn_6 (b + 1) = .inl (cA 0, 10, .inl f) := by rw [ecn_6, va_up_ne _ _ (by omega)]; exact ho_1_3
  have ho_6_9 : cn_6 (b + 2) = .inl (cA 0, 10, .inl g) := by rw [ecn_6, va_up_ne _ _ (by omega)]; exact ho_1_4
  have ho_6_10 : cn_6 t = .inr (10, [.int xa, .int xb, .int xc, .int (200 : Int32), .int (e0 1), .int (200 : Int32), .int (e0 3), .int (e0 4), .int (e0 5), .int (bi gd)]) := by rw [ecn_6]; exact va_up_self _ _ _
  have hfr_6 : ∀ k, k ≠ t → k ≠ b → k ≠ b + 1 → k ≠ b + 2 → cn_6 k = cn k := fun k a0 a1 a2 a3 => (congrFun ecn_6 k).trans ((va_up_ne _ _ (by omega)).trans (hfr_1 k a0 a1 a2 a3))
  refine lv_aload_n hx hb d_Three_narrow_14 rfl (lv_at hl 0 rfl) ?_
  refine lv_sipush (v := 200) hx hb d_Three_narrow_15 (by decide) ?_
  refine w_pf hx hb hK i_Lesser t_Lesser t_Lesser_ok n_Lesser hown hi hP hS wA_mem hN ho_6_10 rfl 7 (by decide) t_518 rfl rfl rfl rfl rfl d_Three_narrow_18 (fun H locs hP hS => ?_)
  obtain ⟨cn_11, ecn_11⟩ : ∃ q : Nat → va_E, q = va_up cn_6 t (.inr (10, [.int xa, .int xb, .int xc, .int (200 : Int32), .int (e0 1), .int (200 : Int32), .int (e0 3), .int (200 : Int32), .int (e0 5), .int (bi gd)])) := ⟨_, rfl⟩
  have hP : va_P D classes (wl N adr cn_11) H := by rw [ecn_11]; exact hP
  have ho_11_12 : cn_11 b = .inr (2, [.ref (adr (b + 1)), .ref (adr (b + 2)), .int (bi ch)]) := by rw [ecn_11, va_up_ne _ _ (by omega)]; exact ho_6_7
  have ho_11_13 : cn_11 (b + 1) = .inl (cA 0, 10, .inl f) := by rw [ecn_11, va_up_ne _ _ (by omega)]; exact ho_6_8
  have ho_11_14 : cn_11 (b + 2) = .inl (cA 0, 10, .inl g) := by rw [ecn_11, va_up_ne _ _ (by omega)]; exact ho_6_9
  have ho_11_15 : cn_11 t = .inr (10, [.int xa, .int xb, .int xc, .int (200 : Int32), .int (e0 1), .int (200 : Int32), .int (e0 3), .int (200 : Int32), .int (e0 5), .int (bi gd)]) := by rw [ecn_11]; exact va_up_self _ _ _
  have hfr_11 : ∀ k, k ≠ t → k ≠ b → k ≠ b + 1 → k ≠ b + 2 → cn_11 k = cn k := fun k a0 a1 a2 a3 => (congrFun ecn_11 k).trans ((va_up_ne _ _ (by omega)).trans (hfr_6 k a0 a1 a2 a3))
  refine lv_aload_n hx hb d_Three_narrow_21 rfl (lv_at hl 0 rfl) ?_
  refine lv_sipush (v := (-200)) hx hb d_Three_narrow_22 (by decide) ?_
  refine w_pf hx hb hK i_Lesser t_Lesser t_Lesser_ok n_Lesser hown hi hP hS wA_mem hN ho_11_15 rfl 4 (by decide) t_515 rfl rfl rfl rfl rfl d_Three_narrow_25 (fun H locs hP hS => ?_)
  obtain ⟨cn_16, ecn_16⟩ : ∃ q : Nat → va_E, q = va_up cn_11 t (.inr (10, [.int xa, .int xb, .int xc, .int (200 : Int32), .int (-200 : Int32), .int (200 : Int32), .int (e0 3), .int (200 : Int32), .int (e0 5), .int (bi gd)])) := ⟨_, rfl⟩
  have hP : va_P D classes (wl N adr cn_16) H := by rw [ecn_16]; exact hP
  have ho_16_17 : cn_16 b = .inr (2, [.ref (adr (b + 1)), .ref (adr (b + 2)), .int (bi ch)]) := by rw [ecn_16, va_up_ne _ _ (by omega)]; exact ho_11_12
  have ho_16_18 : cn_16 (b + 1) = .inl (cA 0, 10, .inl f) := by rw [ecn_16, va_up_ne _ _ (by omega)]; exact ho_11_13
  have ho_16_19 : cn_16 (b + 2) = .inl (cA 0, 10, .inl g) := by rw [ecn_16, va_up_ne _ _ (by omega)]; exact ho_11_14
  have ho_16_20 : cn_16 t = .inr (10, [.int xa, .int xb, .int xc, .int (200 : Int32), .int (-200 : Int32), .int (200 : Int32), .int (e0 3), .int (200 : Int32), .int (e0 5), .int (bi gd)]) := by rw [ecn_16]; exact va_up_self _ _ _
  have hfr_16 : ∀ k, k ≠ t → k ≠ b → k ≠ b + 1 → k ≠ b + 2 → cn_16 k = cn k := fun k a0 a1 a2 a3 => (congrFun ecn_16 k).trans ((va_up_ne _ _ (by omega)).trans (hfr_11 k a0 a1 a2 a3))
  refine lv_aload_n hx hb d_Three_narrow_28 rfl (lv_at hl 0 rfl) ?_
  refine lv_sipush (v := (-200)) hx hb d_Three_narrow_29 (by decide) ?_
  refine w_pf hx hb hK i_Lesser t_Lesser t_Lesser_ok n_Lesser hown hi hP hS wA_mem hN ho_16_20 rfl 6 (by decide) t_517 rfl rfl rfl rfl rfl d_Three_narrow_32 (fun H locs hP hS => ?_)
  obtain ⟨cn_21, ecn_21⟩ : ∃ q : Nat → va_E, q = va_up cn_16 t (.inr (10, [.int xa, .int xb, .int xc, .int (200 : Int32), .int (-200 : Int32), .int (200 : Int32), .int (-200 : Int32), .int (200 : Int32), .int (e0 5), .int (bi gd)])) := ⟨_, rfl⟩
  have hP : va_P D classes (wl N adr cn_21) H := by rw [ecn_21]; exact hP
  have ho_21_22 : cn_21 b = .inr (2, [.ref (adr (b + 1)), .ref (adr (b + 2)), .int (bi ch)]) := by rw [ecn_21, va_up_ne _ _ (by omega)]; exact ho_16_17
  have ho_21_23 : cn_21 (b + 1) = .inl (cA 0, 10, .inl f) := by rw [ecn_21, va_up_ne _ _ (by omega)]; exact ho_16_18
  have ho_21_24 : cn_21 (b + 2) = .inl (cA 0, 10, .inl g) := by rw [ecn_21, va_up_ne _ _ (by omega)]; exact ho_16_19
  have ho_21_25 : cn_21 t = .inr (10, [.int xa, .int xb, .int xc, .int (200 : Int32), .int (-200 : Int32), .int (200 : Int32), .int (-200 : Int32), .int (200 : Int32), .int (e0 5), .int (bi gd)]) := by rw [ecn_21]; exact va_up_self _ _ _
  have hfr_21 : ∀ k, k ≠ t → k ≠ b → k ≠ b + 1 → k ≠ b + 2 → cn_21 k = cn k := fun k a0 a1 a2 a3 => (congrFun ecn_21 k).trans ((va_up_ne _ _ (by omega)).trans (hfr_16 k a0 a1 a2 a3))
  refine lv_aload_n hx hb d_Three_narrow_35 rfl (lv_at hl 0 rfl) ?_
  refine lv_sipush (v := (-200)) hx hb d_Three_narrow_36 (by decide) ?_
  refine w_pf hx hb hK i_Lesser t_Lesser t_Lesser_ok n_Lesser hown hi hP hS wA_mem hN ho_21_25 rfl 8 (by decide) t_519 rfl rfl rfl rfl rfl d_Three_narrow_39 (fun H locs hP hS => ?_)
  obtain ⟨cn_26, ecn_26⟩ : ∃ q : Nat → va_E, q = va_up cn_21 t (.inr (10, [.int xa, .int xb, .int xc, .int (200 : Int32), .int (-200 : Int32), .int (200 : Int32), .int (-200 : Int32), .int (200 : Int32), .int (-200 : Int32), .int (bi gd)])) := ⟨_, rfl⟩
  have hP : va_P D classes (wl N adr cn_26) H := by rw [ecn_26]; exact hP
  have ho_26_27 : cn_26 b = .inr (2, [.ref (adr (b + 1)), .ref (adr (b + 2)), .int (bi ch)]) := by rw [ecn_26, va_up_ne _ _ (by omega)]; exact ho_21_22
  have ho_26_28 : cn_26 (b + 1) = .inl (cA 0, 10, .inl f) := by rw [ecn_26, va_up_ne _ _ (by omega)]; exact ho_21_23
  have ho_26_29 : cn_26 (b + 2) = .inl (cA 0, 10, .inl g) := by rw [ecn_26, va_up_ne _ _ (by omega)]; exact ho_21_24
  have ho_26_30 : cn_26 t = .inr (10, [.int xa, .int xb, .int xc, .int (200 : Int32), .int (-200 : Int32), .int (200 : Int32), .int (-200 : Int32), .int (200 : Int32), .int (-200 : Int32), .int (bi gd)]) := by rw [ecn_26]; exact va_up_self _ _ _
  have hfr_26 : ∀ k, k ≠ t → k ≠ b → k ≠ b + 1 → k ≠ b + 2 → cn_26 k = cn k := fun k a0 a1 a2 a3 => (congrFun ecn_26 k).trans ((va_up_ne _ _ (by omega)).trans (hfr_21 k a0 a1 a2 a3))
  refine lv_aload_n hx hb d_Three_narrow_42 rfl (lv_at hl 1 rfl) ?_
  refine w_gfN hx hb hK i_Box hown hP hMb.1 ho_26_27 rfl 0 (by decide) t_41 rfl rfl d_Three_narrow_43 ?_
  refine lv_aload_n hx hb d_Three_narrow_46 rfl (lv_at hl 0 rfl) ?_
  refine w_gf hx hb hK i_Lesser hown hP hN ho_26_30 rfl 0 (by decide) t_511 rfl rfl d_Three_narrow_47 ?_
  refine w_ld hx hb hK hP hMb.2.1 ho_26_28 (ca) hxa (by omega) (show ca < 10 by omega) d_Three_narrow_50 (fun z_31 ez_31 => ?_)
  subst ez_31
  refine lv_istore_n (lv' := [(2, .int (f ca)), (0, .ref (adr t)), (1, .ref (adr b))]) hx hb d_Three_narrow_51 rfl hl (by decide) rfl (fun ls hl => ?_)
  have L_32 : ∀ (n : Nat) (x2 : Int32) (cn1 : Nat → va_E) (e1 : Nat → Int32) (H : Heap) (locs : List Loc) (ls : Array Slot), ((g ca).toInt + 1 - x2.toInt).toNat < n → ((f ca).toInt ≤ x2.toInt ∧ x2.toInt ≤ (g ca).toInt + 1) → (FrTB t b cn cn1) → (TP cn1 t 10 xa xb xc e1 gd) → (BP cA adr cn1 b f g ch) → (EE (fun x y z => SolG (R3 3) ca cb cd (tI f) (tI g) x y z ∧ x < x2.toInt) e1) → va_P D classes (wl N adr cn1) H → va_S (wA N adr) s.heap H locs → lv_has ls 7 [(0, .ref (adr t)), (1, .ref (adr b)), (2, .int x2)] → W p l e (rl 6) s m args below meth c H locs 0 0 Q (F0 m 52 ls []) := by
    intro n
    induction n with
    | zero => intro x2 cn1 e1 H locs ls hmu; exact absurd hmu (Nat.not_lt_zero _)
    | succ n ih_32 =>
      intro x2 cn1 e1 H locs ls hmu hx2 hF1 hT1 hB1 hE1 hP hS hl
      refine lv_iload_n hx hb d_Three_narrow_52 rfl (lv_at hl 2 rfl) ?_
      refine lv_aload_n hx hb d_Three_narrow_53 rfl (lv_at hl 1 rfl) ?_
      refine w_gfN hx hb hK i_Box hown hP hMb.1 hB1.1 rfl 1 (by decide) t_47 rfl rfl d_Three_narrow_54 ?_
      refine lv_aload_n hx hb d_Three_narrow_57 rfl (lv_at hl 0 rfl) ?_
      refine w_gf hx hb hK i_Lesser hown hP hN hT1 rfl 0 (by decide) t_511 rfl rfl d_Three_narrow_58 ?_
      refine w_ld hx hb hK hP hMb.2.2 hB1.2.2 (ca) hxa (by omega) (show ca < 10 by omega) d_Three_narrow_61 (fun z_33 ez_33 => ?_)
      subst ez_33
      refine b_icmp_gt (tgt := 213) hx hb d_Three_narrow_62 (by decide) rfl rfl (fun c_34 => ?_) (fun c_34 => ?_)
      · refine lv_aload_n hx hb d_Three_narrow_213 rfl (lv_at hl 1 rfl) ?_
        refine lv_aload_n hx hb d_Three_narrow_214 rfl (lv_at hl 0 rfl) ?_
        refine w_gf hx hb hK i_Lesser hown hP hN hT1 rfl 0 (by decide) t_511 rfl rfl d_Three_narrow_215 ?_
        refine lv_aload_n hx hb d_Three_narrow_218 rfl (lv_at hl 0 rfl) ?_
        refine w_gf hx hb hK i_Lesser hown hP hN hT1 rfl 3 (by decide) t_514 rfl rfl d_Three_narrow_219 ?_
        refine lv_aload_n hx hb d_Three_narrow_222 rfl (lv_at hl 0 rfl) ?_
        refine w_gf hx hb hK i_Lesser hown hP hN hT1 rfl 4 (by decide) t_515 rfl rfl d_Three_narrow_223 ?_
        refine x_V (As := [.int xa, .int (e1 0), .int (e1 1)]) (rest := []) hx hb hml hown hK (k_Box_cut l D cA adr N hi cn1 b f g ch ⟨hB1.1, hB1.2.1, hB1.2.2⟩ hMb ca xa (e1 0) (e1 1) hxa (by omega)) t_176 t_2 t_282 t_174 t_175 yk_Box_cut ⟨Nat.le_of_ble_eq_true rfl, Nat.le_of_ble_eq_true rfl⟩ (w_rec hK hP hMb.1 hB1.1 rfl) hP rfl hl.1 rfl (Nat.le_of_ble_eq_true rfl) d_Three_narrow_226 ⟨Nat.le_of_ble_eq_true rfl, Nat.le_of_ble_eq_true rfl⟩ hS (fun q h => h) (fun r H locs hq _ hS => ?_)
        obtain ⟨cn_35, lo_35, hh_35, hlo_35, hhh_35, rfl, hFb_35, hB_35, hP⟩ := hq
        obtain ⟨ch_35, hch_35⟩ : ∃ q : Bool, q = (ch || decide ((f ca).toInt < (e1 0).toInt ∨ (e1 1).toInt < (g ca).toInt)) := ⟨_, rfl⟩
        rw [← hch_35] at hB_35
        have hx_35_36 : cn_35 t = .inr (10, [.int xa, .int xb, .int xc, .int (e1 0), .int (e1 1), .int (e1 2), .int (e1 3), .int (e1 4), .int (e1 5), .int (bi gd)]) := (hFb_35 t (by omega) (by omega) (by omega)).trans hT1
        have hfr_35 : FrTB t b cn cn_35 := hF1.tr (FrTB.b hFb_35)
        refine W.eq (g2 := F0 m 229 ls [.int (bi (decide (lo_35.toInt ≤ hh_35.toInt)))]) rfl ?_
        refine b_bool_eq (tgt := 274) hx hb d_Three_narrow_229 (by decide) (fun c_37 => ?_) (fun c_37 => ?_)
        · have hc_37 := of_decide_eq_false c_37
          refine lv_iconst (v := 0) hx hb d_Three_narrow_274 (by decide) ?_
          refine W.eq (g2 := F0 m 275 ls [.int (bi false)]) rfl ?_
          refine e_z hx hb hr hlk hQ hS d_Three_narrow_275 ?_
          refine ⟨cn_35, (upd f ca lo_35), (upd g ca hh_35), e1, false, ch_35, rfl, hfr_35, hx_35_36, ⟨hB_35.1, hB_35.2.1, hB_35.2.2⟩, ?_, hP⟩
          have hE : Ends (SolG (R3 3) ca cb cd (tI f) (tI g)) 200 (e1 0).toInt (e1 1).toInt (e1 2).toInt (e1 3).toInt (e1 4).toInt (e1 5).toInt := hE1.congr (fun x y z => ⟨fun h => h.1, fun h => ⟨h, by have h1 := h.1; unfold tI at h1; omega⟩⟩)
          have g0 : ¬ tI (upd f ca lo_35) ca ≤ tI (upd g ca hh_35) ca := by rw [tI_up, tI_up]; exact of_decide_eq_false c_37
          have hrz := hrg ca hca
          rw [← HullG_k]; exact hull3G (far := 200) (yl := tI (upd f ca lo_35)) (yh := tI (upd g ca hh_35)) (wl := tI (upd f ca lo_35)) (wh := tI (upd g ca hh_35)) (c1 := ch_35) (c2 := ch_35) hca hcb hcd hne (by omega) hE (tI_cut hlo_35 hhh_35) hch_35 (fun h => absurd h g0) (fun h => absurd h g0) ⟨fun h => absurd h (by decide), fun h => absurd h.1 g0⟩
        · have hc_37 := of_decide_eq_true c_37
          refine lv_aload_n hx hb d_Three_narrow_232 rfl (lv_at hl 1 rfl) ?_
          refine lv_aload_n hx hb d_Three_narrow_233 rfl (lv_at hl 0 rfl) ?_
          refine w_gf hx hb hK i_Lesser hown hP hN hx_35_36 rfl 1 (by decide) t_512 rfl rfl d_Three_narrow_234 ?_
          refine lv_aload_n hx hb d_Three_narrow_237 rfl (lv_at hl 0 rfl) ?_
          refine w_gf hx hb hK i_Lesser hown hP hN hx_35_36 rfl 5 (by decide) t_516 rfl rfl d_Three_narrow_238 ?_
          refine lv_aload_n hx hb d_Three_narrow_241 rfl (lv_at hl 0 rfl) ?_
          refine w_gf hx hb hK i_Lesser hown hP hN hx_35_36 rfl 6 (by decide) t_517 rfl rfl d_Three_narrow_242 ?_
          refine x_V (As := [.int xb, .int (e1 2), .int (e1 3)]) (rest := []) hx hb hml hown hK (k_Box_cut l D cA adr N hi cn_35 b (upd f ca lo_35) (upd g ca hh_35) ch_35 ⟨hB_35.1, hB_35.2.1, hB_35.2.2⟩ hMb cb xb (e1 2) (e1 3) hxb (by omega)) t_176 t_2 t_282 t_174 t_175 yk_Box_cut ⟨Nat.le_of_ble_eq_true rfl, Nat.le_of_ble_eq_true rfl⟩ (w_rec hK hP hMb.1 hB_35.1 rfl) hP rfl hl.1 rfl (Nat.le_of_ble_eq_true rfl) d_Three_narrow_245 ⟨Nat.le_of_ble_eq_true rfl, Nat.le_of_ble_eq_true rfl⟩ hS (fun q h => h) (fun r H locs hq _ hS => ?_)
          obtain ⟨cn_38, lo_38, hh_38, hlo_38, hhh_38, rfl, hFb_38, hB_38, hP⟩ := hq
          obtain ⟨ch_38, hch_38⟩ : ∃ q : Bool, q = (ch_35 || decide (((upd f ca lo_35) cb).toInt < (e1 2).toInt ∨ (e1 3).toInt < ((upd g ca hh_35) cb).toInt)) := ⟨_, rfl⟩
          rw [← hch_38] at hB_38
          have hx_38_39 : cn_38 t = .inr (10, [.int xa, .int xb, .int xc, .int (e1 0), .int (e1 1), .int (e1 2), .int (e1 3), .int (e1 4), .int (e1 5), .int (bi gd)]) := (hFb_38 t (by omega) (by omega) (by omega)).trans hx_35_36
          have hfr_38 : FrTB t b cn cn_38 := hfr_35.tr (FrTB.b hFb_38)
          refine W.eq (g2 := F0 m 248 ls [.int (bi (decide (lo_38.toInt ≤ hh_38.toInt)))]) rfl ?_
          refine b_bool_eq (tgt := 274) hx hb d_Three_narrow_248 (by decide) (fun c_40 => ?_) (fun c_40 => ?_)
          · have hc_40 := of_decide_eq_false c_40
            refine lv_iconst (v := 0) hx hb d_Three_narrow_274 (by decide) ?_
            refine W.eq (g2 := F0 m 275 ls [.int (bi false)]) rfl ?_
            refine e_z hx hb hr hlk hQ hS d_Three_narrow_275 ?_
            refine ⟨cn_38, (upd (upd f ca lo_35) cb lo_38), (upd (upd g ca hh_35) cb hh_38), e1, false, ch_38, rfl, hfr_38, hx_38_39, ⟨hB_38.1, hB_38.2.1, hB_38.2.2⟩, ?_, hP⟩
            have hE : Ends (SolG (R3 3) ca cb cd (tI f) (tI g)) 200 (e1 0).toInt (e1 1).toInt (e1 2).toInt (e1 3).toInt (e1 4).toInt (e1 5).toInt := hE1.congr (fun x y z => ⟨fun h => h.1, fun h => ⟨h, by have h1 := h.1; unfold tI at h1; omega⟩⟩)
            have g0 : tI (upd f ca lo_35) ca ≤ tI (upd g ca hh_35) ca := by rw [tI_up, tI_up]; exact of_decide_eq_true c_37
            have g1 : ¬ tI (upd (upd f ca lo_35) cb lo_38) cb ≤ tI (upd (upd g ca hh_35) cb hh_38) cb := by rw [tI_up, tI_up]; exact of_decide_eq_false c_40
            have hrz := hrg ca hca
            rw [← HullG_k]; exact hull3G (far := 200) (yl := tI (upd f ca lo_35)) (yh := tI (upd g ca hh_35)) (wl := tI (upd (upd f ca lo_35) cb lo_38)) (wh := tI (upd (upd g ca hh_35) cb hh_38)) (c1 := ch_35) (c2 := ch_38) hca hcb hcd hne (by omega) hE (tI_cut hlo_35 hhh_35) hch_35 (fun _ => ⟨tI_cut hlo_38 hhh_38, hch_38⟩) (fun _ h => absurd h g1) ⟨fun h => absurd h (by decide), fun h => absurd h.2.1 g1⟩
          · have hc_40 := of_decide_eq_true c_40
            refine lv_aload_n hx hb d_Three_narrow_251 rfl (lv_at hl 1 rfl) ?_
            refine lv_aload_n hx hb d_Three_narrow_252 rfl (lv_at hl 0 rfl) ?_
            refine w_gf hx hb hK i_Lesser hown hP hN hx_38_39 rfl 2 (by decide) t_513 rfl rfl d_Three_narrow_253 ?_
            refine lv_aload_n hx hb d_Three_narrow_256 rfl (lv_at hl 0 rfl) ?_
            refine w_gf hx hb hK i_Lesser hown hP hN hx_38_39 rfl 7 (by decide) t_518 rfl rfl d_Three_narrow_257 ?_
            refine lv_aload_n hx hb d_Three_narrow_260 rfl (lv_at hl 0 rfl) ?_
            refine w_gf hx hb hK i_Lesser hown hP hN hx_38_39 rfl 8 (by decide) t_519 rfl rfl d_Three_narrow_261 ?_
            refine x_V (As := [.int xc, .int (e1 4), .int (e1 5)]) (rest := []) hx hb hml hown hK (k_Box_cut l D cA adr N hi cn_38 b (upd (upd f ca lo_35) cb lo_38) (upd (upd g ca hh_35) cb hh_38) ch_38 ⟨hB_38.1, hB_38.2.1, hB_38.2.2⟩ hMb cd xc (e1 4) (e1 5) hxc (by omega)) t_176 t_2 t_282 t_174 t_175 yk_Box_cut ⟨Nat.le_of_ble_eq_true rfl, Nat.le_of_ble_eq_true rfl⟩ (w_rec hK hP hMb.1 hB_38.1 rfl) hP rfl hl.1 rfl (Nat.le_of_ble_eq_true rfl) d_Three_narrow_264 ⟨Nat.le_of_ble_eq_true rfl, Nat.le_of_ble_eq_true rfl⟩ hS (fun q h => h) (fun r H locs hq _ hS => ?_)
            obtain ⟨cn_41, lo_41, hh_41, hlo_41, hhh_41, rfl, hFb_41, hB_41, hP⟩ := hq
            obtain ⟨ch_41, hch_41⟩ : ∃ q : Bool, q = (ch_38 || decide (((upd (upd f ca lo_35) cb lo_38) cd).toInt < (e1 4).toInt ∨ (e1 5).toInt < ((upd (upd g ca hh_35) cb hh_38) cd).toInt)) := ⟨_, rfl⟩
            rw [← hch_41] at hB_41
            have hx_41_42 : cn_41 t = .inr (10, [.int xa, .int xb, .int xc, .int (e1 0), .int (e1 1), .int (e1 2), .int (e1 3), .int (e1 4), .int (e1 5), .int (bi gd)]) := (hFb_41 t (by omega) (by omega) (by omega)).trans hx_38_39
            have hfr_41 : FrTB t b cn cn_41 := hfr_38.tr (FrTB.b hFb_41)
            refine W.eq (g2 := F0 m 267 ls [.int (bi (decide (lo_41.toInt ≤ hh_41.toInt)))]) rfl ?_
            refine b_bool_eq (tgt := 274) hx hb d_Three_narrow_267 (by decide) (fun c_43 => ?_) (fun c_43 => ?_)
            · have hc_43 := of_decide_eq_false c_43
              refine lv_iconst (v := 0) hx hb d_Three_narrow_274 (by decide) ?_
              refine W.eq (g2 := F0 m 275 ls [.int (bi false)]) rfl ?_
              refine e_z hx hb hr hlk hQ hS d_Three_narrow_275 ?_
              refine ⟨cn_41, (upd (upd (upd f ca lo_35) cb lo_38) cd lo_41), (upd (upd (upd g ca hh_35) cb hh_38) cd hh_41), e1, false, ch_41, rfl, hfr_41, hx_41_42, ⟨hB_41.1, hB_41.2.1, hB_41.2.2⟩, ?_, hP⟩
              have hE : Ends (SolG (R3 3) ca cb cd (tI f) (tI g)) 200 (e1 0).toInt (e1 1).toInt (e1 2).toInt (e1 3).toInt (e1 4).toInt (e1 5).toInt := hE1.congr (fun x y z => ⟨fun h => h.1, fun h => ⟨h, by have h1 := h.1; unfold tI at h1; omega⟩⟩)
              have g0 : tI (upd f ca lo_35) ca ≤ tI (upd g ca hh_35) ca := by rw [tI_up, tI_up]; exact of_decide_eq_true c_37
              have g1 : tI (upd (upd f ca lo_35) cb lo_38) cb ≤ tI (upd (upd g ca hh_35) cb hh_38) cb := by rw [tI_up, tI_up]; exact of_decide_eq_true c_40
              have g2 : ¬ tI (upd (upd (upd f ca lo_35) cb lo_38) cd lo_41) cd ≤ tI (upd (upd (upd g ca hh_35) cb hh_38) cd hh_41) cd := by rw [tI_up, tI_up]; exact of_decide_eq_false c_43
              have hrz := hrg ca hca
              rw [← HullG_k]; exact hull3G (far := 200) (yl := tI (upd f ca lo_35)) (yh := tI (upd g ca hh_35)) (wl := tI (upd (upd f ca lo_35) cb lo_38)) (wh := tI (upd (upd g ca hh_35) cb hh_38)) (c1 := ch_35) (c2 := ch_38) hca hcb hcd hne (by omega) hE (tI_cut hlo_35 hhh_35) hch_35 (fun _ => ⟨tI_cut hlo_38 hhh_38, hch_38⟩) (fun _ _ => ⟨tI_cut hlo_41 hhh_41, hch_41⟩) ⟨fun h => absurd h (by decide), fun h => absurd h.2.2 g2⟩
            · have hc_43 := of_decide_eq_true c_43
              refine lv_iconst (v := 1) hx hb d_Three_narrow_270 (by decide) ?_
              refine lv_goto (tgt := 275) hx hb d_Three_narrow_271 (by decide) ?_
              refine W.eq (g2 := F0 m 275 ls [.int (bi true)]) rfl ?_
              refine e_z hx hb hr hlk hQ hS d_Three_narrow_275 ?_
              refine ⟨cn_41, (upd (upd (upd f ca lo_35) cb lo_38) cd lo_41), (upd (upd (upd g ca hh_35) cb hh_38) cd hh_41), e1, true, ch_41, rfl, hfr_41, hx_41_42, ⟨hB_41.1, hB_41.2.1, hB_41.2.2⟩, ?_, hP⟩
              have hE : Ends (SolG (R3 3) ca cb cd (tI f) (tI g)) 200 (e1 0).toInt (e1 1).toInt (e1 2).toInt (e1 3).toInt (e1 4).toInt (e1 5).toInt := hE1.congr (fun x y z => ⟨fun h => h.1, fun h => ⟨h, by have h1 := h.1; unfold tI at h1; omega⟩⟩)
              have g0 : tI (upd f ca lo_35) ca ≤ tI (upd g ca hh_35) ca := by rw [tI_up, tI_up]; exact of_decide_eq_true c_37
              have g1 : tI (upd (upd f ca lo_35) cb lo_38) cb ≤ tI (upd (upd g ca hh_35) cb hh_38) cb := by rw [tI_up, tI_up]; exact of_decide_eq_true c_40
              have g2 : tI (upd (upd (upd f ca lo_35) cb lo_38) cd lo_41) cd ≤ tI (upd (upd (upd g ca hh_35) cb hh_38) cd hh_41) cd := by rw [tI_up, tI_up]; exact of_decide_eq_true c_43
              have hrz := hrg ca hca
              rw [← HullG_k]; exact hull3G (far := 200) (yl := tI (upd f ca lo_35)) (yh := tI (upd g ca hh_35)) (wl := tI (upd (upd f ca lo_35) cb lo_38)) (wh := tI (upd (upd g ca hh_35) cb hh_38)) (c1 := ch_35) (c2 := ch_38) hca hcb hcd hne (by omega) hE (tI_cut hlo_35 hhh_35) hch_35 (fun _ => ⟨tI_cut hlo_38 hhh_38, hch_38⟩) (fun _ _ => ⟨tI_cut hlo_41 hhh_41, hch_41⟩) ⟨fun _ => ⟨g0, g1, g2⟩, fun _ => rfl⟩
      · refine lv_aload_n hx hb d_Three_narrow_65 rfl (lv_at hl 0 rfl) ?_
        refine w_gf hx hb hK i_Lesser hown hP hN hT1 rfl 1 (by decide) t_512 rfl rfl d_Three_narrow_66 ?_
        refine lv_aload_n hx hb d_Three_narrow_69 rfl (lv_at hl 0 rfl) ?_
        refine w_gf hx hb hK i_Lesser hown hP hN hT1 rfl 0 (by decide) t_511 rfl rfl d_Three_narrow_70 ?_
        have K_244 : ∀ (z_244_0 : Int32), z_244_0.toInt = (if ¬ (cb : Int) = (ca : Int) then (f cb).toInt else x2.toInt) → W p l e (rl 6) s m args below meth c H locs 0 0 Q (F0 m 89 ls [.int z_244_0]) := by
          intro z_244_0 hz_244_0
          refine lv_istore_n (lv' := [(3, .int z_244_0), (0, .ref (adr t)), (1, .ref (adr b)), (2, .int x2)]) hx hb d_Three_narrow_89 rfl hl (by decide) rfl (fun ls hl => ?_)
          refine lv_aload_n hx hb d_Three_narrow_90 rfl (lv_at hl 1 rfl) ?_
          refine w_gf hx hb hK i_Lesser hown hP hN hT1 rfl 1 (by decide) t_512 rfl rfl d_Three_narrow_91 ?_
          refine lv_aload_n hx hb d_Three_narrow_94 rfl (lv_at hl 1 rfl) ?_
          refine w_gf hx hb hK i_Lesser hown hP hN hT1 rfl 0 (by decide) t_511 rfl rfl d_Three_narrow_95 ?_
          have K_445 : ∀ (z_445_0 : Int32), z_445_0.toInt = (if ¬ (cb : Int) = (ca : Int) then (g cb).toInt else x2.toInt) → W p l e (rl 6) s m args below meth c H locs 0 0 Q (F0 m 114 ls [.int z_445_0]) := by
            intro z_445_0 hz_445_0
            refine lv_istore (lv' := [(4, .int z_445_0), (3, .int z_244_0), (0, .ref (adr t)), (1, .ref (adr b)), (2, .int x2)]) hx hb d_Three_narrow_114 hl (by decide) rfl (fun ls hl => ?_)
            refine lv_aload_n hx hb d_Three_narrow_116 rfl (lv_at hl 2 rfl) ?_
            refine w_gf hx hb hK i_Lesser hown hP hN hT1 rfl 2 (by decide) t_513 rfl rfl d_Three_narrow_117 ?_
            refine lv_aload_n hx hb d_Three_narrow_120 rfl (lv_at hl 2 rfl) ?_
            refine w_gf hx hb hK i_Lesser hown hP hN hT1 rfl 0 (by decide) t_511 rfl rfl d_Three_narrow_121 ?_
            have K_646 : ∀ (z_646_0 : Int32), z_646_0.toInt = (if ¬ (cd : Int) = (ca : Int) then (f cd).toInt else x2.toInt) → W p l e (rl 6) s m args below meth c H locs 0 0 Q (F0 m 140 ls [.int z_646_0]) := by
              intro z_646_0 hz_646_0
              refine lv_istore (lv' := [(5, .int z_646_0), (4, .int z_445_0), (3, .int z_244_0), (0, .ref (adr t)), (1, .ref (adr b)), (2, .int x2)]) hx hb d_Three_narrow_140 hl (by decide) rfl (fun ls hl => ?_)
              refine lv_aload_n hx hb d_Three_narrow_142 rfl (lv_at hl 3 rfl) ?_
              refine w_gf hx hb hK i_Lesser hown hP hN hT1 rfl 2 (by decide) t_513 rfl rfl d_Three_narrow_143 ?_
              refine lv_aload_n hx hb d_Three_narrow_146 rfl (lv_at hl 3 rfl) ?_
              refine w_gf hx hb hK i_Lesser hown hP hN hT1 rfl 0 (by decide) t_511 rfl rfl d_Three_narrow_147 ?_
              have K_847 : ∀ (z_847_0 : Int32), z_847_0.toInt = (if ¬ (cd : Int) = (ca : Int) then (g cd).toInt else x2.toInt) → W p l e (rl 6) s m args below meth c H locs 0 0 Q (F0 m 166 ls [.int z_847_0]) := by
                intro z_847_0 hz_847_0
                refine lv_istore (lv' := [(6, .int z_847_0), (5, .int z_646_0), (4, .int z_445_0), (3, .int z_244_0), (0, .ref (adr t)), (1, .ref (adr b)), (2, .int x2)]) hx hb d_Three_narrow_166 hl (by decide) rfl (fun ls hl => ?_)
                refine lv_aload_n hx hb d_Three_narrow_168 rfl (lv_at hl 4 rfl) ?_
                refine lv_iload_n hx hb d_Three_narrow_169 rfl (lv_at hl 6 rfl) ?_
                refine lv_iload_n hx hb d_Three_narrow_170 rfl (lv_at hl 3 rfl) ?_
                refine lv_iload hx hb d_Three_narrow_171 (lv_at hl 2 rfl) ?_
                refine lv_iload hx hb d_Three_narrow_173 (lv_at hl 1 rfl) ?_
                refine lv_iload hx hb d_Three_narrow_175 (lv_at hl 0 rfl) ?_
                refine lv_aload_n hx hb d_Three_narrow_177 rfl (lv_at hl 4 rfl) ?_
                refine w_gf hx hb hK i_Lesser hown hP hN hT1 rfl 1 (by decide) t_512 rfl rfl d_Three_narrow_178 ?_
                refine lv_aload_n hx hb d_Three_narrow_181 rfl (lv_at hl 4 rfl) ?_
                refine w_gf hx hb hK i_Lesser hown hP hN hT1 rfl 2 (by decide) t_513 rfl rfl d_Three_narrow_182 ?_
                have K_1048 : ∀ (b_1048_0 : Bool), (b_1048_0 = true ↔ ((cb : Int) = (cd : Int) ∧ ¬ (cb : Int) = (ca : Int))) → W p l e (rl 6) s m args below meth c H locs 0 0 Q (F0 m 204 ls [.int (bi b_1048_0), .int z_847_0, .int z_646_0, .int z_445_0, .int z_244_0, .int x2, .ref (adr t)]) := by
                  intro b_1048_0 hb_1048_0
                  have hsp9 := th_sp (R := (R3 3)) (a := ca) (b := cb) (c := cd) (bl := tI f) (bh := tI g) (x := x2.toInt) (by unfold tI; omega) hz_244_0 hz_445_0 hz_646_0 hz_847_0 hb_1048_0
                  have hr3 : -100 ≤ z_244_0.toInt ∧ z_244_0.toInt ≤ z_445_0.toInt ∧ z_445_0.toInt ≤ 100 := by rw [hz_244_0, hz_445_0]; split <;> omega
                  have hr4 : -100 ≤ z_646_0.toInt ∧ z_646_0.toInt ≤ z_847_0.toInt ∧ z_847_0.toInt ≤ 100 := by rw [hz_646_0, hz_847_0]; split <;> omega
                  have htw9 : b_1048_0 = true → z_244_0.toInt = z_646_0.toInt ∧ z_445_0.toInt = z_847_0.toInt := fun h => by have q := hb_1048_0.mp h; have e9 : cb = cd := (by omega); rw [hz_244_0, hz_445_0, hz_646_0, hz_847_0, if_pos q.2, if_pos q.2, if_pos (by omega), if_pos (by omega), e9]; exact ⟨rfl, rfl⟩
                  refine x_A (As := [.int x2, .int z_244_0, .int z_445_0, .int z_646_0, .int z_847_0, .int (bi b_1048_0)]) (rest := []) hx hb hml hown hK (k_Lesser_span l D cA adr N hi cn1 t xa xb xc e1 gd hT1 hN x2 z_244_0 z_445_0 z_646_0 z_847_0 b_1048_0 (by omega) (by omega) (by omega) htw9) t_244 t_15 t_218 t_220 t_219 t_242 t_243 ⟨by decide, by decide, yk_Lesser_span.2.2⟩ ⟨Nat.le_of_ble_eq_true rfl, Nat.le_of_ble_eq_true rfl⟩ (w_rec hK hP hN hT1 rfl) hP rfl hl.1 rfl (Nat.le_of_ble_eq_true rfl) d_Three_narrow_204 ⟨Nat.le_of_ble_eq_true rfl, Nat.le_of_ble_eq_true rfl⟩ hS (fun q h => h) (fun r H locs hq _ hS => ?_)
                  obtain ⟨cn_1049, e_1049, rfl, hFt_1049, hT_1049, hSp_1049, hP⟩ := hq
                  have hx_1049_1050 : cn_1049 b = .inr (2, [.ref (adr (b + 1)), .ref (adr (b + 2)), .int (bi ch)]) := (hFt_1049 b (by omega)).trans hB1.1
                  have hx_1049_1051 : cn_1049 (b + 1) = .inl (cA 0, 10, .inl f) := (hFt_1049 (b + 1) (by omega)).trans hB1.2.1
                  have hx_1049_1052 : cn_1049 (b + 2) = .inl (cA 0, 10, .inl g) := (hFt_1049 (b + 2) (by omega)).trans hB1.2.2
                  refine W.eq (g2 := F0 m 207 ls []) rfl ?_
                  refine x_iinc (k := 6) (lv' := fun v_ => [(2, .int v_), (6, .int z_847_0), (5, .int z_646_0), (4, .int z_445_0), (3, .int z_244_0), (0, .ref (adr t)), (1, .ref (adr b))]) hx hb d_Three_narrow_207 hl rfl rfl (by decide) (by omega) (by decide) (fun v_ => rfl) (fun z_1053 tz_1053 ls hl => ?_)
                  refine lv_goto (tgt := 52) hx hb d_Three_narrow_210 (by decide) ?_
                  have hE9 := th_step hsp9 (hSp_1049 _ hE1)
                  rw [← tz_1053] at hE9
                  exact ih_32 z_1053 cn_1049 e_1049 _ _ _ (by omega) (by omega) (hF1.tr (FrTB.t hFt_1049)) hT_1049 ⟨hx_1049_1050, hx_1049_1051, hx_1049_1052⟩ hE9 hP hS (lv_sub hl [5, 6, 0] rfl)
                refine b_icmp_ne (tgt := 203) hx hb d_Three_narrow_185 (by decide) hxb hxc (fun c_1054 => ?_) (fun c_1054 => ?_)
                · refine lv_iconst (v := 0) hx hb d_Three_narrow_203 (by decide) ?_
                  exact K_1048 false ⟨fun h => absurd h (by decide), fun h => absurd h (by omega)⟩
                · refine lv_aload_n hx hb d_Three_narrow_188 rfl (lv_at hl 4 rfl) ?_
                  refine w_gf hx hb hK i_Lesser hown hP hN hT1 rfl 1 (by decide) t_512 rfl rfl d_Three_narrow_189 ?_
                  refine lv_aload_n hx hb d_Three_narrow_192 rfl (lv_at hl 4 rfl) ?_
                  refine w_gf hx hb hK i_Lesser hown hP hN hT1 rfl 0 (by decide) t_511 rfl rfl d_Three_narrow_193 ?_
                  refine b_icmp_eq (tgt := 203) hx hb d_Three_narrow_196 (by decide) hxb hxa (fun c_1055 => ?_) (fun c_1055 => ?_)
                  · refine lv_iconst (v := 0) hx hb d_Three_narrow_203 (by decide) ?_
                    exact K_1048 false ⟨fun h => absurd h (by decide), fun h => absurd h (by omega)⟩
                  · refine lv_iconst (v := 1) hx hb d_Three_narrow_199 (by decide) ?_
                    refine lv_goto (tgt := 204) hx hb d_Three_narrow_200 (by decide) ?_
                    exact K_1048 true ⟨fun _ => by omega, fun _ => rfl⟩
              refine b_icmp_ne (tgt := 157) hx hb d_Three_narrow_150 (by decide) hxc hxa (fun c_1056 => ?_) (fun c_1056 => ?_)
              · refine lv_aload_n hx hb d_Three_narrow_157 rfl (lv_at hl 4 rfl) ?_
                refine w_gfN hx hb hK i_Box hown hP hMb.1 hB1.1 rfl 1 (by decide) t_47 rfl rfl d_Three_narrow_158 ?_
                refine lv_aload_n hx hb d_Three_narrow_161 rfl (lv_at hl 3 rfl) ?_
                refine w_gf hx hb hK i_Lesser hown hP hN hT1 rfl 2 (by decide) t_513 rfl rfl d_Three_narrow_162 ?_
                refine w_ld hx hb hK hP hMb.2.2 hB1.2.2 (cd) hxc (by omega) (show cd < 10 by omega) d_Three_narrow_165 (fun z_1057 ez_1057 => ?_)
                subst ez_1057
                exact K_847 (g cd) (by omega)
              · refine lv_iload_n hx hb d_Three_narrow_153 rfl (lv_at hl 5 rfl) ?_
                refine lv_goto (tgt := 166) hx hb d_Three_narrow_154 (by decide) ?_
                exact K_847 x2 (by omega)
            refine b_icmp_ne (tgt := 131) hx hb d_Three_narrow_124 (by decide) hxc hxa (fun c_1058 => ?_) (fun c_1058 => ?_)
            · refine lv_aload_n hx hb d_Three_narrow_131 rfl (lv_at hl 3 rfl) ?_
              refine w_gfN hx hb hK i_Box hown hP hMb.1 hB1.1 rfl 0 (by decide) t_41 rfl rfl d_Three_narrow_132 ?_
              refine lv_aload_n hx hb d_Three_narrow_135 rfl (lv_at hl 2 rfl) ?_
              refine w_gf hx hb hK i_Lesser hown hP hN hT1 rfl 2 (by decide) t_513 rfl rfl d_Three_narrow_136 ?_
              refine w_ld hx hb hK hP hMb.2.1 hB1.2.1 (cd) hxc (by omega) (show cd < 10 by omega) d_Three_narrow_139 (fun z_1059 ez_1059 => ?_)
              subst ez_1059
              exact K_646 (f cd) (by omega)
            · refine lv_iload_n hx hb d_Three_narrow_127 rfl (lv_at hl 4 rfl) ?_
              refine lv_goto (tgt := 140) hx hb d_Three_narrow_128 (by decide) ?_
              exact K_646 x2 (by omega)
          refine b_icmp_ne (tgt := 105) hx hb d_Three_narrow_98 (by decide) hxb hxa (fun c_1060 => ?_) (fun c_1060 => ?_)
          · refine lv_aload_n hx hb d_Three_narrow_105 rfl (lv_at hl 2 rfl) ?_
            refine w_gfN hx hb hK i_Box hown hP hMb.1 hB1.1 rfl 1 (by decide) t_47 rfl rfl d_Three_narrow_106 ?_
            refine lv_aload_n hx hb d_Three_narrow_109 rfl (lv_at hl 1 rfl) ?_
            refine w_gf hx hb hK i_Lesser hown hP hN hT1 rfl 1 (by decide) t_512 rfl rfl d_Three_narrow_110 ?_
            refine w_ld hx hb hK hP hMb.2.2 hB1.2.2 (cb) hxb (by omega) (show cb < 10 by omega) d_Three_narrow_113 (fun z_1061 ez_1061 => ?_)
            subst ez_1061
            exact K_445 (g cb) (by omega)
          · refine lv_iload_n hx hb d_Three_narrow_101 rfl (lv_at hl 3 rfl) ?_
            refine lv_goto (tgt := 114) hx hb d_Three_narrow_102 (by decide) ?_
            exact K_445 x2 (by omega)
        refine b_icmp_ne (tgt := 80) hx hb d_Three_narrow_73 (by decide) hxb hxa (fun c_1062 => ?_) (fun c_1062 => ?_)
        · refine lv_aload_n hx hb d_Three_narrow_80 rfl (lv_at hl 1 rfl) ?_
          refine w_gfN hx hb hK i_Box hown hP hMb.1 hB1.1 rfl 0 (by decide) t_41 rfl rfl d_Three_narrow_81 ?_
          refine lv_aload_n hx hb d_Three_narrow_84 rfl (lv_at hl 0 rfl) ?_
          refine w_gf hx hb hK i_Lesser hown hP hN hT1 rfl 1 (by decide) t_512 rfl rfl d_Three_narrow_85 ?_
          refine w_ld hx hb hK hP hMb.2.1 hB1.2.1 (cb) hxb (by omega) (show cb < 10 by omega) d_Three_narrow_88 (fun z_1063 ez_1063 => ?_)
          subst ez_1063
          exact K_244 (f cb) (by omega)
        · refine lv_iload_n hx hb d_Three_narrow_76 rfl (lv_at hl 2 rfl) ?_
          refine lv_goto (tgt := 89) hx hb d_Three_narrow_77 (by decide) ?_
          exact K_244 x2 (by omega)
  obtain ⟨ez, hez⟩ : ∃ q : Nat → Int32, q = (fun k => match k with | 0 => (200 : Int32) | 1 => (-200 : Int32) | 2 => (200 : Int32) | 3 => (-200 : Int32) | 4 => (200 : Int32) | _ => (-200 : Int32)) := ⟨_, rfl⟩
  exact L_32 (_ + 1) (f ca) cn_26 ez _ _ _ (Nat.lt_succ_self _) (by omega) (show FrTB t b cn cn_26 from fun k a0 a1 a2 a3 => hfr_26 k a0 a1 a2 a3) (by rw [hez]; exact ho_26_30) ⟨ho_26_27, ho_26_28, ho_26_29⟩ (by rw [hez]; show Ends _ 200 (200 : Int32).toInt (-200 : Int32).toInt (200 : Int32).toInt (-200 : Int32).toInt (200 : Int32).toInt (-200 : Int32).toInt; rw [kc_200, kc_m200]; exact Ends.none (fun x y z h => by have h1 := h.1.1; have h2 := h.2; unfold tI at h1; omega)) hP hS (lv_sub hl [1, 2, 0] rfl)
set_option maxHeartbeats 4000000 in
set_option maxRecDepth 20000 in
theorem k_narrow_Greater (l : Launch) (D : va_G) (cA : Nat → ClassId) (adr : Nat → Nat) (N : List Nat) (hi : wI N adr) (cn : Nat → va_E) (t : Nat) (xa xb xc : Int32) (e0 : Nat → Int32) (gd : Bool) (hT : TP cn t 11 xa xb xc e0 gd) (hN : t ∈ N) (b : Nat) (f g : Nat → Int32) (ch : Bool) (hB : BP cA adr cn b f g ch) (hMb : BM N b) (hdt : t ≠ b ∧ t ≠ b + 1 ∧ t ≠ b + 2) (nn : Nat) (hn10 : nn ≤ 10) (hne : Ne nn (tI f) (tI g)) (hrg : ∀ k, k < nn → -100 ≤ tI f k ∧ tI g k ≤ 100) (ca cb cd : Nat) (hxa : xa.toInt = (ca : Int)) (hxb : xb.toInt = (cb : Int)) (hxc : xc.toInt = (cd : Int)) (hca : ca < nn) (hcb : cb < nn) (hcd : cd < nn) : Ct l y_Three_narrow b_Three_narrow 7 (some .boolean) 6 D cA [.ref (adr t), .ref (adr b)] (fun H => va_P D classes (wl N adr cn) H) (fun r H => ∃ (cn2 : Nat → va_E) (f2 g2 : Nat → Int32) (e2 : Nat → Int32) (q c2 : Bool), r = some (.int (bi q)) ∧ FrTB t b cn cn2 ∧ TP cn2 t 11 xa xb xc e2 gd ∧ BP cA adr cn2 b f2 g2 c2 ∧ NOK nn (Hull 4 ca cb cd) (tI f) (tI g) q (tI f2) (tI g2) ch c2 ∧ va_P D classes (wl N adr cn2) H) (wA N adr) := by
  refine Ct.mk (by decide) (Nat.le_of_ble_eq_true rfl) ?_
  intro p e s m args below meth c Q H locs ls hx hb hr hml hlk hown hin hK hQ hS hP hl
  have hl : lv_has ls 7 [(0, .ref (adr t)), (1, .ref (adr b))] := hl
  have hown : s.vm.findClass "RangeSheet$Three" = some m.cls := hown
  have hra := hrg ca hca; have hrb := hrg cb hcb; have hrc := hrg cd hcd; have hna := hne ca hca; have hnb := hne cb hcb; have hnc := hne cd hcd; unfold tI at hra hrb hrc hna hnb hnc
  refine lv_aload_n hx hb d_Three_narrow_0 rfl (lv_at hl 0 rfl) ?_
  refine lv_sipush (v := 200) hx hb d_Three_narrow_1 (by decide) ?_
  refine w_pf hx hb hK i_Greater t_Greater t_Greater_ok n_Greater hown hi hP hS wA_mem hN hT rfl 3 (by decide) t_514 rfl rfl rfl rfl rfl d_Three_narrow_4 (fun H locs hP hS => ?_)
  obtain ⟨cn_1, ecn_1⟩ : ∃ q : Nat → va_E, q = va_up cn t (.inr (11, [.int xa, .int xb, .int xc, .int (200 : Int32), .int (e0 1), .int (e0 2), .int (e0 3), .int (e0 4), .int (e0 5), .int (bi gd)])) := ⟨_, rfl⟩
  have hP : va_P D classes (wl N adr cn_1) H := by rw [ecn_1]; exact hP
  have ho_1_2 : cn_1 b = .inr (2, [.ref (adr (b + 1)), .ref (adr (b + 2)), .int (bi ch)]) := by rw [ecn_1, va_up_ne _ _ (by omega)]; exact hB.1
  have ho_1_3 : cn_1 (b + 1) = .inl (cA 0, 10, .inl f) := by rw [ecn_1, va_up_ne _ _ (by omega)]; exact hB.2.1
  have ho_1_4 : cn_1 (b + 2) = .inl (cA 0, 10, .inl g) := by rw [ecn_1, va_up_ne _ _ (by omega)]; exact hB.2.2
  have ho_1_5 : cn_1 t = .inr (11, [.int xa, .int xb, .int xc, .int (200 : Int32), .int (e0 1), .int (e0 2), .int (e0 3), .int (e0 4), .int (e0 5), .int (bi gd)]) := by rw [ecn_1]; exact va_up_self _ _ _
  have hfr_1 : ∀ k, k ≠ t → k ≠ b → k ≠ b + 1 → k ≠ b + 2 → cn_1 k = cn k := fun k a0 a1 a2 a3 => (congrFun ecn_1 k).trans ((va_up_ne _ _ (by omega)).trans rfl)
  refine lv_aload_n hx hb d_Three_narrow_7 rfl (lv_at hl 0 rfl) ?_
  refine lv_sipush (v := 200) hx hb d_Three_narrow_8 (by decide) ?_
  refine w_pf hx hb hK i_Greater t_Greater t_Greater_ok n_Greater hown hi hP hS wA_mem hN ho_1_5 rfl 5 (by decide) t_516 rfl rfl rfl rfl rfl d_Three_narrow_11 (fun H locs hP hS => ?_)
  obtain ⟨cn_6, ecn_6⟩ : ∃ q : Nat → va_E, q = va_up cn_1 t (.inr (11, [.int xa, .int xb, .int xc, .int (200 : Int32), .int (e0 1), .int (200 : Int32), .int (e0 3), .int (e0 4), .int (e0 5), .int (bi gd)])) := ⟨_, rfl⟩
  have hP : va_P D classes (wl N adr cn_6) H := by rw [ecn_6]; exact hP
  have ho_6_7 : cn_6 b = .inr (2, [.ref (adr (b + 1)), .ref (adr (b + 2)), .int (bi ch)]) := by rw [ecn_6, va_up_ne _ _ (by omega)]; exact ho_1_2
  have ho_6_8 : cn_6 (b + 1) = .inl (cA 0, 10, .inl f) := by rw [ecn_6, va_up_ne _ _ (by omega)]; exact ho_1_3
  have ho_6_9 : cn_6 (b + 2) = .inl (cA 0, 10, .inl g) := by rw [ecn_6, va_up_ne _ _ (by omega)]; exact ho_1_4
  have ho_6_10 : cn_6 t = .inr (11, [.int xa, .int xb, .int xc, .int (200 : Int32), .int (e0 1), .int (200 : Int32), .int (e0 3), .int (e0 4), .int (e0 5), .int (bi gd)]) := by rw [ecn_6]; exact va_up_self _ _ _
  have hfr_6 : ∀ k, k ≠ t → k ≠ b → k ≠ b + 1 → k ≠ b + 2 → cn_6 k = cn k := fun k a0 a1 a2 a3 => (congrFun ecn_6 k).trans ((va_up_ne _ _ (by omega)).trans (hfr_1 k a0 a1 a2 a3))
  refine lv_aload_n hx hb d_Three_narrow_14 rfl (lv_at hl 0 rfl) ?_
  refine lv_sipush (v := 200) hx hb d_Three_narrow_15 (by decide) ?_
  refine w_pf hx hb hK i_Greater t_Greater t_Greater_ok n_Greater hown hi hP hS wA_mem hN ho_6_10 rfl 7 (by decide) t_518 rfl rfl rfl rfl rfl d_Three_narrow_18 (fun H locs hP hS => ?_)
  obtain ⟨cn_11, ecn_11⟩ : ∃ q : Nat → va_E, q = va_up cn_6 t (.inr (11, [.int xa, .int xb, .int xc, .int (200 : Int32), .int (e0 1), .int (200 : Int32), .int (e0 3), .int (200 : Int32), .int (e0 5), .int (bi gd)])) := ⟨_, rfl⟩
  have hP : va_P D classes (wl N adr cn_11) H := by rw [ecn_11]; exact hP
  have ho_11_12 : cn_11 b = .inr (2, [.ref (adr (b + 1)), .ref (adr (b + 2)), .int (bi ch)]) := by rw [ecn_11, va_up_ne _ _ (by omega)]; exact ho_6_7
  have ho_11_13 : cn_11 (b + 1) = .inl (cA 0, 10, .inl f) := by rw [ecn_11, va_up_ne _ _ (by omega)]; exact ho_6_8
  have ho_11_14 : cn_11 (b + 2) = .inl (cA 0, 10, .inl g) := by rw [ecn_11, va_up_ne _ _ (by omega)]; exact ho_6_9
  have ho_11_15 : cn_11 t = .inr (11, [.int xa, .int xb, .int xc, .int (200 : Int32), .int (e0 1), .int (200 : Int32), .int (e0 3), .int (200 : Int32), .int (e0 5), .int (bi gd)]) := by rw [ecn_11]; exact va_up_self _ _ _
  have hfr_11 : ∀ k, k ≠ t → k ≠ b → k ≠ b + 1 → k ≠ b + 2 → cn_11 k = cn k := fun k a0 a1 a2 a3 => (congrFun ecn_11 k).trans ((va_up_ne _ _ (by omega)).trans (hfr_6 k a0 a1 a2 a3))
  refine lv_aload_n hx hb d_Three_narrow_21 rfl (lv_at hl 0 rfl) ?_
  refine lv_sipush (v := (-200)) hx hb d_Three_narrow_22 (by decide) ?_
  refine w_pf hx hb hK i_Greater t_Greater t_Greater_ok n_Greater hown hi hP hS wA_mem hN ho_11_15 rfl 4 (by decide) t_515 rfl rfl rfl rfl rfl d_Three_narrow_25 (fun H locs hP hS => ?_)
  obtain ⟨cn_16, ecn_16⟩ : ∃ q : Nat → va_E, q = va_up cn_11 t (.inr (11, [.int xa, .int xb, .int xc, .int (200 : Int32), .int (-200 : Int32), .int (200 : Int32), .int (e0 3), .int (200 : Int32), .int (e0 5), .int (bi gd)])) := ⟨_, rfl⟩
  have hP : va_P D classes (wl N adr cn_16) H := by rw [ecn_16]; exact hP
  have ho_16_17 : cn_16 b = .inr (2, [.ref (adr (b + 1)), .ref (adr (b + 2)), .int (bi ch)]) := by rw [ecn_16, va_up_ne _ _ (by omega)]; exact ho_11_12
  have ho_16_18 : cn_16 (b + 1) = .inl (cA 0, 10, .inl f) := by rw [ecn_16, va_up_ne _ _ (by omega)]; exact ho_11_13
  have ho_16_19 : cn_16 (b + 2) = .inl (cA 0, 10, .inl g) := by rw [ecn_16, va_up_ne _ _ (by omega)]; exact ho_11_14
  have ho_16_20 : cn_16 t = .inr (11, [.int xa, .int xb, .int xc, .int (200 : Int32), .int (-200 : Int32), .int (200 : Int32), .int (e0 3), .int (200 : Int32), .int (e0 5), .int (bi gd)]) := by rw [ecn_16]; exact va_up_self _ _ _
  have hfr_16 : ∀ k, k ≠ t → k ≠ b → k ≠ b + 1 → k ≠ b + 2 → cn_16 k = cn k := fun k a0 a1 a2 a3 => (congrFun ecn_16 k).trans ((va_up_ne _ _ (by omega)).trans (hfr_11 k a0 a1 a2 a3))
  refine lv_aload_n hx hb d_Three_narrow_28 rfl (lv_at hl 0 rfl) ?_
  refine lv_sipush (v := (-200)) hx hb d_Three_narrow_29 (by decide) ?_
  refine w_pf hx hb hK i_Greater t_Greater t_Greater_ok n_Greater hown hi hP hS wA_mem hN ho_16_20 rfl 6 (by decide) t_517 rfl rfl rfl rfl rfl d_Three_narrow_32 (fun H locs hP hS => ?_)
  obtain ⟨cn_21, ecn_21⟩ : ∃ q : Nat → va_E, q = va_up cn_16 t (.inr (11, [.int xa, .int xb, .int xc, .int (200 : Int32), .int (-200 : Int32), .int (200 : Int32), .int (-200 : Int32), .int (200 : Int32), .int (e0 5), .int (bi gd)])) := ⟨_, rfl⟩
  have hP : va_P D classes (wl N adr cn_21) H := by rw [ecn_21]; exact hP
  have ho_21_22 : cn_21 b = .inr (2, [.ref (adr (b + 1)), .ref (adr (b + 2)), .int (bi ch)]) := by rw [ecn_21, va_up_ne _ _ (by omega)]; exact ho_16_17
  have ho_21_23 : cn_21 (b + 1) = .inl (cA 0, 10, .inl f) := by rw [ecn_21, va_up_ne _ _ (by omega)]; exact ho_16_18
  have ho_21_24 : cn_21 (b + 2) = .inl (cA 0, 10, .inl g) := by rw [ecn_21, va_up_ne _ _ (by omega)]; exact ho_16_19
  have ho_21_25 : cn_21 t = .inr (11, [.int xa, .int xb, .int xc, .int (200 : Int32), .int (-200 : Int32), .int (200 : Int32), .int (-200 : Int32), .int (200 : Int32), .int (e0 5), .int (bi gd)]) := by rw [ecn_21]; exact va_up_self _ _ _
  have hfr_21 : ∀ k, k ≠ t → k ≠ b → k ≠ b + 1 → k ≠ b + 2 → cn_21 k = cn k := fun k a0 a1 a2 a3 => (congrFun ecn_21 k).trans ((va_up_ne _ _ (by omega)).trans (hfr_16 k a0 a1 a2 a3))
  refine lv_aload_n hx hb d_Three_narrow_35 rfl (lv_at hl 0 rfl) ?_
  refine lv_sipush (v := (-200)) hx hb d_Three_narrow_36 (by decide) ?_
  refine w_pf hx hb hK i_Greater t_Greater t_Greater_ok n_Greater hown hi hP hS wA_mem hN ho_21_25 rfl 8 (by decide) t_519 rfl rfl rfl rfl rfl d_Three_narrow_39 (fun H locs hP hS => ?_)
  obtain ⟨cn_26, ecn_26⟩ : ∃ q : Nat → va_E, q = va_up cn_21 t (.inr (11, [.int xa, .int xb, .int xc, .int (200 : Int32), .int (-200 : Int32), .int (200 : Int32), .int (-200 : Int32), .int (200 : Int32), .int (-200 : Int32), .int (bi gd)])) := ⟨_, rfl⟩
  have hP : va_P D classes (wl N adr cn_26) H := by rw [ecn_26]; exact hP
  have ho_26_27 : cn_26 b = .inr (2, [.ref (adr (b + 1)), .ref (adr (b + 2)), .int (bi ch)]) := by rw [ecn_26, va_up_ne _ _ (by omega)]; exact ho_21_22
  have ho_26_28 : cn_26 (b + 1) = .inl (cA 0, 10, .inl f) := by rw [ecn_26, va_up_ne _ _ (by omega)]; exact ho_21_23
  have ho_26_29 : cn_26 (b + 2) = .inl (cA 0, 10, .inl g) := by rw [ecn_26, va_up_ne _ _ (by omega)]; exact ho_21_24
  have ho_26_30 : cn_26 t = .inr (11, [.int xa, .int xb, .int xc, .int (200 : Int32), .int (-200 : Int32), .int (200 : Int32), .int (-200 : Int32), .int (200 : Int32), .int (-200 : Int32), .int (bi gd)]) := by rw [ecn_26]; exact va_up_self _ _ _
  have hfr_26 : ∀ k, k ≠ t → k ≠ b → k ≠ b + 1 → k ≠ b + 2 → cn_26 k = cn k := fun k a0 a1 a2 a3 => (congrFun ecn_26 k).trans ((va_up_ne _ _ (by omega)).trans (hfr_21 k a0 a1 a2 a3))
  refine lv_aload_n hx hb d_Three_narrow_42 rfl (lv_at hl 1 rfl) ?_
  refine w_gfN hx hb hK i_Box hown hP hMb.1 ho_26_27 rfl 0 (by decide) t_41 rfl rfl d_Three_narrow_43 ?_
  refine lv_aload_n hx hb d_Three_narrow_46 rfl (lv_at hl 0 rfl) ?_
  refine w_gf hx hb hK i_Greater hown hP hN ho_26_30 rfl 0 (by decide) t_511 rfl rfl d_Three_narrow_47 ?_
  refine w_ld hx hb hK hP hMb.2.1 ho_26_28 (ca) hxa (by omega) (show ca < 10 by omega) d_Three_narrow_50 (fun z_31 ez_31 => ?_)
  subst ez_31
  refine lv_istore_n (lv' := [(2, .int (f ca)), (0, .ref (adr t)), (1, .ref (adr b))]) hx hb d_Three_narrow_51 rfl hl (by decide) rfl (fun ls hl => ?_)
  have L_32 : ∀ (n : Nat) (x2 : Int32) (cn1 : Nat → va_E) (e1 : Nat → Int32) (H : Heap) (locs : List Loc) (ls : Array Slot), ((g ca).toInt + 1 - x2.toInt).toNat < n → ((f ca).toInt ≤ x2.toInt ∧ x2.toInt ≤ (g ca).toInt + 1) → (FrTB t b cn cn1) → (TP cn1 t 11 xa xb xc e1 gd) → (BP cA adr cn1 b f g ch) → (EE (fun x y z => SolG (R3 4) ca cb cd (tI f) (tI g) x y z ∧ x < x2.toInt) e1) → va_P D classes (wl N adr cn1) H → va_S (wA N adr) s.heap H locs → lv_has ls 7 [(0, .ref (adr t)), (1, .ref (adr b)), (2, .int x2)] → W p l e (rl 6) s m args below meth c H locs 0 0 Q (F0 m 52 ls []) := by
    intro n
    induction n with
    | zero => intro x2 cn1 e1 H locs ls hmu; exact absurd hmu (Nat.not_lt_zero _)
    | succ n ih_32 =>
      intro x2 cn1 e1 H locs ls hmu hx2 hF1 hT1 hB1 hE1 hP hS hl
      refine lv_iload_n hx hb d_Three_narrow_52 rfl (lv_at hl 2 rfl) ?_
      refine lv_aload_n hx hb d_Three_narrow_53 rfl (lv_at hl 1 rfl) ?_
      refine w_gfN hx hb hK i_Box hown hP hMb.1 hB1.1 rfl 1 (by decide) t_47 rfl rfl d_Three_narrow_54 ?_
      refine lv_aload_n hx hb d_Three_narrow_57 rfl (lv_at hl 0 rfl) ?_
      refine w_gf hx hb hK i_Greater hown hP hN hT1 rfl 0 (by decide) t_511 rfl rfl d_Three_narrow_58 ?_
      refine w_ld hx hb hK hP hMb.2.2 hB1.2.2 (ca) hxa (by omega) (show ca < 10 by omega) d_Three_narrow_61 (fun z_33 ez_33 => ?_)
      subst ez_33
      refine b_icmp_gt (tgt := 213) hx hb d_Three_narrow_62 (by decide) rfl rfl (fun c_34 => ?_) (fun c_34 => ?_)
      · refine lv_aload_n hx hb d_Three_narrow_213 rfl (lv_at hl 1 rfl) ?_
        refine lv_aload_n hx hb d_Three_narrow_214 rfl (lv_at hl 0 rfl) ?_
        refine w_gf hx hb hK i_Greater hown hP hN hT1 rfl 0 (by decide) t_511 rfl rfl d_Three_narrow_215 ?_
        refine lv_aload_n hx hb d_Three_narrow_218 rfl (lv_at hl 0 rfl) ?_
        refine w_gf hx hb hK i_Greater hown hP hN hT1 rfl 3 (by decide) t_514 rfl rfl d_Three_narrow_219 ?_
        refine lv_aload_n hx hb d_Three_narrow_222 rfl (lv_at hl 0 rfl) ?_
        refine w_gf hx hb hK i_Greater hown hP hN hT1 rfl 4 (by decide) t_515 rfl rfl d_Three_narrow_223 ?_
        refine x_V (As := [.int xa, .int (e1 0), .int (e1 1)]) (rest := []) hx hb hml hown hK (k_Box_cut l D cA adr N hi cn1 b f g ch ⟨hB1.1, hB1.2.1, hB1.2.2⟩ hMb ca xa (e1 0) (e1 1) hxa (by omega)) t_176 t_2 t_282 t_174 t_175 yk_Box_cut ⟨Nat.le_of_ble_eq_true rfl, Nat.le_of_ble_eq_true rfl⟩ (w_rec hK hP hMb.1 hB1.1 rfl) hP rfl hl.1 rfl (Nat.le_of_ble_eq_true rfl) d_Three_narrow_226 ⟨Nat.le_of_ble_eq_true rfl, Nat.le_of_ble_eq_true rfl⟩ hS (fun q h => h) (fun r H locs hq _ hS => ?_)
        obtain ⟨cn_35, lo_35, hh_35, hlo_35, hhh_35, rfl, hFb_35, hB_35, hP⟩ := hq
        obtain ⟨ch_35, hch_35⟩ : ∃ q : Bool, q = (ch || decide ((f ca).toInt < (e1 0).toInt ∨ (e1 1).toInt < (g ca).toInt)) := ⟨_, rfl⟩
        rw [← hch_35] at hB_35
        have hx_35_36 : cn_35 t = .inr (11, [.int xa, .int xb, .int xc, .int (e1 0), .int (e1 1), .int (e1 2), .int (e1 3), .int (e1 4), .int (e1 5), .int (bi gd)]) := (hFb_35 t (by omega) (by omega) (by omega)).trans hT1
        have hfr_35 : FrTB t b cn cn_35 := hF1.tr (FrTB.b hFb_35)
        refine W.eq (g2 := F0 m 229 ls [.int (bi (decide (lo_35.toInt ≤ hh_35.toInt)))]) rfl ?_
        refine b_bool_eq (tgt := 274) hx hb d_Three_narrow_229 (by decide) (fun c_37 => ?_) (fun c_37 => ?_)
        · have hc_37 := of_decide_eq_false c_37
          refine lv_iconst (v := 0) hx hb d_Three_narrow_274 (by decide) ?_
          refine W.eq (g2 := F0 m 275 ls [.int (bi false)]) rfl ?_
          refine e_z hx hb hr hlk hQ hS d_Three_narrow_275 ?_
          refine ⟨cn_35, (upd f ca lo_35), (upd g ca hh_35), e1, false, ch_35, rfl, hfr_35, hx_35_36, ⟨hB_35.1, hB_35.2.1, hB_35.2.2⟩, ?_, hP⟩
          have hE : Ends (SolG (R3 4) ca cb cd (tI f) (tI g)) 200 (e1 0).toInt (e1 1).toInt (e1 2).toInt (e1 3).toInt (e1 4).toInt (e1 5).toInt := hE1.congr (fun x y z => ⟨fun h => h.1, fun h => ⟨h, by have h1 := h.1; unfold tI at h1; omega⟩⟩)
          have g0 : ¬ tI (upd f ca lo_35) ca ≤ tI (upd g ca hh_35) ca := by rw [tI_up, tI_up]; exact of_decide_eq_false c_37
          have hrz := hrg ca hca
          rw [← HullG_k]; exact hull3G (far := 200) (yl := tI (upd f ca lo_35)) (yh := tI (upd g ca hh_35)) (wl := tI (upd f ca lo_35)) (wh := tI (upd g ca hh_35)) (c1 := ch_35) (c2 := ch_35) hca hcb hcd hne (by omega) hE (tI_cut hlo_35 hhh_35) hch_35 (fun h => absurd h g0) (fun h => absurd h g0) ⟨fun h => absurd h (by decide), fun h => absurd h.1 g0⟩
        · have hc_37 := of_decide_eq_true c_37
          refine lv_aload_n hx hb d_Three_narrow_232 rfl (lv_at hl 1 rfl) ?_
          refine lv_aload_n hx hb d_Three_narrow_233 rfl (lv_at hl 0 rfl) ?_
          refine w_gf hx hb hK i_Greater hown hP hN hx_35_36 rfl 1 (by decide) t_512 rfl rfl d_Three_narrow_234 ?_
          refine lv_aload_n hx hb d_Three_narrow_237 rfl (lv_at hl 0 rfl) ?_
          refine w_gf hx hb hK i_Greater hown hP hN hx_35_36 rfl 5 (by decide) t_516 rfl rfl d_Three_narrow_238 ?_
          refine lv_aload_n hx hb d_Three_narrow_241 rfl (lv_at hl 0 rfl) ?_
          refine w_gf hx hb hK i_Greater hown hP hN hx_35_36 rfl 6 (by decide) t_517 rfl rfl d_Three_narrow_242 ?_
          refine x_V (As := [.int xb, .int (e1 2), .int (e1 3)]) (rest := []) hx hb hml hown hK (k_Box_cut l D cA adr N hi cn_35 b (upd f ca lo_35) (upd g ca hh_35) ch_35 ⟨hB_35.1, hB_35.2.1, hB_35.2.2⟩ hMb cb xb (e1 2) (e1 3) hxb (by omega)) t_176 t_2 t_282 t_174 t_175 yk_Box_cut ⟨Nat.le_of_ble_eq_true rfl, Nat.le_of_ble_eq_true rfl⟩ (w_rec hK hP hMb.1 hB_35.1 rfl) hP rfl hl.1 rfl (Nat.le_of_ble_eq_true rfl) d_Three_narrow_245 ⟨Nat.le_of_ble_eq_true rfl, Nat.le_of_ble_eq_true rfl⟩ hS (fun q h => h) (fun r H locs hq _ hS => ?_)
          obtain ⟨cn_38, lo_38, hh_38, hlo_38, hhh_38, rfl, hFb_38, hB_38, hP⟩ := hq
          obtain ⟨ch_38, hch_38⟩ : ∃ q : Bool, q = (ch_35 || decide (((upd f ca lo_35) cb).toInt < (e1 2).toInt ∨ (e1 3).toInt < ((upd g ca hh_35) cb).toInt)) := ⟨_, rfl⟩
          rw [← hch_38] at hB_38
          have hx_38_39 : cn_38 t = .inr (11, [.int xa, .int xb, .int xc, .int (e1 0), .int (e1 1), .int (e1 2), .int (e1 3), .int (e1 4), .int (e1 5), .int (bi gd)]) := (hFb_38 t (by omega) (by omega) (by omega)).trans hx_35_36
          have hfr_38 : FrTB t b cn cn_38 := hfr_35.tr (FrTB.b hFb_38)
          refine W.eq (g2 := F0 m 248 ls [.int (bi (decide (lo_38.toInt ≤ hh_38.toInt)))]) rfl ?_
          refine b_bool_eq (tgt := 274) hx hb d_Three_narrow_248 (by decide) (fun c_40 => ?_) (fun c_40 => ?_)
          · have hc_40 := of_decide_eq_false c_40
            refine lv_iconst (v := 0) hx hb d_Three_narrow_274 (by decide) ?_
            refine W.eq (g2 := F0 m 275 ls [.int (bi false)]) rfl ?_
            refine e_z hx hb hr hlk hQ hS d_Three_narrow_275 ?_
            refine ⟨cn_38, (upd (upd f ca lo_35) cb lo_38), (upd (upd g ca hh_35) cb hh_38), e1, false, ch_38, rfl, hfr_38, hx_38_39, ⟨hB_38.1, hB_38.2.1, hB_38.2.2⟩, ?_, hP⟩
            have hE : Ends (SolG (R3 4) ca cb cd (tI f) (tI g)) 200 (e1 0).toInt (e1 1).toInt (e1 2).toInt (e1 3).toInt (e1 4).toInt (e1 5).toInt := hE1.congr (fun x y z => ⟨fun h => h.1, fun h => ⟨h, by have h1 := h.1; unfold tI at h1; omega⟩⟩)
            have g0 : tI (upd f ca lo_35) ca ≤ tI (upd g ca hh_35) ca := by rw [tI_up, tI_up]; exact of_decide_eq_true c_37
            have g1 : ¬ tI (upd (upd f ca lo_35) cb lo_38) cb ≤ tI (upd (upd g ca hh_35) cb hh_38) cb := by rw [tI_up, tI_up]; exact of_decide_eq_false c_40
            have hrz := hrg ca hca
            rw [← HullG_k]; exact hull3G (far := 200) (yl := tI (upd f ca lo_35)) (yh := tI (upd g ca hh_35)) (wl := tI (upd (upd f ca lo_35) cb lo_38)) (wh := tI (upd (upd g ca hh_35) cb hh_38)) (c1 := ch_35) (c2 := ch_38) hca hcb hcd hne (by omega) hE (tI_cut hlo_35 hhh_35) hch_35 (fun _ => ⟨tI_cut hlo_38 hhh_38, hch_38⟩) (fun _ h => absurd h g1) ⟨fun h => absurd h (by decide), fun h => absurd h.2.1 g1⟩
          · have hc_40 := of_decide_eq_true c_40
            refine lv_aload_n hx hb d_Three_narrow_251 rfl (lv_at hl 1 rfl) ?_
            refine lv_aload_n hx hb d_Three_narrow_252 rfl (lv_at hl 0 rfl) ?_
            refine w_gf hx hb hK i_Greater hown hP hN hx_38_39 rfl 2 (by decide) t_513 rfl rfl d_Three_narrow_253 ?_
            refine lv_aload_n hx hb d_Three_narrow_256 rfl (lv_at hl 0 rfl) ?_
            refine w_gf hx hb hK i_Greater hown hP hN hx_38_39 rfl 7 (by decide) t_518 rfl rfl d_Three_narrow_257 ?_
            refine lv_aload_n hx hb d_Three_narrow_260 rfl (lv_at hl 0 rfl) ?_
            refine w_gf hx hb hK i_Greater hown hP hN hx_38_39 rfl 8 (by decide) t_519 rfl rfl d_Three_narrow_261 ?_
            refine x_V (As := [.int xc, .int (e1 4), .int (e1 5)]) (rest := []) hx hb hml hown hK (k_Box_cut l D cA adr N hi cn_38 b (upd (upd f ca lo_35) cb lo_38) (upd (upd g ca hh_35) cb hh_38) ch_38 ⟨hB_38.1, hB_38.2.1, hB_38.2.2⟩ hMb cd xc (e1 4) (e1 5) hxc (by omega)) t_176 t_2 t_282 t_174 t_175 yk_Box_cut ⟨Nat.le_of_ble_eq_true rfl, Nat.le_of_ble_eq_true rfl⟩ (w_rec hK hP hMb.1 hB_38.1 rfl) hP rfl hl.1 rfl (Nat.le_of_ble_eq_true rfl) d_Three_narrow_264 ⟨Nat.le_of_ble_eq_true rfl, Nat.le_of_ble_eq_true rfl⟩ hS (fun q h => h) (fun r H locs hq _ hS => ?_)
            obtain ⟨cn_41, lo_41, hh_41, hlo_41, hhh_41, rfl, hFb_41, hB_41, hP⟩ := hq
            obtain ⟨ch_41, hch_41⟩ : ∃ q : Bool, q = (ch_38 || decide (((upd (upd f ca lo_35) cb lo_38) cd).toInt < (e1 4).toInt ∨ (e1 5).toInt < ((upd (upd g ca hh_35) cb hh_38) cd).toInt)) := ⟨_, rfl⟩
            rw [← hch_41] at hB_41
            have hx_41_42 : cn_41 t = .inr (11, [.int xa, .int xb, .int xc, .int (e1 0), .int (e1 1), .int (e1 2), .int (e1 3), .int (e1 4), .int (e1 5), .int (bi gd)]) := (hFb_41 t (by omega) (by omega) (by omega)).trans hx_38_39
            have hfr_41 : FrTB t b cn cn_41 := hfr_38.tr (FrTB.b hFb_41)
            refine W.eq (g2 := F0 m 267 ls [.int (bi (decide (lo_41.toInt ≤ hh_41.toInt)))]) rfl ?_
            refine b_bool_eq (tgt := 274) hx hb d_Three_narrow_267 (by decide) (fun c_43 => ?_) (fun c_43 => ?_)
            · have hc_43 := of_decide_eq_false c_43
              refine lv_iconst (v := 0) hx hb d_Three_narrow_274 (by decide) ?_
              refine W.eq (g2 := F0 m 275 ls [.int (bi false)]) rfl ?_
              refine e_z hx hb hr hlk hQ hS d_Three_narrow_275 ?_
              refine ⟨cn_41, (upd (upd (upd f ca lo_35) cb lo_38) cd lo_41), (upd (upd (upd g ca hh_35) cb hh_38) cd hh_41), e1, false, ch_41, rfl, hfr_41, hx_41_42, ⟨hB_41.1, hB_41.2.1, hB_41.2.2⟩, ?_, hP⟩
              have hE : Ends (SolG (R3 4) ca cb cd (tI f) (tI g)) 200 (e1 0).toInt (e1 1).toInt (e1 2).toInt (e1 3).toInt (e1 4).toInt (e1 5).toInt := hE1.congr (fun x y z => ⟨fun h => h.1, fun h => ⟨h, by have h1 := h.1; unfold tI at h1; omega⟩⟩)
              have g0 : tI (upd f ca lo_35) ca ≤ tI (upd g ca hh_35) ca := by rw [tI_up, tI_up]; exact of_decide_eq_true c_37
              have g1 : tI (upd (upd f ca lo_35) cb lo_38) cb ≤ tI (upd (upd g ca hh_35) cb hh_38) cb := by rw [tI_up, tI_up]; exact of_decide_eq_true c_40
              have g2 : ¬ tI (upd (upd (upd f ca lo_35) cb lo_38) cd lo_41) cd ≤ tI (upd (upd (upd g ca hh_35) cb hh_38) cd hh_41) cd := by rw [tI_up, tI_up]; exact of_decide_eq_false c_43
              have hrz := hrg ca hca
              rw [← HullG_k]; exact hull3G (far := 200) (yl := tI (upd f ca lo_35)) (yh := tI (upd g ca hh_35)) (wl := tI (upd (upd f ca lo_35) cb lo_38)) (wh := tI (upd (upd g ca hh_35) cb hh_38)) (c1 := ch_35) (c2 := ch_38) hca hcb hcd hne (by omega) hE (tI_cut hlo_35 hhh_35) hch_35 (fun _ => ⟨tI_cut hlo_38 hhh_38, hch_38⟩) (fun _ _ => ⟨tI_cut hlo_41 hhh_41, hch_41⟩) ⟨fun h => absurd h (by decide), fun h => absurd h.2.2 g2⟩
            · have hc_43 := of_decide_eq_true c_43
              refine lv_iconst (v := 1) hx hb d_Three_narrow_270 (by decide) ?_
              refine lv_goto (tgt := 275) hx hb d_Three_narrow_271 (by decide) ?_
              refine W.eq (g2 := F0 m 275 ls [.int (bi true)]) rfl ?_
              refine e_z hx hb hr hlk hQ hS d_Three_narrow_275 ?_
              refine ⟨cn_41, (upd (upd (upd f ca lo_35) cb lo_38) cd lo_41), (upd (upd (upd g ca hh_35) cb hh_38) cd hh_41), e1, true, ch_41, rfl, hfr_41, hx_41_42, ⟨hB_41.1, hB_41.2.1, hB_41.2.2⟩, ?_, hP⟩
              have hE : Ends (SolG (R3 4) ca cb cd (tI f) (tI g)) 200 (e1 0).toInt (e1 1).toInt (e1 2).toInt (e1 3).toInt (e1 4).toInt (e1 5).toInt := hE1.congr (fun x y z => ⟨fun h => h.1, fun h => ⟨h, by have h1 := h.1; unfold tI at h1; omega⟩⟩)
              have g0 : tI (upd f ca lo_35) ca ≤ tI (upd g ca hh_35) ca := by rw [tI_up, tI_up]; exact of_decide_eq_true c_37
              have g1 : tI (upd (upd f ca lo_35) cb lo_38) cb ≤ tI (upd (upd g ca hh_35) cb hh_38) cb := by rw [tI_up, tI_up]; exact of_decide_eq_true c_40
              have g2 : tI (upd (upd (upd f ca lo_35) cb lo_38) cd lo_41) cd ≤ tI (upd (upd (upd g ca hh_35) cb hh_38) cd hh_41) cd := by rw [tI_up, tI_up]; exact of_decide_eq_true c_43
              have hrz := hrg ca hca
              rw [← HullG_k]; exact hull3G (far := 200) (yl := tI (upd f ca lo_35)) (yh := tI (upd g ca hh_35)) (wl := tI (upd (upd f ca lo_35) cb lo_38)) (wh := tI (upd (upd g ca hh_35) cb hh_38)) (c1 := ch_35) (c2 := ch_38) hca hcb hcd hne (by omega) hE (tI_cut hlo_35 hhh_35) hch_35 (fun _ => ⟨tI_cut hlo_38 hhh_38, hch_38⟩) (fun _ _ => ⟨tI_cut hlo_41 hhh_41, hch_41⟩) ⟨fun _ => ⟨g0, g1, g2⟩, fun _ => rfl⟩
      · refine lv_aload_n hx hb d_Three_narrow_65 rfl (lv_at hl 0 rfl) ?_
        refine w_gf hx hb hK i_Greater hown hP hN hT1 rfl 1 (by decide) t_512 rfl rfl d_Three_narrow_66 ?_
        refine lv_aload_n hx hb d_Three_narrow_69 rfl (lv_at hl 0 rfl) ?_
        refine w_gf hx hb hK i_Greater hown hP hN hT1 rfl 0 (by decide) t_511 rfl rfl d_Three_narrow_70 ?_
        have K_244 : ∀ (z_244_0 : Int32), z_244_0.toInt = (if ¬ (cb : Int) = (ca : Int) then (f cb).toInt else x2.toInt) → W p l e (rl 6) s m args below meth c H locs 0 0 Q (F0 m 89 ls [.int z_244_0]) := by
          intro z_244_0 hz_244_0
          refine lv_istore_n (lv' := [(3, .int z_244_0), (0, .ref (adr t)), (1, .ref (adr b)), (2, .int x2)]) hx hb d_Three_narrow_89 rfl hl (by decide) rfl (fun ls hl => ?_)
          refine lv_aload_n hx hb d_Three_narrow_90 rfl (lv_at hl 1 rfl) ?_
          refine w_gf hx hb hK i_Greater hown hP hN hT1 rfl 1 (by decide) t_512 rfl rfl d_Three_narrow_91 ?_
          refine lv_aload_n hx hb d_Three_narrow_94 rfl (lv_at hl 1 rfl) ?_
          refine w_gf hx hb hK i_Greater hown hP hN hT1 rfl 0 (by decide) t_511 rfl rfl d_Three_narrow_95 ?_
          have K_445 : ∀ (z_445_0 : Int32), z_445_0.toInt = (if ¬ (cb : Int) = (ca : Int) then (g cb).toInt else x2.toInt) → W p l e (rl 6) s m args below meth c H locs 0 0 Q (F0 m 114 ls [.int z_445_0]) := by
            intro z_445_0 hz_445_0
            refine lv_istore (lv' := [(4, .int z_445_0), (3, .int z_244_0), (0, .ref (adr t)), (1, .ref (adr b)), (2, .int x2)]) hx hb d_Three_narrow_114 hl (by decide) rfl (fun ls hl => ?_)
            refine lv_aload_n hx hb d_Three_narrow_116 rfl (lv_at hl 2 rfl) ?_
            refine w_gf hx hb hK i_Greater hown hP hN hT1 rfl 2 (by decide) t_513 rfl rfl d_Three_narrow_117 ?_
            refine lv_aload_n hx hb d_Three_narrow_120 rfl (lv_at hl 2 rfl) ?_
            refine w_gf hx hb hK i_Greater hown hP hN hT1 rfl 0 (by decide) t_511 rfl rfl d_Three_narrow_121 ?_
            have K_646 : ∀ (z_646_0 : Int32), z_646_0.toInt = (if ¬ (cd : Int) = (ca : Int) then (f cd).toInt else x2.toInt) → W p l e (rl 6) s m args below meth c H locs 0 0 Q (F0 m 140 ls [.int z_646_0]) := by
              intro z_646_0 hz_646_0
              refine lv_istore (lv' := [(5, .int z_646_0), (4, .int z_445_0), (3, .int z_244_0), (0, .ref (adr t)), (1, .ref (adr b)), (2, .int x2)]) hx hb d_Three_narrow_140 hl (by decide) rfl (fun ls hl => ?_)
              refine lv_aload_n hx hb d_Three_narrow_142 rfl (lv_at hl 3 rfl) ?_
              refine w_gf hx hb hK i_Greater hown hP hN hT1 rfl 2 (by decide) t_513 rfl rfl d_Three_narrow_143 ?_
              refine lv_aload_n hx hb d_Three_narrow_146 rfl (lv_at hl 3 rfl) ?_
              refine w_gf hx hb hK i_Greater hown hP hN hT1 rfl 0 (by decide) t_511 rfl rfl d_Three_narrow_147 ?_
              have K_847 : ∀ (z_847_0 : Int32), z_847_0.toInt = (if ¬ (cd : Int) = (ca : Int) then (g cd).toInt else x2.toInt) → W p l e (rl 6) s m args below meth c H locs 0 0 Q (F0 m 166 ls [.int z_847_0]) := by
                intro z_847_0 hz_847_0
                refine lv_istore (lv' := [(6, .int z_847_0), (5, .int z_646_0), (4, .int z_445_0), (3, .int z_244_0), (0, .ref (adr t)), (1, .ref (adr b)), (2, .int x2)]) hx hb d_Three_narrow_166 hl (by decide) rfl (fun ls hl => ?_)
                refine lv_aload_n hx hb d_Three_narrow_168 rfl (lv_at hl 4 rfl) ?_
                refine lv_iload_n hx hb d_Three_narrow_169 rfl (lv_at hl 6 rfl) ?_
                refine lv_iload_n hx hb d_Three_narrow_170 rfl (lv_at hl 3 rfl) ?_
                refine lv_iload hx hb d_Three_narrow_171 (lv_at hl 2 rfl) ?_
                refine lv_iload hx hb d_Three_narrow_173 (lv_at hl 1 rfl) ?_
                refine lv_iload hx hb d_Three_narrow_175 (lv_at hl 0 rfl) ?_
                refine lv_aload_n hx hb d_Three_narrow_177 rfl (lv_at hl 4 rfl) ?_
                refine w_gf hx hb hK i_Greater hown hP hN hT1 rfl 1 (by decide) t_512 rfl rfl d_Three_narrow_178 ?_
                refine lv_aload_n hx hb d_Three_narrow_181 rfl (lv_at hl 4 rfl) ?_
                refine w_gf hx hb hK i_Greater hown hP hN hT1 rfl 2 (by decide) t_513 rfl rfl d_Three_narrow_182 ?_
                have K_1048 : ∀ (b_1048_0 : Bool), (b_1048_0 = true ↔ ((cb : Int) = (cd : Int) ∧ ¬ (cb : Int) = (ca : Int))) → W p l e (rl 6) s m args below meth c H locs 0 0 Q (F0 m 204 ls [.int (bi b_1048_0), .int z_847_0, .int z_646_0, .int z_445_0, .int z_244_0, .int x2, .ref (adr t)]) := by
                  intro b_1048_0 hb_1048_0
                  have hsp9 := th_sp (R := (R3 4)) (a := ca) (b := cb) (c := cd) (bl := tI f) (bh := tI g) (x := x2.toInt) (by unfold tI; omega) hz_244_0 hz_445_0 hz_646_0 hz_847_0 hb_1048_0
                  have hr3 : -100 ≤ z_244_0.toInt ∧ z_244_0.toInt ≤ z_445_0.toInt ∧ z_445_0.toInt ≤ 100 := by rw [hz_244_0, hz_445_0]; split <;> omega
                  have hr4 : -100 ≤ z_646_0.toInt ∧ z_646_0.toInt ≤ z_847_0.toInt ∧ z_847_0.toInt ≤ 100 := by rw [hz_646_0, hz_847_0]; split <;> omega
                  have htw9 : b_1048_0 = true → z_244_0.toInt = z_646_0.toInt ∧ z_445_0.toInt = z_847_0.toInt := fun h => by have q := hb_1048_0.mp h; have e9 : cb = cd := (by omega); rw [hz_244_0, hz_445_0, hz_646_0, hz_847_0, if_pos q.2, if_pos q.2, if_pos (by omega), if_pos (by omega), e9]; exact ⟨rfl, rfl⟩
                  refine x_A (As := [.int x2, .int z_244_0, .int z_445_0, .int z_646_0, .int z_847_0, .int (bi b_1048_0)]) (rest := []) hx hb hml hown hK (k_Greater_span l D cA adr N hi cn1 t xa xb xc e1 gd hT1 hN x2 z_244_0 z_445_0 z_646_0 z_847_0 b_1048_0 (by omega) (by omega) (by omega) htw9) t_223 t_16 t_218 t_220 t_219 t_221 t_222 ⟨by decide, by decide, yk_Greater_span.2.2⟩ ⟨Nat.le_of_ble_eq_true rfl, Nat.le_of_ble_eq_true rfl⟩ (w_rec hK hP hN hT1 rfl) hP rfl hl.1 rfl (Nat.le_of_ble_eq_true rfl) d_Three_narrow_204 ⟨Nat.le_of_ble_eq_true rfl, Nat.le_of_ble_eq_true rfl⟩ hS (fun q h => h) (fun r H locs hq _ hS => ?_)
                  obtain ⟨cn_1049, e_1049, rfl, hFt_1049, hT_1049, hSp_1049, hP⟩ := hq
                  have hx_1049_1050 : cn_1049 b = .inr (2, [.ref (adr (b + 1)), .ref (adr (b + 2)), .int (bi ch)]) := (hFt_1049 b (by omega)).trans hB1.1
                  have hx_1049_1051 : cn_1049 (b + 1) = .inl (cA 0, 10, .inl f) := (hFt_1049 (b + 1) (by omega)).trans hB1.2.1
                  have hx_1049_1052 : cn_1049 (b + 2) = .inl (cA 0, 10, .inl g) := (hFt_1049 (b + 2) (by omega)).trans hB1.2.2
                  refine W.eq (g2 := F0 m 207 ls []) rfl ?_
                  refine x_iinc (k := 6) (lv' := fun v_ => [(2, .int v_), (6, .int z_847_0), (5, .int z_646_0), (4, .int z_445_0), (3, .int z_244_0), (0, .ref (adr t)), (1, .ref (adr b))]) hx hb d_Three_narrow_207 hl rfl rfl (by decide) (by omega) (by decide) (fun v_ => rfl) (fun z_1053 tz_1053 ls hl => ?_)
                  refine lv_goto (tgt := 52) hx hb d_Three_narrow_210 (by decide) ?_
                  have hE9 := th_step hsp9 (hSp_1049 _ hE1)
                  rw [← tz_1053] at hE9
                  exact ih_32 z_1053 cn_1049 e_1049 _ _ _ (by omega) (by omega) (hF1.tr (FrTB.t hFt_1049)) hT_1049 ⟨hx_1049_1050, hx_1049_1051, hx_1049_1052⟩ hE9 hP hS (lv_sub hl [5, 6, 0] rfl)
                refine b_icmp_ne (tgt := 203) hx hb d_Three_narrow_185 (by decide) hxb hxc (fun c_1054 => ?_) (fun c_1054 => ?_)
                · refine lv_iconst (v := 0) hx hb d_Three_narrow_203 (by decide) ?_
                  exact K_1048 false ⟨fun h => absurd h (by decide), fun h => absurd h (by omega)⟩
                · refine lv_aload_n hx hb d_Three_narrow_188 rfl (lv_at hl 4 rfl) ?_
                  refine w_gf hx hb hK i_Greater hown hP hN hT1 rfl 1 (by decide) t_512 rfl rfl d_Three_narrow_189 ?_
                  refine lv_aload_n hx hb d_Three_narrow_192 rfl (lv_at hl 4 rfl) ?_
                  refine w_gf hx hb hK i_Greater hown hP hN hT1 rfl 0 (by decide) t_511 rfl rfl d_Three_narrow_193 ?_
                  refine b_icmp_eq (tgt := 203) hx hb d_Three_narrow_196 (by decide) hxb hxa (fun c_1055 => ?_) (fun c_1055 => ?_)
                  · refine lv_iconst (v := 0) hx hb d_Three_narrow_203 (by decide) ?_
                    exact K_1048 false ⟨fun h => absurd h (by decide), fun h => absurd h (by omega)⟩
                  · refine lv_iconst (v := 1) hx hb d_Three_narrow_199 (by decide) ?_
                    refine lv_goto (tgt := 204) hx hb d_Three_narrow_200 (by decide) ?_
                    exact K_1048 true ⟨fun _ => by omega, fun _ => rfl⟩
              refine b_icmp_ne (tgt := 157) hx hb d_Three_narrow_150 (by decide) hxc hxa (fun c_1056 => ?_) (fun c_1056 => ?_)
              · refine lv_aload_n hx hb d_Three_narrow_157 rfl (lv_at hl 4 rfl) ?_
                refine w_gfN hx hb hK i_Box hown hP hMb.1 hB1.1 rfl 1 (by decide) t_47 rfl rfl d_Three_narrow_158 ?_
                refine lv_aload_n hx hb d_Three_narrow_161 rfl (lv_at hl 3 rfl) ?_
                refine w_gf hx hb hK i_Greater hown hP hN hT1 rfl 2 (by decide) t_513 rfl rfl d_Three_narrow_162 ?_
                refine w_ld hx hb hK hP hMb.2.2 hB1.2.2 (cd) hxc (by omega) (show cd < 10 by omega) d_Three_narrow_165 (fun z_1057 ez_1057 => ?_)
                subst ez_1057
                exact K_847 (g cd) (by omega)
              · refine lv_iload_n hx hb d_Three_narrow_153 rfl (lv_at hl 5 rfl) ?_
                refine lv_goto (tgt := 166) hx hb d_Three_narrow_154 (by decide) ?_
                exact K_847 x2 (by omega)
            refine b_icmp_ne (tgt := 131) hx hb d_Three_narrow_124 (by decide) hxc hxa (fun c_1058 => ?_) (fun c_1058 => ?_)
            · refine lv_aload_n hx hb d_Three_narrow_131 rfl (lv_at hl 3 rfl) ?_
              refine w_gfN hx hb hK i_Box hown hP hMb.1 hB1.1 rfl 0 (by decide) t_41 rfl rfl d_Three_narrow_132 ?_
              refine lv_aload_n hx hb d_Three_narrow_135 rfl (lv_at hl 2 rfl) ?_
              refine w_gf hx hb hK i_Greater hown hP hN hT1 rfl 2 (by decide) t_513 rfl rfl d_Three_narrow_136 ?_
              refine w_ld hx hb hK hP hMb.2.1 hB1.2.1 (cd) hxc (by omega) (show cd < 10 by omega) d_Three_narrow_139 (fun z_1059 ez_1059 => ?_)
              subst ez_1059
              exact K_646 (f cd) (by omega)
            · refine lv_iload_n hx hb d_Three_narrow_127 rfl (lv_at hl 4 rfl) ?_
              refine lv_goto (tgt := 140) hx hb d_Three_narrow_128 (by decide) ?_
              exact K_646 x2 (by omega)
          refine b_icmp_ne (tgt := 105) hx hb d_Three_narrow_98 (by decide) hxb hxa (fun c_1060 => ?_) (fun c_1060 => ?_)
          · refine lv_aload_n hx hb d_Three_narrow_105 rfl (lv_at hl 2 rfl) ?_
            refine w_gfN hx hb hK i_Box hown hP hMb.1 hB1.1 rfl 1 (by decide) t_47 rfl rfl d_Three_narrow_106 ?_
            refine lv_aload_n hx hb d_Three_narrow_109 rfl (lv_at hl 1 rfl) ?_
            refine w_gf hx hb hK i_Greater hown hP hN hT1 rfl 1 (by decide) t_512 rfl rfl d_Three_narrow_110 ?_
            refine w_ld hx hb hK hP hMb.2.2 hB1.2.2 (cb) hxb (by omega) (show cb < 10 by omega) d_Three_narrow_113 (fun z_1061 ez_1061 => ?_)
            subst ez_1061
            exact K_445 (g cb) (by omega)
          · refine lv_iload_n hx hb d_Three_narrow_101 rfl (lv_at hl 3 rfl) ?_
            refine lv_goto (tgt := 114) hx hb d_Three_narrow_102 (by decide) ?_
            exact K_445 x2 (by omega)
        refine b_icmp_ne (tgt := 80) hx hb d_Three_narrow_73 (by decide) hxb hxa (fun c_1062 => ?_) (fun c_1062 => ?_)
        · refine lv_aload_n hx hb d_Three_narrow_80 rfl (lv_at hl 1 rfl) ?_
          refine w_gfN hx hb hK i_Box hown hP hMb.1 hB1.1 rfl 0 (by decide) t_41 rfl rfl d_Three_narrow_81 ?_
          refine lv_aload_n hx hb d_Three_narrow_84 rfl (lv_at hl 0 rfl) ?_
          refine w_gf hx hb hK i_Greater hown hP hN hT1 rfl 1 (by decide) t_512 rfl rfl d_Three_narrow_85 ?_
          refine w_ld hx hb hK hP hMb.2.1 hB1.2.1 (cb) hxb (by omega) (show cb < 10 by omega) d_Three_narrow_88 (fun z_1063 ez_1063 => ?_)
          subst ez_1063
          exact K_244 (f cb) (by omega)
        · refine lv_iload_n hx hb d_Three_narrow_76 rfl (lv_at hl 2 rfl) ?_
          refine lv_goto (tgt := 89) hx hb d_Three_narrow_77 (by decide) ?_
          exact K_244 x2 (by omega)
  obtain ⟨ez, hez⟩ : ∃ q : Nat → Int32, q = (fun k => match k with | 0 => (200 : Int32) | 1 => (-200 : Int32) | 2 => (200 : Int32) | 3 => (-200 : Int32) | 4 => (200 : Int32) | _ => (-200 : Int32)) := ⟨_, rfl⟩
  exact L_32 (_ + 1) (f ca) cn_26 ez _ _ _ (Nat.lt_succ_self _) (by omega) (show FrTB t b cn cn_26 from fun k a0 a1 a2 a3 => hfr_26 k a0 a1 a2 a3) (by rw [hez]; exact ho_26_30) ⟨ho_26_27, ho_26_28, ho_26_29⟩ (by rw [hez]; show Ends _ 200 (200 : Int32).toInt (-200 : Int32).toInt (200 : Int32).toInt (-200 : Int32).toInt (200 : Int32).toInt (-200 : Int32).toInt; rw [kc_200, kc_m200]; exact Ends.none (fun x y z h => by have h1 := h.1.1; have h2 := h.2; unfold tI at h1; omega)) hP hS (lv_sub hl [1, 2, 0] rfl)
set_option maxHeartbeats 4000000 in
set_option maxRecDepth 20000 in
theorem k_narrow_If (l : Launch) (D : va_G) (cA : Nat → ClassId) (adr : Nat → Nat) (N : List Nat) (hi : wI N adr) (cn : Nat → va_E) (t : Nat) (xa xb xc : Int32) (e0 : Nat → Int32) (gd : Bool) (hT : TP cn t 12 xa xb xc e0 gd) (hN : t ∈ N) (b : Nat) (f g : Nat → Int32) (ch : Bool) (hB : BP cA adr cn b f g ch) (hMb : BM N b) (hdt : t ≠ b ∧ t ≠ b + 1 ∧ t ≠ b + 2) (nn : Nat) (hn10 : nn ≤ 10) (hne : Ne nn (tI f) (tI g)) (hrg : ∀ k, k < nn → -100 ≤ tI f k ∧ tI g k ≤ 100) (ca cb cd : Nat) (hxa : xa.toInt = (ca : Int)) (hxb : xb.toInt = (cb : Int)) (hxc : xc.toInt = (cd : Int)) (hca : ca < nn) (hcb : cb < nn) (hcd : cd < nn) : Ct l y_Three_narrow b_Three_narrow 7 (some .boolean) 6 D cA [.ref (adr t), .ref (adr b)] (fun H => va_P D classes (wl N adr cn) H) (fun r H => ∃ (cn2 : Nat → va_E) (f2 g2 : Nat → Int32) (e2 : Nat → Int32) (q c2 : Bool), r = some (.int (bi q)) ∧ FrTB t b cn cn2 ∧ TP cn2 t 12 xa xb xc e2 gd ∧ BP cA adr cn2 b f2 g2 c2 ∧ NOK nn (Hull 6 ca cb cd) (tI f) (tI g) q (tI f2) (tI g2) ch c2 ∧ va_P D classes (wl N adr cn2) H) (wA N adr) := by
  refine Ct.mk (by decide) (Nat.le_of_ble_eq_true rfl) ?_
  intro p e s m args below meth c Q H locs ls hx hb hr hml hlk hown hin hK hQ hS hP hl
  have hl : lv_has ls 7 [(0, .ref (adr t)), (1, .ref (adr b))] := hl
  have hown : s.vm.findClass "RangeSheet$Three" = some m.cls := hown
  have hra := hrg ca hca; have hrb := hrg cb hcb; have hrc := hrg cd hcd; have hna := hne ca hca; have hnb := hne cb hcb; have hnc := hne cd hcd; unfold tI at hra hrb hrc hna hnb hnc
  refine lv_aload_n hx hb d_Three_narrow_0 rfl (lv_at hl 0 rfl) ?_
  refine lv_sipush (v := 200) hx hb d_Three_narrow_1 (by decide) ?_
  refine w_pf hx hb hK i_If t_If t_If_ok n_If hown hi hP hS wA_mem hN hT rfl 3 (by decide) t_514 rfl rfl rfl rfl rfl d_Three_narrow_4 (fun H locs hP hS => ?_)
  obtain ⟨cn_1, ecn_1⟩ : ∃ q : Nat → va_E, q = va_up cn t (.inr (12, [.int xa, .int xb, .int xc, .int (200 : Int32), .int (e0 1), .int (e0 2), .int (e0 3), .int (e0 4), .int (e0 5), .int (bi gd)])) := ⟨_, rfl⟩
  have hP : va_P D classes (wl N adr cn_1) H := by rw [ecn_1]; exact hP
  have ho_1_2 : cn_1 b = .inr (2, [.ref (adr (b + 1)), .ref (adr (b + 2)), .int (bi ch)]) := by rw [ecn_1, va_up_ne _ _ (by omega)]; exact hB.1
  have ho_1_3 : cn_1 (b + 1) = .inl (cA 0, 10, .inl f) := by rw [ecn_1, va_up_ne _ _ (by omega)]; exact hB.2.1
  have ho_1_4 : cn_1 (b + 2) = .inl (cA 0, 10, .inl g) := by rw [ecn_1, va_up_ne _ _ (by omega)]; exact hB.2.2
  have ho_1_5 : cn_1 t = .inr (12, [.int xa, .int xb, .int xc, .int (200 : Int32), .int (e0 1), .int (e0 2), .int (e0 3), .int (e0 4), .int (e0 5), .int (bi gd)]) := by rw [ecn_1]; exact va_up_self _ _ _
  have hfr_1 : ∀ k, k ≠ t → k ≠ b → k ≠ b + 1 → k ≠ b + 2 → cn_1 k = cn k := fun k a0 a1 a2 a3 => (congrFun ecn_1 k).trans ((va_up_ne _ _ (by omega)).trans rfl)
  refine lv_aload_n hx hb d_Three_narrow_7 rfl (lv_at hl 0 rfl) ?_
  refine lv_sipush (v := 200) hx hb d_Three_narrow_8 (by decide) ?_
  refine w_pf hx hb hK i_If t_If t_If_ok n_If hown hi hP hS wA_mem hN ho_1_5 rfl 5 (by decide) t_516 rfl rfl rfl rfl rfl d_Three_narrow_11 (fun H locs hP hS => ?_)
  obtain ⟨cn_6, ecn_6⟩ : ∃ q : Nat → va_E, q = va_up cn_1 t (.inr (12, [.int xa, .int xb, .int xc, .int (200 : Int32), .int (e0 1), .int (200 : Int32), .int (e0 3), .int (e0 4), .int (e0 5), .int (bi gd)])) := ⟨_, rfl⟩
  have hP : va_P D classes (wl N adr cn_6) H := by rw [ecn_6]; exact hP
  have ho_6_7 : cn_6 b = .inr (2, [.ref (adr (b + 1)), .ref (adr (b + 2)), .int (bi ch)]) := by rw [ecn_6, va_up_ne _ _ (by omega)]; exact ho_1_2
  have ho_6_8 : cn_6 (b + 1) = .inl (cA 0, 10, .inl f) := by rw [ecn_6, va_up_ne _ _ (by omega)]; exact ho_1_3
  have ho_6_9 : cn_6 (b + 2) = .inl (cA 0, 10, .inl g) := by rw [ecn_6, va_up_ne _ _ (by omega)]; exact ho_1_4
  have ho_6_10 : cn_6 t = .inr (12, [.int xa, .int xb, .int xc, .int (200 : Int32), .int (e0 1), .int (200 : Int32), .int (e0 3), .int (e0 4), .int (e0 5), .int (bi gd)]) := by rw [ecn_6]; exact va_up_self _ _ _
  have hfr_6 : ∀ k, k ≠ t → k ≠ b → k ≠ b + 1 → k ≠ b + 2 → cn_6 k = cn k := fun k a0 a1 a2 a3 => (congrFun ecn_6 k).trans ((va_up_ne _ _ (by omega)).trans (hfr_1 k a0 a1 a2 a3))
  refine lv_aload_n hx hb d_Three_narrow_14 rfl (lv_at hl 0 rfl) ?_
  refine lv_sipush (v := 200) hx hb d_Three_narrow_15 (by decide) ?_
  refine w_pf hx hb hK i_If t_If t_If_ok n_If hown hi hP hS wA_mem hN ho_6_10 rfl 7 (by decide) t_518 rfl rfl rfl rfl rfl d_Three_narrow_18 (fun H locs hP hS => ?_)
  obtain ⟨cn_11, ecn_11⟩ : ∃ q : Nat → va_E, q = va_up cn_6 t (.inr (12, [.int xa, .int xb, .int xc, .int (200 : Int32), .int (e0 1), .int (200 : Int32), .int (e0 3), .int (200 : Int32), .int (e0 5), .int (bi gd)])) := ⟨_, rfl⟩
  have hP : va_P D classes (wl N adr cn_11) H := by rw [ecn_11]; exact hP
  have ho_11_12 : cn_11 b = .inr (2, [.ref (adr (b + 1)), .ref (adr (b + 2)), .int (bi ch)]) := by rw [ecn_11, va_up_ne _ _ (by omega)]; exact ho_6_7
  have ho_11_13 : cn_11 (b + 1) = .inl (cA 0, 10, .inl f) := by rw [ecn_11, va_up_ne _ _ (by omega)]; exact ho_6_8
  have ho_11_14 : cn_11 (b + 2) = .inl (cA 0, 10, .inl g) := by rw [ecn_11, va_up_ne _ _ (by omega)]; exact ho_6_9
  have ho_11_15 : cn_11 t = .inr (12, [.int xa, .int xb, .int xc, .int (200 : Int32), .int (e0 1), .int (200 : Int32), .int (e0 3), .int (200 : Int32), .int (e0 5), .int (bi gd)]) := by rw [ecn_11]; exact va_up_self _ _ _
  have hfr_11 : ∀ k, k ≠ t → k ≠ b → k ≠ b + 1 → k ≠ b + 2 → cn_11 k = cn k := fun k a0 a1 a2 a3 => (congrFun ecn_11 k).trans ((va_up_ne _ _ (by omega)).trans (hfr_6 k a0 a1 a2 a3))
  refine lv_aload_n hx hb d_Three_narrow_21 rfl (lv_at hl 0 rfl) ?_
  refine lv_sipush (v := (-200)) hx hb d_Three_narrow_22 (by decide) ?_
  refine w_pf hx hb hK i_If t_If t_If_ok n_If hown hi hP hS wA_mem hN ho_11_15 rfl 4 (by decide) t_515 rfl rfl rfl rfl rfl d_Three_narrow_25 (fun H locs hP hS => ?_)
  obtain ⟨cn_16, ecn_16⟩ : ∃ q : Nat → va_E, q = va_up cn_11 t (.inr (12, [.int xa, .int xb, .int xc, .int (200 : Int32), .int (-200 : Int32), .int (200 : Int32), .int (e0 3), .int (200 : Int32), .int (e0 5), .int (bi gd)])) := ⟨_, rfl⟩
  have hP : va_P D classes (wl N adr cn_16) H := by rw [ecn_16]; exact hP
  have ho_16_17 : cn_16 b = .inr (2, [.ref (adr (b + 1)), .ref (adr (b + 2)), .int (bi ch)]) := by rw [ecn_16, va_up_ne _ _ (by omega)]; exact ho_11_12
  have ho_16_18 : cn_16 (b + 1) = .inl (cA 0, 10, .inl f) := by rw [ecn_16, va_up_ne _ _ (by omega)]; exact ho_11_13
  have ho_16_19 : cn_16 (b + 2) = .inl (cA 0, 10, .inl g) := by rw [ecn_16, va_up_ne _ _ (by omega)]; exact ho_11_14
  have ho_16_20 : cn_16 t = .inr (12, [.int xa, .int xb, .int xc, .int (200 : Int32), .int (-200 : Int32), .int (200 : Int32), .int (e0 3), .int (200 : Int32), .int (e0 5), .int (bi gd)]) := by rw [ecn_16]; exact va_up_self _ _ _
  have hfr_16 : ∀ k, k ≠ t → k ≠ b → k ≠ b + 1 → k ≠ b + 2 → cn_16 k = cn k := fun k a0 a1 a2 a3 => (congrFun ecn_16 k).trans ((va_up_ne _ _ (by omega)).trans (hfr_11 k a0 a1 a2 a3))
  refine lv_aload_n hx hb d_Three_narrow_28 rfl (lv_at hl 0 rfl) ?_
  refine lv_sipush (v := (-200)) hx hb d_Three_narrow_29 (by decide) ?_
  refine w_pf hx hb hK i_If t_If t_If_ok n_If hown hi hP hS wA_mem hN ho_16_20 rfl 6 (by decide) t_517 rfl rfl rfl rfl rfl d_Three_narrow_32 (fun H locs hP hS => ?_)
  obtain ⟨cn_21, ecn_21⟩ : ∃ q : Nat → va_E, q = va_up cn_16 t (.inr (12, [.int xa, .int xb, .int xc, .int (200 : Int32), .int (-200 : Int32), .int (200 : Int32), .int (-200 : Int32), .int (200 : Int32), .int (e0 5), .int (bi gd)])) := ⟨_, rfl⟩
  have hP : va_P D classes (wl N adr cn_21) H := by rw [ecn_21]; exact hP
  have ho_21_22 : cn_21 b = .inr (2, [.ref (adr (b + 1)), .ref (adr (b + 2)), .int (bi ch)]) := by rw [ecn_21, va_up_ne _ _ (by omega)]; exact ho_16_17
  have ho_21_23 : cn_21 (b + 1) = .inl (cA 0, 10, .inl f) := by rw [ecn_21, va_up_ne _ _ (by omega)]; exact ho_16_18
  have ho_21_24 : cn_21 (b + 2) = .inl (cA 0, 10, .inl g) := by rw [ecn_21, va_up_ne _ _ (by omega)]; exact ho_16_19
  have ho_21_25 : cn_21 t = .inr (12, [.int xa, .int xb, .int xc, .int (200 : Int32), .int (-200 : Int32), .int (200 : Int32), .int (-200 : Int32), .int (200 : Int32), .int (e0 5), .int (bi gd)]) := by rw [ecn_21]; exact va_up_self _ _ _
  have hfr_21 : ∀ k, k ≠ t → k ≠ b → k ≠ b + 1 → k ≠ b + 2 → cn_21 k = cn k := fun k a0 a1 a2 a3 => (congrFun ecn_21 k).trans ((va_up_ne _ _ (by omega)).trans (hfr_16 k a0 a1 a2 a3))
  refine lv_aload_n hx hb d_Three_narrow_35 rfl (lv_at hl 0 rfl) ?_
  refine lv_sipush (v := (-200)) hx hb d_Three_narrow_36 (by decide) ?_
  refine w_pf hx hb hK i_If t_If t_If_ok n_If hown hi hP hS wA_mem hN ho_21_25 rfl 8 (by decide) t_519 rfl rfl rfl rfl rfl d_Three_narrow_39 (fun H locs hP hS => ?_)
  obtain ⟨cn_26, ecn_26⟩ : ∃ q : Nat → va_E, q = va_up cn_21 t (.inr (12, [.int xa, .int xb, .int xc, .int (200 : Int32), .int (-200 : Int32), .int (200 : Int32), .int (-200 : Int32), .int (200 : Int32), .int (-200 : Int32), .int (bi gd)])) := ⟨_, rfl⟩
  have hP : va_P D classes (wl N adr cn_26) H := by rw [ecn_26]; exact hP
  have ho_26_27 : cn_26 b = .inr (2, [.ref (adr (b + 1)), .ref (adr (b + 2)), .int (bi ch)]) := by rw [ecn_26, va_up_ne _ _ (by omega)]; exact ho_21_22
  have ho_26_28 : cn_26 (b + 1) = .inl (cA 0, 10, .inl f) := by rw [ecn_26, va_up_ne _ _ (by omega)]; exact ho_21_23
  have ho_26_29 : cn_26 (b + 2) = .inl (cA 0, 10, .inl g) := by rw [ecn_26, va_up_ne _ _ (by omega)]; exact ho_21_24
  have ho_26_30 : cn_26 t = .inr (12, [.int xa, .int xb, .int xc, .int (200 : Int32), .int (-200 : Int32), .int (200 : Int32), .int (-200 : Int32), .int (200 : Int32), .int (-200 : Int32), .int (bi gd)]) := by rw [ecn_26]; exact va_up_self _ _ _
  have hfr_26 : ∀ k, k ≠ t → k ≠ b → k ≠ b + 1 → k ≠ b + 2 → cn_26 k = cn k := fun k a0 a1 a2 a3 => (congrFun ecn_26 k).trans ((va_up_ne _ _ (by omega)).trans (hfr_21 k a0 a1 a2 a3))
  refine lv_aload_n hx hb d_Three_narrow_42 rfl (lv_at hl 1 rfl) ?_
  refine w_gfN hx hb hK i_Box hown hP hMb.1 ho_26_27 rfl 0 (by decide) t_41 rfl rfl d_Three_narrow_43 ?_
  refine lv_aload_n hx hb d_Three_narrow_46 rfl (lv_at hl 0 rfl) ?_
  refine w_gf hx hb hK i_If hown hP hN ho_26_30 rfl 0 (by decide) t_511 rfl rfl d_Three_narrow_47 ?_
  refine w_ld hx hb hK hP hMb.2.1 ho_26_28 (ca) hxa (by omega) (show ca < 10 by omega) d_Three_narrow_50 (fun z_31 ez_31 => ?_)
  subst ez_31
  refine lv_istore_n (lv' := [(2, .int (f ca)), (0, .ref (adr t)), (1, .ref (adr b))]) hx hb d_Three_narrow_51 rfl hl (by decide) rfl (fun ls hl => ?_)
  have L_32 : ∀ (n : Nat) (x2 : Int32) (cn1 : Nat → va_E) (e1 : Nat → Int32) (H : Heap) (locs : List Loc) (ls : Array Slot), ((g ca).toInt + 1 - x2.toInt).toNat < n → ((f ca).toInt ≤ x2.toInt ∧ x2.toInt ≤ (g ca).toInt + 1) → (FrTB t b cn cn1) → (TP cn1 t 12 xa xb xc e1 gd) → (BP cA adr cn1 b f g ch) → (EE (fun x y z => SolG (R3 6) ca cb cd (tI f) (tI g) x y z ∧ x < x2.toInt) e1) → va_P D classes (wl N adr cn1) H → va_S (wA N adr) s.heap H locs → lv_has ls 7 [(0, .ref (adr t)), (1, .ref (adr b)), (2, .int x2)] → W p l e (rl 6) s m args below meth c H locs 0 0 Q (F0 m 52 ls []) := by
    intro n
    induction n with
    | zero => intro x2 cn1 e1 H locs ls hmu; exact absurd hmu (Nat.not_lt_zero _)
    | succ n ih_32 =>
      intro x2 cn1 e1 H locs ls hmu hx2 hF1 hT1 hB1 hE1 hP hS hl
      refine lv_iload_n hx hb d_Three_narrow_52 rfl (lv_at hl 2 rfl) ?_
      refine lv_aload_n hx hb d_Three_narrow_53 rfl (lv_at hl 1 rfl) ?_
      refine w_gfN hx hb hK i_Box hown hP hMb.1 hB1.1 rfl 1 (by decide) t_47 rfl rfl d_Three_narrow_54 ?_
      refine lv_aload_n hx hb d_Three_narrow_57 rfl (lv_at hl 0 rfl) ?_
      refine w_gf hx hb hK i_If hown hP hN hT1 rfl 0 (by decide) t_511 rfl rfl d_Three_narrow_58 ?_
      refine w_ld hx hb hK hP hMb.2.2 hB1.2.2 (ca) hxa (by omega) (show ca < 10 by omega) d_Three_narrow_61 (fun z_33 ez_33 => ?_)
      subst ez_33
      refine b_icmp_gt (tgt := 213) hx hb d_Three_narrow_62 (by decide) rfl rfl (fun c_34 => ?_) (fun c_34 => ?_)
      · refine lv_aload_n hx hb d_Three_narrow_213 rfl (lv_at hl 1 rfl) ?_
        refine lv_aload_n hx hb d_Three_narrow_214 rfl (lv_at hl 0 rfl) ?_
        refine w_gf hx hb hK i_If hown hP hN hT1 rfl 0 (by decide) t_511 rfl rfl d_Three_narrow_215 ?_
        refine lv_aload_n hx hb d_Three_narrow_218 rfl (lv_at hl 0 rfl) ?_
        refine w_gf hx hb hK i_If hown hP hN hT1 rfl 3 (by decide) t_514 rfl rfl d_Three_narrow_219 ?_
        refine lv_aload_n hx hb d_Three_narrow_222 rfl (lv_at hl 0 rfl) ?_
        refine w_gf hx hb hK i_If hown hP hN hT1 rfl 4 (by decide) t_515 rfl rfl d_Three_narrow_223 ?_
        refine x_V (As := [.int xa, .int (e1 0), .int (e1 1)]) (rest := []) hx hb hml hown hK (k_Box_cut l D cA adr N hi cn1 b f g ch ⟨hB1.1, hB1.2.1, hB1.2.2⟩ hMb ca xa (e1 0) (e1 1) hxa (by omega)) t_176 t_2 t_282 t_174 t_175 yk_Box_cut ⟨Nat.le_of_ble_eq_true rfl, Nat.le_of_ble_eq_true rfl⟩ (w_rec hK hP hMb.1 hB1.1 rfl) hP rfl hl.1 rfl (Nat.le_of_ble_eq_true rfl) d_Three_narrow_226 ⟨Nat.le_of_ble_eq_true rfl, Nat.le_of_ble_eq_true rfl⟩ hS (fun q h => h) (fun r H locs hq _ hS => ?_)
        obtain ⟨cn_35, lo_35, hh_35, hlo_35, hhh_35, rfl, hFb_35, hB_35, hP⟩ := hq
        obtain ⟨ch_35, hch_35⟩ : ∃ q : Bool, q = (ch || decide ((f ca).toInt < (e1 0).toInt ∨ (e1 1).toInt < (g ca).toInt)) := ⟨_, rfl⟩
        rw [← hch_35] at hB_35
        have hx_35_36 : cn_35 t = .inr (12, [.int xa, .int xb, .int xc, .int (e1 0), .int (e1 1), .int (e1 2), .int (e1 3), .int (e1 4), .int (e1 5), .int (bi gd)]) := (hFb_35 t (by omega) (by omega) (by omega)).trans hT1
        have hfr_35 : FrTB t b cn cn_35 := hF1.tr (FrTB.b hFb_35)
        refine W.eq (g2 := F0 m 229 ls [.int (bi (decide (lo_35.toInt ≤ hh_35.toInt)))]) rfl ?_
        refine b_bool_eq (tgt := 274) hx hb d_Three_narrow_229 (by decide) (fun c_37 => ?_) (fun c_37 => ?_)
        · have hc_37 := of_decide_eq_false c_37
          refine lv_iconst (v := 0) hx hb d_Three_narrow_274 (by decide) ?_
          refine W.eq (g2 := F0 m 275 ls [.int (bi false)]) rfl ?_
          refine e_z hx hb hr hlk hQ hS d_Three_narrow_275 ?_
          refine ⟨cn_35, (upd f ca lo_35), (upd g ca hh_35), e1, false, ch_35, rfl, hfr_35, hx_35_36, ⟨hB_35.1, hB_35.2.1, hB_35.2.2⟩, ?_, hP⟩
          have hE : Ends (SolG (R3 6) ca cb cd (tI f) (tI g)) 200 (e1 0).toInt (e1 1).toInt (e1 2).toInt (e1 3).toInt (e1 4).toInt (e1 5).toInt := hE1.congr (fun x y z => ⟨fun h => h.1, fun h => ⟨h, by have h1 := h.1; unfold tI at h1; omega⟩⟩)
          have g0 : ¬ tI (upd f ca lo_35) ca ≤ tI (upd g ca hh_35) ca := by rw [tI_up, tI_up]; exact of_decide_eq_false c_37
          have hrz := hrg ca hca
          rw [← HullG_k]; exact hull3G (far := 200) (yl := tI (upd f ca lo_35)) (yh := tI (upd g ca hh_35)) (wl := tI (upd f ca lo_35)) (wh := tI (upd g ca hh_35)) (c1 := ch_35) (c2 := ch_35) hca hcb hcd hne (by omega) hE (tI_cut hlo_35 hhh_35) hch_35 (fun h => absurd h g0) (fun h => absurd h g0) ⟨fun h => absurd h (by decide), fun h => absurd h.1 g0⟩
        · have hc_37 := of_decide_eq_true c_37
          refine lv_aload_n hx hb d_Three_narrow_232 rfl (lv_at hl 1 rfl) ?_
          refine lv_aload_n hx hb d_Three_narrow_233 rfl (lv_at hl 0 rfl) ?_
          refine w_gf hx hb hK i_If hown hP hN hx_35_36 rfl 1 (by decide) t_512 rfl rfl d_Three_narrow_234 ?_
          refine lv_aload_n hx hb d_Three_narrow_237 rfl (lv_at hl 0 rfl) ?_
          refine w_gf hx hb hK i_If hown hP hN hx_35_36 rfl 5 (by decide) t_516 rfl rfl d_Three_narrow_238 ?_
          refine lv_aload_n hx hb d_Three_narrow_241 rfl (lv_at hl 0 rfl) ?_
          refine w_gf hx hb hK i_If hown hP hN hx_35_36 rfl 6 (by decide) t_517 rfl rfl d_Three_narrow_242 ?_
          refine x_V (As := [.int xb, .int (e1 2), .int (e1 3)]) (rest := []) hx hb hml hown hK (k_Box_cut l D cA adr N hi cn_35 b (upd f ca lo_35) (upd g ca hh_35) ch_35 ⟨hB_35.1, hB_35.2.1, hB_35.2.2⟩ hMb cb xb (e1 2) (e1 3) hxb (by omega)) t_176 t_2 t_282 t_174 t_175 yk_Box_cut ⟨Nat.le_of_ble_eq_true rfl, Nat.le_of_ble_eq_true rfl⟩ (w_rec hK hP hMb.1 hB_35.1 rfl) hP rfl hl.1 rfl (Nat.le_of_ble_eq_true rfl) d_Three_narrow_245 ⟨Nat.le_of_ble_eq_true rfl, Nat.le_of_ble_eq_true rfl⟩ hS (fun q h => h) (fun r H locs hq _ hS => ?_)
          obtain ⟨cn_38, lo_38, hh_38, hlo_38, hhh_38, rfl, hFb_38, hB_38, hP⟩ := hq
          obtain ⟨ch_38, hch_38⟩ : ∃ q : Bool, q = (ch_35 || decide (((upd f ca lo_35) cb).toInt < (e1 2).toInt ∨ (e1 3).toInt < ((upd g ca hh_35) cb).toInt)) := ⟨_, rfl⟩
          rw [← hch_38] at hB_38
          have hx_38_39 : cn_38 t = .inr (12, [.int xa, .int xb, .int xc, .int (e1 0), .int (e1 1), .int (e1 2), .int (e1 3), .int (e1 4), .int (e1 5), .int (bi gd)]) := (hFb_38 t (by omega) (by omega) (by omega)).trans hx_35_36
          have hfr_38 : FrTB t b cn cn_38 := hfr_35.tr (FrTB.b hFb_38)
          refine W.eq (g2 := F0 m 248 ls [.int (bi (decide (lo_38.toInt ≤ hh_38.toInt)))]) rfl ?_
          refine b_bool_eq (tgt := 274) hx hb d_Three_narrow_248 (by decide) (fun c_40 => ?_) (fun c_40 => ?_)
          · have hc_40 := of_decide_eq_false c_40
            refine lv_iconst (v := 0) hx hb d_Three_narrow_274 (by decide) ?_
            refine W.eq (g2 := F0 m 275 ls [.int (bi false)]) rfl ?_
            refine e_z hx hb hr hlk hQ hS d_Three_narrow_275 ?_
            refine ⟨cn_38, (upd (upd f ca lo_35) cb lo_38), (upd (upd g ca hh_35) cb hh_38), e1, false, ch_38, rfl, hfr_38, hx_38_39, ⟨hB_38.1, hB_38.2.1, hB_38.2.2⟩, ?_, hP⟩
            have hE : Ends (SolG (R3 6) ca cb cd (tI f) (tI g)) 200 (e1 0).toInt (e1 1).toInt (e1 2).toInt (e1 3).toInt (e1 4).toInt (e1 5).toInt := hE1.congr (fun x y z => ⟨fun h => h.1, fun h => ⟨h, by have h1 := h.1; unfold tI at h1; omega⟩⟩)
            have g0 : tI (upd f ca lo_35) ca ≤ tI (upd g ca hh_35) ca := by rw [tI_up, tI_up]; exact of_decide_eq_true c_37
            have g1 : ¬ tI (upd (upd f ca lo_35) cb lo_38) cb ≤ tI (upd (upd g ca hh_35) cb hh_38) cb := by rw [tI_up, tI_up]; exact of_decide_eq_false c_40
            have hrz := hrg ca hca
            rw [← HullG_k]; exact hull3G (far := 200) (yl := tI (upd f ca lo_35)) (yh := tI (upd g ca hh_35)) (wl := tI (upd (upd f ca lo_35) cb lo_38)) (wh := tI (upd (upd g ca hh_35) cb hh_38)) (c1 := ch_35) (c2 := ch_38) hca hcb hcd hne (by omega) hE (tI_cut hlo_35 hhh_35) hch_35 (fun _ => ⟨tI_cut hlo_38 hhh_38, hch_38⟩) (fun _ h => absurd h g1) ⟨fun h => absurd h (by decide), fun h => absurd h.2.1 g1⟩
          · have hc_40 := of_decide_eq_true c_40
            refine lv_aload_n hx hb d_Three_narrow_251 rfl (lv_at hl 1 rfl) ?_
            refine lv_aload_n hx hb d_Three_narrow_252 rfl (lv_at hl 0 rfl) ?_
            refine w_gf hx hb hK i_If hown hP hN hx_38_39 rfl 2 (by decide) t_513 rfl rfl d_Three_narrow_253 ?_
            refine lv_aload_n hx hb d_Three_narrow_256 rfl (lv_at hl 0 rfl) ?_
            refine w_gf hx hb hK i_If hown hP hN hx_38_39 rfl 7 (by decide) t_518 rfl rfl d_Three_narrow_257 ?_
            refine lv_aload_n hx hb d_Three_narrow_260 rfl (lv_at hl 0 rfl) ?_
            refine w_gf hx hb hK i_If hown hP hN hx_38_39 rfl 8 (by decide) t_519 rfl rfl d_Three_narrow_261 ?_
            refine x_V (As := [.int xc, .int (e1 4), .int (e1 5)]) (rest := []) hx hb hml hown hK (k_Box_cut l D cA adr N hi cn_38 b (upd (upd f ca lo_35) cb lo_38) (upd (upd g ca hh_35) cb hh_38) ch_38 ⟨hB_38.1, hB_38.2.1, hB_38.2.2⟩ hMb cd xc (e1 4) (e1 5) hxc (by omega)) t_176 t_2 t_282 t_174 t_175 yk_Box_cut ⟨Nat.le_of_ble_eq_true rfl, Nat.le_of_ble_eq_true rfl⟩ (w_rec hK hP hMb.1 hB_38.1 rfl) hP rfl hl.1 rfl (Nat.le_of_ble_eq_true rfl) d_Three_narrow_264 ⟨Nat.le_of_ble_eq_true rfl, Nat.le_of_ble_eq_true rfl⟩ hS (fun q h => h) (fun r H locs hq _ hS => ?_)
            obtain ⟨cn_41, lo_41, hh_41, hlo_41, hhh_41, rfl, hFb_41, hB_41, hP⟩ := hq
            obtain ⟨ch_41, hch_41⟩ : ∃ q : Bool, q = (ch_38 || decide (((upd (upd f ca lo_35) cb lo_38) cd).toInt < (e1 4).toInt ∨ (e1 5).toInt < ((upd (upd g ca hh_35) cb hh_38) cd).toInt)) := ⟨_, rfl⟩
            rw [← hch_41] at hB_41
            have hx_41_42 : cn_41 t = .inr (12, [.int xa, .int xb, .int xc, .int (e1 0), .int (e1 1), .int (e1 2), .int (e1 3), .int (e1 4), .int (e1 5), .int (bi gd)]) := (hFb_41 t (by omega) (by omega) (by omega)).trans hx_38_39
            have hfr_41 : FrTB t b cn cn_41 := hfr_38.tr (FrTB.b hFb_41)
            refine W.eq (g2 := F0 m 267 ls [.int (bi (decide (lo_41.toInt ≤ hh_41.toInt)))]) rfl ?_
            refine b_bool_eq (tgt := 274) hx hb d_Three_narrow_267 (by decide) (fun c_43 => ?_) (fun c_43 => ?_)
            · have hc_43 := of_decide_eq_false c_43
              refine lv_iconst (v := 0) hx hb d_Three_narrow_274 (by decide) ?_
              refine W.eq (g2 := F0 m 275 ls [.int (bi false)]) rfl ?_
              refine e_z hx hb hr hlk hQ hS d_Three_narrow_275 ?_
              refine ⟨cn_41, (upd (upd (upd f ca lo_35) cb lo_38) cd lo_41), (upd (upd (upd g ca hh_35) cb hh_38) cd hh_41), e1, false, ch_41, rfl, hfr_41, hx_41_42, ⟨hB_41.1, hB_41.2.1, hB_41.2.2⟩, ?_, hP⟩
              have hE : Ends (SolG (R3 6) ca cb cd (tI f) (tI g)) 200 (e1 0).toInt (e1 1).toInt (e1 2).toInt (e1 3).toInt (e1 4).toInt (e1 5).toInt := hE1.congr (fun x y z => ⟨fun h => h.1, fun h => ⟨h, by have h1 := h.1; unfold tI at h1; omega⟩⟩)
              have g0 : tI (upd f ca lo_35) ca ≤ tI (upd g ca hh_35) ca := by rw [tI_up, tI_up]; exact of_decide_eq_true c_37
              have g1 : tI (upd (upd f ca lo_35) cb lo_38) cb ≤ tI (upd (upd g ca hh_35) cb hh_38) cb := by rw [tI_up, tI_up]; exact of_decide_eq_true c_40
              have g2 : ¬ tI (upd (upd (upd f ca lo_35) cb lo_38) cd lo_41) cd ≤ tI (upd (upd (upd g ca hh_35) cb hh_38) cd hh_41) cd := by rw [tI_up, tI_up]; exact of_decide_eq_false c_43
              have hrz := hrg ca hca
              rw [← HullG_k]; exact hull3G (far := 200) (yl := tI (upd f ca lo_35)) (yh := tI (upd g ca hh_35)) (wl := tI (upd (upd f ca lo_35) cb lo_38)) (wh := tI (upd (upd g ca hh_35) cb hh_38)) (c1 := ch_35) (c2 := ch_38) hca hcb hcd hne (by omega) hE (tI_cut hlo_35 hhh_35) hch_35 (fun _ => ⟨tI_cut hlo_38 hhh_38, hch_38⟩) (fun _ _ => ⟨tI_cut hlo_41 hhh_41, hch_41⟩) ⟨fun h => absurd h (by decide), fun h => absurd h.2.2 g2⟩
            · have hc_43 := of_decide_eq_true c_43
              refine lv_iconst (v := 1) hx hb d_Three_narrow_270 (by decide) ?_
              refine lv_goto (tgt := 275) hx hb d_Three_narrow_271 (by decide) ?_
              refine W.eq (g2 := F0 m 275 ls [.int (bi true)]) rfl ?_
              refine e_z hx hb hr hlk hQ hS d_Three_narrow_275 ?_
              refine ⟨cn_41, (upd (upd (upd f ca lo_35) cb lo_38) cd lo_41), (upd (upd (upd g ca hh_35) cb hh_38) cd hh_41), e1, true, ch_41, rfl, hfr_41, hx_41_42, ⟨hB_41.1, hB_41.2.1, hB_41.2.2⟩, ?_, hP⟩
              have hE : Ends (SolG (R3 6) ca cb cd (tI f) (tI g)) 200 (e1 0).toInt (e1 1).toInt (e1 2).toInt (e1 3).toInt (e1 4).toInt (e1 5).toInt := hE1.congr (fun x y z => ⟨fun h => h.1, fun h => ⟨h, by have h1 := h.1; unfold tI at h1; omega⟩⟩)
              have g0 : tI (upd f ca lo_35) ca ≤ tI (upd g ca hh_35) ca := by rw [tI_up, tI_up]; exact of_decide_eq_true c_37
              have g1 : tI (upd (upd f ca lo_35) cb lo_38) cb ≤ tI (upd (upd g ca hh_35) cb hh_38) cb := by rw [tI_up, tI_up]; exact of_decide_eq_true c_40
              have g2 : tI (upd (upd (upd f ca lo_35) cb lo_38) cd lo_41) cd ≤ tI (upd (upd (upd g ca hh_35) cb hh_38) cd hh_41) cd := by rw [tI_up, tI_up]; exact of_decide_eq_true c_43
              have hrz := hrg ca hca
              rw [← HullG_k]; exact hull3G (far := 200) (yl := tI (upd f ca lo_35)) (yh := tI (upd g ca hh_35)) (wl := tI (upd (upd f ca lo_35) cb lo_38)) (wh := tI (upd (upd g ca hh_35) cb hh_38)) (c1 := ch_35) (c2 := ch_38) hca hcb hcd hne (by omega) hE (tI_cut hlo_35 hhh_35) hch_35 (fun _ => ⟨tI_cut hlo_38 hhh_38, hch_38⟩) (fun _ _ => ⟨tI_cut hlo_41 hhh_41, hch_41⟩) ⟨fun _ => ⟨g0, g1, g2⟩, fun _ => rfl⟩
      · refine lv_aload_n hx hb d_Three_narrow_65 rfl (lv_at hl 0 rfl) ?_
        refine w_gf hx hb hK i_If hown hP hN hT1 rfl 1 (by decide) t_512 rfl rfl d_Three_narrow_66 ?_
        refine lv_aload_n hx hb d_Three_narrow_69 rfl (lv_at hl 0 rfl) ?_
        refine w_gf hx hb hK i_If hown hP hN hT1 rfl 0 (by decide) t_511 rfl rfl d_Three_narrow_70 ?_
        have K_244 : ∀ (z_244_0 : Int32), z_244_0.toInt = (if ¬ (cb : Int) = (ca : Int) then (f cb).toInt else x2.toInt) → W p l e (rl 6) s m args below meth c H locs 0 0 Q (F0 m 89 ls [.int z_244_0]) := by
          intro z_244_0 hz_244_0
          refine lv_istore_n (lv' := [(3, .int z_244_0), (0, .ref (adr t)), (1, .ref (adr b)), (2, .int x2)]) hx hb d_Three_narrow_89 rfl hl (by decide) rfl (fun ls hl => ?_)
          refine lv_aload_n hx hb d_Three_narrow_90 rfl (lv_at hl 1 rfl) ?_
          refine w_gf hx hb hK i_If hown hP hN hT1 rfl 1 (by decide) t_512 rfl rfl d_Three_narrow_91 ?_
          refine lv_aload_n hx hb d_Three_narrow_94 rfl (lv_at hl 1 rfl) ?_
          refine w_gf hx hb hK i_If hown hP hN hT1 rfl 0 (by decide) t_511 rfl rfl d_Three_narrow_95 ?_
          have K_445 : ∀ (z_445_0 : Int32), z_445_0.toInt = (if ¬ (cb : Int) = (ca : Int) then (g cb).toInt else x2.toInt) → W p l e (rl 6) s m args below meth c H locs 0 0 Q (F0 m 114 ls [.int z_445_0]) := by
            intro z_445_0 hz_445_0
            refine lv_istore (lv' := [(4, .int z_445_0), (3, .int z_244_0), (0, .ref (adr t)), (1, .ref (adr b)), (2, .int x2)]) hx hb d_Three_narrow_114 hl (by decide) rfl (fun ls hl => ?_)
            refine lv_aload_n hx hb d_Three_narrow_116 rfl (lv_at hl 2 rfl) ?_
            refine w_gf hx hb hK i_If hown hP hN hT1 rfl 2 (by decide) t_513 rfl rfl d_Three_narrow_117 ?_
            refine lv_aload_n hx hb d_Three_narrow_120 rfl (lv_at hl 2 rfl) ?_
            refine w_gf hx hb hK i_If hown hP hN hT1 rfl 0 (by decide) t_511 rfl rfl d_Three_narrow_121 ?_
            have K_646 : ∀ (z_646_0 : Int32), z_646_0.toInt = (if ¬ (cd : Int) = (ca : Int) then (f cd).toInt else x2.toInt) → W p l e (rl 6) s m args below meth c H locs 0 0 Q (F0 m 140 ls [.int z_646_0]) := by
              intro z_646_0 hz_646_0
              refine lv_istore (lv' := [(5, .int z_646_0), (4, .int z_445_0), (3, .int z_244_0), (0, .ref (adr t)), (1, .ref (adr b)), (2, .int x2)]) hx hb d_Three_narrow_140 hl (by decide) rfl (fun ls hl => ?_)
              refine lv_aload_n hx hb d_Three_narrow_142 rfl (lv_at hl 3 rfl) ?_
              refine w_gf hx hb hK i_If hown hP hN hT1 rfl 2 (by decide) t_513 rfl rfl d_Three_narrow_143 ?_
              refine lv_aload_n hx hb d_Three_narrow_146 rfl (lv_at hl 3 rfl) ?_
              refine w_gf hx hb hK i_If hown hP hN hT1 rfl 0 (by decide) t_511 rfl rfl d_Three_narrow_147 ?_
              have K_847 : ∀ (z_847_0 : Int32), z_847_0.toInt = (if ¬ (cd : Int) = (ca : Int) then (g cd).toInt else x2.toInt) → W p l e (rl 6) s m args below meth c H locs 0 0 Q (F0 m 166 ls [.int z_847_0]) := by
                intro z_847_0 hz_847_0
                refine lv_istore (lv' := [(6, .int z_847_0), (5, .int z_646_0), (4, .int z_445_0), (3, .int z_244_0), (0, .ref (adr t)), (1, .ref (adr b)), (2, .int x2)]) hx hb d_Three_narrow_166 hl (by decide) rfl (fun ls hl => ?_)
                refine lv_aload_n hx hb d_Three_narrow_168 rfl (lv_at hl 4 rfl) ?_
                refine lv_iload_n hx hb d_Three_narrow_169 rfl (lv_at hl 6 rfl) ?_
                refine lv_iload_n hx hb d_Three_narrow_170 rfl (lv_at hl 3 rfl) ?_
                refine lv_iload hx hb d_Three_narrow_171 (lv_at hl 2 rfl) ?_
                refine lv_iload hx hb d_Three_narrow_173 (lv_at hl 1 rfl) ?_
                refine lv_iload hx hb d_Three_narrow_175 (lv_at hl 0 rfl) ?_
                refine lv_aload_n hx hb d_Three_narrow_177 rfl (lv_at hl 4 rfl) ?_
                refine w_gf hx hb hK i_If hown hP hN hT1 rfl 1 (by decide) t_512 rfl rfl d_Three_narrow_178 ?_
                refine lv_aload_n hx hb d_Three_narrow_181 rfl (lv_at hl 4 rfl) ?_
                refine w_gf hx hb hK i_If hown hP hN hT1 rfl 2 (by decide) t_513 rfl rfl d_Three_narrow_182 ?_
                have K_1048 : ∀ (b_1048_0 : Bool), (b_1048_0 = true ↔ ((cb : Int) = (cd : Int) ∧ ¬ (cb : Int) = (ca : Int))) → W p l e (rl 6) s m args below meth c H locs 0 0 Q (F0 m 204 ls [.int (bi b_1048_0), .int z_847_0, .int z_646_0, .int z_445_0, .int z_244_0, .int x2, .ref (adr t)]) := by
                  intro b_1048_0 hb_1048_0
                  have hsp9 := th_sp (R := (R3 6)) (a := ca) (b := cb) (c := cd) (bl := tI f) (bh := tI g) (x := x2.toInt) (by unfold tI; omega) hz_244_0 hz_445_0 hz_646_0 hz_847_0 hb_1048_0
                  have hr3 : -100 ≤ z_244_0.toInt ∧ z_244_0.toInt ≤ z_445_0.toInt ∧ z_445_0.toInt ≤ 100 := by rw [hz_244_0, hz_445_0]; split <;> omega
                  have hr4 : -100 ≤ z_646_0.toInt ∧ z_646_0.toInt ≤ z_847_0.toInt ∧ z_847_0.toInt ≤ 100 := by rw [hz_646_0, hz_847_0]; split <;> omega
                  have htw9 : b_1048_0 = true → z_244_0.toInt = z_646_0.toInt ∧ z_445_0.toInt = z_847_0.toInt := fun h => by have q := hb_1048_0.mp h; have e9 : cb = cd := (by omega); rw [hz_244_0, hz_445_0, hz_646_0, hz_847_0, if_pos q.2, if_pos q.2, if_pos (by omega), if_pos (by omega), e9]; exact ⟨rfl, rfl⟩
                  refine x_A (As := [.int x2, .int z_244_0, .int z_445_0, .int z_646_0, .int z_847_0, .int (bi b_1048_0)]) (rest := []) hx hb hml hown hK (k_If_span l D cA adr N hi cn1 t xa xb xc e1 gd hT1 hN x2 z_244_0 z_445_0 z_646_0 z_847_0 b_1048_0 (by omega) (by omega) (by omega) htw9) t_236 t_18 t_218 t_220 t_219 t_234 t_235 ⟨by decide, by decide, yk_If_span.2.2⟩ ⟨Nat.le_of_ble_eq_true rfl, Nat.le_of_ble_eq_true rfl⟩ (w_rec hK hP hN hT1 rfl) hP rfl hl.1 rfl (Nat.le_of_ble_eq_true rfl) d_Three_narrow_204 ⟨Nat.le_of_ble_eq_true rfl, Nat.le_of_ble_eq_true rfl⟩ hS (fun q h => h) (fun r H locs hq _ hS => ?_)
                  obtain ⟨cn_1049, e_1049, rfl, hFt_1049, hT_1049, hSp_1049, hP⟩ := hq
                  have hx_1049_1050 : cn_1049 b = .inr (2, [.ref (adr (b + 1)), .ref (adr (b + 2)), .int (bi ch)]) := (hFt_1049 b (by omega)).trans hB1.1
                  have hx_1049_1051 : cn_1049 (b + 1) = .inl (cA 0, 10, .inl f) := (hFt_1049 (b + 1) (by omega)).trans hB1.2.1
                  have hx_1049_1052 : cn_1049 (b + 2) = .inl (cA 0, 10, .inl g) := (hFt_1049 (b + 2) (by omega)).trans hB1.2.2
                  refine W.eq (g2 := F0 m 207 ls []) rfl ?_
                  refine x_iinc (k := 6) (lv' := fun v_ => [(2, .int v_), (6, .int z_847_0), (5, .int z_646_0), (4, .int z_445_0), (3, .int z_244_0), (0, .ref (adr t)), (1, .ref (adr b))]) hx hb d_Three_narrow_207 hl rfl rfl (by decide) (by omega) (by decide) (fun v_ => rfl) (fun z_1053 tz_1053 ls hl => ?_)
                  refine lv_goto (tgt := 52) hx hb d_Three_narrow_210 (by decide) ?_
                  have hE9 := th_step hsp9 (hSp_1049 _ hE1)
                  rw [← tz_1053] at hE9
                  exact ih_32 z_1053 cn_1049 e_1049 _ _ _ (by omega) (by omega) (hF1.tr (FrTB.t hFt_1049)) hT_1049 ⟨hx_1049_1050, hx_1049_1051, hx_1049_1052⟩ hE9 hP hS (lv_sub hl [5, 6, 0] rfl)
                refine b_icmp_ne (tgt := 203) hx hb d_Three_narrow_185 (by decide) hxb hxc (fun c_1054 => ?_) (fun c_1054 => ?_)
                · refine lv_iconst (v := 0) hx hb d_Three_narrow_203 (by decide) ?_
                  exact K_1048 false ⟨fun h => absurd h (by decide), fun h => absurd h (by omega)⟩
                · refine lv_aload_n hx hb d_Three_narrow_188 rfl (lv_at hl 4 rfl) ?_
                  refine w_gf hx hb hK i_If hown hP hN hT1 rfl 1 (by decide) t_512 rfl rfl d_Three_narrow_189 ?_
                  refine lv_aload_n hx hb d_Three_narrow_192 rfl (lv_at hl 4 rfl) ?_
                  refine w_gf hx hb hK i_If hown hP hN hT1 rfl 0 (by decide) t_511 rfl rfl d_Three_narrow_193 ?_
                  refine b_icmp_eq (tgt := 203) hx hb d_Three_narrow_196 (by decide) hxb hxa (fun c_1055 => ?_) (fun c_1055 => ?_)
                  · refine lv_iconst (v := 0) hx hb d_Three_narrow_203 (by decide) ?_
                    exact K_1048 false ⟨fun h => absurd h (by decide), fun h => absurd h (by omega)⟩
                  · refine lv_iconst (v := 1) hx hb d_Three_narrow_199 (by decide) ?_
                    refine lv_goto (tgt := 204) hx hb d_Three_narrow_200 (by decide) ?_
                    exact K_1048 true ⟨fun _ => by omega, fun _ => rfl⟩
              refine b_icmp_ne (tgt := 157) hx hb d_Three_narrow_150 (by decide) hxc hxa (fun c_1056 => ?_) (fun c_1056 => ?_)
              · refine lv_aload_n hx hb d_Three_narrow_157 rfl (lv_at hl 4 rfl) ?_
                refine w_gfN hx hb hK i_Box hown hP hMb.1 hB1.1 rfl 1 (by decide) t_47 rfl rfl d_Three_narrow_158 ?_
                refine lv_aload_n hx hb d_Three_narrow_161 rfl (lv_at hl 3 rfl) ?_
                refine w_gf hx hb hK i_If hown hP hN hT1 rfl 2 (by decide) t_513 rfl rfl d_Three_narrow_162 ?_
                refine w_ld hx hb hK hP hMb.2.2 hB1.2.2 (cd) hxc (by omega) (show cd < 10 by omega) d_Three_narrow_165 (fun z_1057 ez_1057 => ?_)
                subst ez_1057
                exact K_847 (g cd) (by omega)
              · refine lv_iload_n hx hb d_Three_narrow_153 rfl (lv_at hl 5 rfl) ?_
                refine lv_goto (tgt := 166) hx hb d_Three_narrow_154 (by decide) ?_
                exact K_847 x2 (by omega)
            refine b_icmp_ne (tgt := 131) hx hb d_Three_narrow_124 (by decide) hxc hxa (fun c_1058 => ?_) (fun c_1058 => ?_)
            · refine lv_aload_n hx hb d_Three_narrow_131 rfl (lv_at hl 3 rfl) ?_
              refine w_gfN hx hb hK i_Box hown hP hMb.1 hB1.1 rfl 0 (by decide) t_41 rfl rfl d_Three_narrow_132 ?_
              refine lv_aload_n hx hb d_Three_narrow_135 rfl (lv_at hl 2 rfl) ?_
              refine w_gf hx hb hK i_If hown hP hN hT1 rfl 2 (by decide) t_513 rfl rfl d_Three_narrow_136 ?_
              refine w_ld hx hb hK hP hMb.2.1 hB1.2.1 (cd) hxc (by omega) (show cd < 10 by omega) d_Three_narrow_139 (fun z_1059 ez_1059 => ?_)
              subst ez_1059
              exact K_646 (f cd) (by omega)
            · refine lv_iload_n hx hb d_Three_narrow_127 rfl (lv_at hl 4 rfl) ?_
              refine lv_goto (tgt := 140) hx hb d_Three_narrow_128 (by decide) ?_
              exact K_646 x2 (by omega)
          refine b_icmp_ne (tgt := 105) hx hb d_Three_narrow_98 (by decide) hxb hxa (fun c_1060 => ?_) (fun c_1060 => ?_)
          · refine lv_aload_n hx hb d_Three_narrow_105 rfl (lv_at hl 2 rfl) ?_
            refine w_gfN hx hb hK i_Box hown hP hMb.1 hB1.1 rfl 1 (by decide) t_47 rfl rfl d_Three_narrow_106 ?_
            refine lv_aload_n hx hb d_Three_narrow_109 rfl (lv_at hl 1 rfl) ?_
            refine w_gf hx hb hK i_If hown hP hN hT1 rfl 1 (by decide) t_512 rfl rfl d_Three_narrow_110 ?_
            refine w_ld hx hb hK hP hMb.2.2 hB1.2.2 (cb) hxb (by omega) (show cb < 10 by omega) d_Three_narrow_113 (fun z_1061 ez_1061 => ?_)
            subst ez_1061
            exact K_445 (g cb) (by omega)
          · refine lv_iload_n hx hb d_Three_narrow_101 rfl (lv_at hl 3 rfl) ?_
            refine lv_goto (tgt := 114) hx hb d_Three_narrow_102 (by decide) ?_
            exact K_445 x2 (by omega)
        refine b_icmp_ne (tgt := 80) hx hb d_Three_narrow_73 (by decide) hxb hxa (fun c_1062 => ?_) (fun c_1062 => ?_)
        · refine lv_aload_n hx hb d_Three_narrow_80 rfl (lv_at hl 1 rfl) ?_
          refine w_gfN hx hb hK i_Box hown hP hMb.1 hB1.1 rfl 0 (by decide) t_41 rfl rfl d_Three_narrow_81 ?_
          refine lv_aload_n hx hb d_Three_narrow_84 rfl (lv_at hl 0 rfl) ?_
          refine w_gf hx hb hK i_If hown hP hN hT1 rfl 1 (by decide) t_512 rfl rfl d_Three_narrow_85 ?_
          refine w_ld hx hb hK hP hMb.2.1 hB1.2.1 (cb) hxb (by omega) (show cb < 10 by omega) d_Three_narrow_88 (fun z_1063 ez_1063 => ?_)
          subst ez_1063
          exact K_244 (f cb) (by omega)
        · refine lv_iload_n hx hb d_Three_narrow_76 rfl (lv_at hl 2 rfl) ?_
          refine lv_goto (tgt := 89) hx hb d_Three_narrow_77 (by decide) ?_
          exact K_244 x2 (by omega)
  obtain ⟨ez, hez⟩ : ∃ q : Nat → Int32, q = (fun k => match k with | 0 => (200 : Int32) | 1 => (-200 : Int32) | 2 => (200 : Int32) | 3 => (-200 : Int32) | 4 => (200 : Int32) | _ => (-200 : Int32)) := ⟨_, rfl⟩
  exact L_32 (_ + 1) (f ca) cn_26 ez _ _ _ (Nat.lt_succ_self _) (by omega) (show FrTB t b cn cn_26 from fun k a0 a1 a2 a3 => hfr_26 k a0 a1 a2 a3) (by rw [hez]; exact ho_26_30) ⟨ho_26_27, ho_26_28, ho_26_29⟩ (by rw [hez]; show Ends _ 200 (200 : Int32).toInt (-200 : Int32).toInt (200 : Int32).toInt (-200 : Int32).toInt (200 : Int32).toInt (-200 : Int32).toInt; rw [kc_200, kc_m200]; exact Ends.none (fun x y z h => by have h1 := h.1.1; have h2 := h.2; unfold tI at h1; omega)) hP hS (lv_sub hl [1, 2, 0] rfl)
