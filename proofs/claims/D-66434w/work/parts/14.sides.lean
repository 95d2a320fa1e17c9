/-- the ends of a set of numbers -/
def E1 (S : Int → Prop) (far la ha : Int) : Prop := ((∀ x, ¬ S x) ∧ la = far ∧ ha = -far) ∨ (S la ∧ S ha ∧ ∀ x, S x → la ≤ x ∧ x ≤ ha)
theorem E1.add {S : Int → Prop} {far la ha x0 : Int} (h : E1 (fun x => S x ∧ x < x0) far la ha) (hs : S x0) (hr : -far ≤ x0 ∧ x0 ≤ far) : E1 (fun x => S x ∧ x < x0 + 1) far (min la x0) x0 := by
  right
  rcases h with ⟨h1, h2, h3⟩ | ⟨h1, h2, h3⟩
  · refine ⟨?_, ⟨hs, by omega⟩, fun x hx => ?_⟩
    · rw [show min la x0 = x0 by omega]; exact ⟨hs, by omega⟩
    · have := h1 x
      by_cases e : x < x0
      · exact absurd ⟨hx.1, e⟩ this
      · omega
  · refine ⟨?_, ⟨hs, by omega⟩, fun x hx => ?_⟩
    · rw [show min la x0 = la by omega]; exact ⟨h1.1, by omega⟩
    · by_cases e : x < x0
      · have := h3 x ⟨hx.1, e⟩
        omega
      · omega
theorem E1.skip {S : Int → Prop} {far la ha x0 : Int} (h : E1 (fun x => S x ∧ x < x0) far la ha) (hs : ¬ S x0) : E1 (fun x => S x ∧ x < x0 + 1) far la ha := by
  have e : (fun x => S x ∧ x < x0) = (fun x => S x ∧ x < x0 + 1) := by
    funext x
    apply propext
    constructor
    · rintro ⟨a, b⟩; exact ⟨a, by omega⟩
    · rintro ⟨a, b⟩
      refine ⟨a, ?_⟩
      rcases (by omega : x < x0 ∨ x = x0) with q | q
      · exact q
      · rw [q] at a; exact absurd a hs
  rw [← e]; exact h
theorem E1.congr {S T : Int → Prop} {far la ha : Int} (h : E1 S far la ha) (e : ∀ x, S x ↔ T x) : E1 T far la ha := by
  have : S = T := by funext x; exact propext (e x)
  rw [← this]; exact h
def canE (less : Bool) (x f t fc tc : Int) : Bool := if less then cbl x f t fc tc else cbg x f t fc tc
theorem canE_iff {q less : Bool} {x f t fc tc : Int} (h : q = true ↔ ((less = false ∧ cbg x f t fc tc = true) ∨ (less = true ∧ cbl x f t fc tc = true))) : q = canE less x f t fc tc := by
  unfold canE
  cases less
  · simp at h; rw [if_neg (by decide)]; first | exact h | (rw [Bool.eq_iff_iff]; exact h)
  · simp at h; rw [if_pos rfl]; first | exact h | (rw [Bool.eq_iff_iff]; exact h)
/-- x can be one of the two cells of which the third is the lesser (greater) -/
theorem canE_sol {less : Bool} {x f t fc tc : Int} (hft : f ≤ t) : canE less x f t fc tc = true ↔ ∃ y z, f ≤ y ∧ y ≤ t ∧ fc ≤ z ∧ z ≤ tc ∧ (if less then min x y else max x y) = z := by
  cases less
  · simp only [canE, Bool.false_eq_true, if_false, cbg, decide_eq_true_eq]
    constructor
    · rintro (h | h)
      · exact ⟨f, x, by omega, by omega, by omega, by omega, by omega⟩
      · exact ⟨max (max f fc) (x + 1), max (max f fc) (x + 1), by omega, by omega, by omega, by omega, by omega⟩
    · rintro ⟨y, z, h1, h2, h3, h4, h5⟩
      omega
  · simp only [canE, if_true, cbl, decide_eq_true_eq]
    constructor
    · rintro (h | h)
      · exact ⟨max x f, x, by omega, by omega, by omega, by omega, by omega⟩
      · exact ⟨max f fc, max f fc, by omega, by omega, by omega, by omega, by omega⟩
    · rintro ⟨y, z, h1, h2, h3, h4, h5⟩
      omega
/-- the three cuts of the lesser (greater): third cell, first, second -/
def kE (less : Bool) : Nat := if less then 3 else 4
theorem R3_kE {less : Bool} {x y z : Int} : R3 (kE less) x y z ↔ (if less then min x y else max x y) = z := by cases less <;> simp [kE, R3]
theorem ext_just {less : Bool} {a b c n : Nat} {xl xh bl bh : Nat → Int} (ha : a < n) (hb : b < n) (hc : c < n) (hn : Ne n xl xh) (hs : Sb n bl bh xl xh) (h : Hull (kE less) a b c bl bh) (hab : a ≠ b) (hac : a ≠ c) (hbc : b ≠ c) :
    (∀ z, (z = bl c ∨ z = bh c) → (max (if less then min (xl a) (xl b) else max (xl a) (xl b)) (xl c) ≤ z ∧ z ≤ min (if less then min (xh a) (xh b) else max (xh a) (xh b)) (xh c)) ∧ ((xl a ≤ z ∧ z ≤ xh a) ∨ (xl b ≤ z ∧ z ≤ xh b))) ∧
    (∀ x, (x = bl a ∨ x = bh a) → (xl a ≤ x ∧ x ≤ xh a) ∧ canE less x (xl b) (xh b) (xl c) (xh c) = true) ∧ (∀ x, (x = bl b ∨ x = bh b) → (xl b ≤ x ∧ x ≤ xh b) ∧ canE less x (xl a) (xh a) (xl c) (xh c) = true) := by
  obtain ⟨⟨y1, z1, s1⟩, ⟨y2, z2, s2⟩, ⟨x3, z3, s3⟩, ⟨x4, z4, s4⟩, ⟨x5, y5, s5⟩, ⟨x6, y6, s6⟩⟩ := h
  have t1 := s1.mono hs ha hb hc
  have t2 := s2.mono hs ha hb hc
  have t3 := s3.mono hs ha hb hc
  have t4 := s4.mono hs ha hb hc
  have t5 := s5.mono hs ha hb hc
  have t6 := s6.mono hs ha hb hc
  obtain ⟨q11, q12, q13, -, -, -, r1⟩ := t1
  obtain ⟨q21, q22, q23, -, -, -, r2⟩ := t2
  obtain ⟨q31, q32, q33, -, -, -, r3⟩ := t3
  obtain ⟨q41, q42, q43, -, -, -, r4⟩ := t4
  obtain ⟨q51, q52, q53, -, -, -, r5⟩ := t5
  obtain ⟨q61, q62, q63, -, -, -, r6⟩ := t6
  rw [R3_kE] at r1 r2 r3 r4 r5 r6
  have nb := hn b hb
  have na := hn a ha
  refine ⟨fun z hz => ?_, fun x hx => ?_, fun x hx => ?_⟩
  · rcases hz with rfl | rfl
    · cases less
      · simp only [Bool.false_eq_true, if_false] at r5 ⊢; omega
      · simp only [if_true] at r5 ⊢; omega
    · cases less
      · simp only [Bool.false_eq_true, if_false] at r6 ⊢; omega
      · simp only [if_true] at r6 ⊢; omega
  · rcases hx with rfl | rfl
    · exact ⟨q11, (canE_sol nb).mpr ⟨y1, z1, q12.1, q12.2, q13.1, q13.2, r1⟩⟩
    · exact ⟨q21, (canE_sol nb).mpr ⟨y2, z2, q22.1, q22.2, q23.1, q23.2, r2⟩⟩
  · rcases hx with rfl | rfl
    · exact ⟨q32, (canE_sol na).mpr ⟨x3, z3, q31.1, q31.2, q33.1, q33.2, by cases less <;> simp at r3 ⊢ <;> omega⟩⟩
    · exact ⟨q42, (canE_sol na).mpr ⟨x4, z4, q41.1, q41.2, q43.1, q43.2, by cases less <;> simp at r4 ⊢ <;> omega⟩⟩
theorem E1.just {S : Int → Prop} {far la ha p q : Int} (h : E1 S far la ha) (hp : S p) (hq : S q) : la ≤ p ∧ q ≤ ha := by
  rcases h with ⟨h1, -⟩ | ⟨-, -, h3⟩
  · exact absurd hp (h1 p)
  · exact ⟨(h3 p hp).1, (h3 q hq).2⟩
theorem E1.tight {S : Int → Prop} {far la ha p q : Int} (h : E1 S far la ha) (hS : ∀ x, S x → p ≤ x ∧ x ≤ q) (hpq : p ≤ q) (hf : -far < p ∧ q < far) (h1 : la ≤ p ∧ q ≤ ha) : S p ∧ S q := by
  rcases h with ⟨-, e1, e2⟩ | ⟨s1, s2, -⟩
  · omega
  · have a1 := hS _ s1
    have a2 := hS _ s2
    rw [show la = p by omega] at s1
    rw [show ha = q by omega] at s2
    exact ⟨s1, s2⟩
theorem ext_fin {less : Bool} {a b c : Nat} {xl xh : Nat → Int} (hab : a ≠ b) (hac : a ≠ c) (hbc : b ≠ c) (na : xl a ≤ xh a) (nb : xl b ≤ xh b) (nc : xl c ≤ xh c)
    (h1 : ∀ z, (z = xl c ∨ z = xh c) → (max (if less then min (xl a) (xl b) else max (xl a) (xl b)) (xl c) ≤ z ∧ z ≤ min (if less then min (xh a) (xh b) else max (xh a) (xh b)) (xh c)) ∧ ((xl a ≤ z ∧ z ≤ xh a) ∨ (xl b ≤ z ∧ z ≤ xh b)))
    (h2 : ∀ x, (x = xl a ∨ x = xh a) → canE less x (xl b) (xh b) (xl c) (xh c) = true) (h3 : ∀ x, (x = xl b ∨ x = xh b) → canE less x (xl a) (xh a) (xl c) (xh c) = true) : Hull (kE less) a b c xl xh := by
  have mk : ∀ x y z, xl a ≤ x ∧ x ≤ xh a → xl b ≤ y ∧ y ≤ xh b → xl c ≤ z ∧ z ≤ xh c → (if less then min x y else max x y) = z → Sol (kE less) a b c xl xh x y z := fun x y z q1 q2 q3 q4 => ⟨q1, q2, q3, fun h => absurd h hab, fun h => absurd h hac, fun h => absurd h hbc, R3_kE.mpr q4⟩
  have A : ∀ x, (x = xl a ∨ x = xh a) → ∃ y z, Sol (kE less) a b c xl xh x y z := by
    intro x hx
    obtain ⟨y, z, q1, q2, q3, q4, q5⟩ := (canE_sol nb).mp (h2 x hx)
    exact ⟨y, z, mk x y z (by omega) ⟨q1, q2⟩ ⟨q3, q4⟩ q5⟩
  have B : ∀ y, (y = xl b ∨ y = xh b) → ∃ x z, Sol (kE less) a b c xl xh x y z := by
    intro y hy
    obtain ⟨x, z, q1, q2, q3, q4, q5⟩ := (canE_sol na).mp (h3 y hy)
    exact ⟨x, z, mk x y z ⟨q1, q2⟩ (by omega) ⟨q3, q4⟩ (by cases less <;> simp at q5 ⊢ <;> omega)⟩
  have C : ∀ z, (z = xl c ∨ z = xh c) → ∃ x y, Sol (kE less) a b c xl xh x y z := by
    intro z hz
    obtain ⟨q1, q2⟩ := h1 z hz
    cases less
    · simp only [Bool.false_eq_true, if_false] at q1 mk
      rcases q2 with q2 | q2
      · exact ⟨z, min z (xh b), mk _ _ _ (by omega) (by omega) (by omega) (by omega)⟩
      · exact ⟨min z (xh a), z, mk _ _ _ (by omega) (by omega) (by omega) (by omega)⟩
    · simp only [if_true] at q1 mk
      rcases q2 with q2 | q2
      · exact ⟨z, max z (xl b), mk _ _ _ (by omega) (by omega) (by omega) (by omega)⟩
      · exact ⟨max z (xl a), z, mk _ _ _ (by omega) (by omega) (by omega) (by omega)⟩
  exact ⟨A _ (Or.inl rfl), A _ (Or.inr rfl), B _ (Or.inl rfl), B _ (Or.inr rfl), C _ (Or.inl rfl), C _ (Or.inr rfl)⟩
theorem d_Mod_extremeSide_0 : decode b_Mod_extremeSide 0 = .ok (.bipush 10, 2) := by decide +kernel
theorem d_Mod_extremeSide_2 : decode b_Mod_extremeSide 2 = .ok (.iload_n 1, 1) := by decide +kernel
theorem d_Mod_extremeSide_3 : decode b_Mod_extremeSide 3 = .ok (.imul, 1) := by decide +kernel
theorem d_Mod_extremeSide_4 : decode b_Mod_extremeSide 4 = .ok (.istore 6, 2) := by decide +kernel
theorem d_Mod_extremeSide_6 : decode b_Mod_extremeSide 6 = .ok (.sipush 400, 3) := by decide +kernel
theorem d_Mod_extremeSide_9 : decode b_Mod_extremeSide 9 = .ok (.istore 7, 2) := by decide +kernel
theorem d_Mod_extremeSide_11 : decode b_Mod_extremeSide 11 = .ok (.sipush (-400), 3) := by decide +kernel
theorem d_Mod_extremeSide_14 : decode b_Mod_extremeSide 14 = .ok (.istore 8, 2) := by decide +kernel
theorem d_Mod_extremeSide_16 : decode b_Mod_extremeSide 16 = .ok (.aload_n 0, 1) := by decide +kernel
theorem d_Mod_extremeSide_17 : decode b_Mod_extremeSide 17 = .ok (.getfield 50, 3) := by decide +kernel
theorem d_Mod_extremeSide_20 : decode b_Mod_extremeSide 20 = .ok (.iload 6, 2) := by decide +kernel
theorem d_Mod_extremeSide_22 : decode b_Mod_extremeSide 22 = .ok (.iload_n 2, 1) := by decide +kernel
theorem d_Mod_extremeSide_23 : decode b_Mod_extremeSide 23 = .ok (.iadd, 1) := by decide +kernel
theorem d_Mod_extremeSide_24 : decode b_Mod_extremeSide 24 = .ok (.iaload, 1) := by decide +kernel
theorem d_Mod_extremeSide_25 : decode b_Mod_extremeSide 25 = .ok (.istore 9, 2) := by decide +kernel
theorem d_Mod_extremeSide_27 : decode b_Mod_extremeSide 27 = .ok (.iload 9, 2) := by decide +kernel
theorem d_Mod_extremeSide_29 : decode b_Mod_extremeSide 29 = .ok (.aload_n 0, 1) := by decide +kernel
theorem d_Mod_extremeSide_30 : decode b_Mod_extremeSide 30 = .ok (.getfield 53, 3) := by decide +kernel
theorem d_Mod_extremeSide_33 : decode b_Mod_extremeSide 33 = .ok (.iload 6, 2) := by decide +kernel
theorem d_Mod_extremeSide_35 : decode b_Mod_extremeSide 35 = .ok (.iload_n 2, 1) := by decide +kernel
theorem d_Mod_extremeSide_36 : decode b_Mod_extremeSide 36 = .ok (.iadd, 1) := by decide +kernel
theorem d_Mod_extremeSide_37 : decode b_Mod_extremeSide 37 = .ok (.iaload, 1) := by decide +kernel
theorem d_Mod_extremeSide_38 : decode b_Mod_extremeSide 38 = .ok (.if_icmp .gt 138, 3) := by decide +kernel
theorem d_Mod_extremeSide_41 : decode b_Mod_extremeSide 41 = .ok (.iload 5, 2) := by decide +kernel
theorem d_Mod_extremeSide_43 : decode b_Mod_extremeSide 43 = .ok (.ifCond .eq 49, 3) := by decide +kernel
theorem d_Mod_extremeSide_46 : decode b_Mod_extremeSide 46 = .ok (.iload 9, 2) := by decide +kernel
theorem d_Mod_extremeSide_48 : decode b_Mod_extremeSide 48 = .ok (.aload_n 0, 1) := by decide +kernel
theorem d_Mod_extremeSide_49 : decode b_Mod_extremeSide 49 = .ok (.getfield 50, 3) := by decide +kernel
theorem d_Mod_extremeSide_52 : decode b_Mod_extremeSide 52 = .ok (.iload 6, 2) := by decide +kernel
theorem d_Mod_extremeSide_54 : decode b_Mod_extremeSide 54 = .ok (.iload_n 3, 1) := by decide +kernel
theorem d_Mod_extremeSide_55 : decode b_Mod_extremeSide 55 = .ok (.iadd, 1) := by decide +kernel
theorem d_Mod_extremeSide_56 : decode b_Mod_extremeSide 56 = .ok (.iaload, 1) := by decide +kernel
theorem d_Mod_extremeSide_57 : decode b_Mod_extremeSide 57 = .ok (.aload_n 0, 1) := by decide +kernel
theorem d_Mod_extremeSide_58 : decode b_Mod_extremeSide 58 = .ok (.getfield 53, 3) := by decide +kernel
theorem d_Mod_extremeSide_61 : decode b_Mod_extremeSide 61 = .ok (.iload 6, 2) := by decide +kernel
theorem d_Mod_extremeSide_63 : decode b_Mod_extremeSide 63 = .ok (.iload_n 3, 1) := by decide +kernel
theorem d_Mod_extremeSide_64 : decode b_Mod_extremeSide 64 = .ok (.iadd, 1) := by decide +kernel
theorem d_Mod_extremeSide_65 : decode b_Mod_extremeSide 65 = .ok (.iaload, 1) := by decide +kernel
theorem d_Mod_extremeSide_66 : decode b_Mod_extremeSide 66 = .ok (.aload_n 0, 1) := by decide +kernel
theorem d_Mod_extremeSide_67 : decode b_Mod_extremeSide 67 = .ok (.getfield 50, 3) := by decide +kernel
theorem d_Mod_extremeSide_70 : decode b_Mod_extremeSide 70 = .ok (.iload 6, 2) := by decide +kernel
theorem d_Mod_extremeSide_72 : decode b_Mod_extremeSide 72 = .ok (.iload 4, 2) := by decide +kernel
theorem d_Mod_extremeSide_74 : decode b_Mod_extremeSide 74 = .ok (.iadd, 1) := by decide +kernel
theorem d_Mod_extremeSide_75 : decode b_Mod_extremeSide 75 = .ok (.iaload, 1) := by decide +kernel
theorem d_Mod_extremeSide_76 : decode b_Mod_extremeSide 76 = .ok (.aload_n 0, 1) := by decide +kernel
theorem d_Mod_extremeSide_77 : decode b_Mod_extremeSide 77 = .ok (.getfield 53, 3) := by decide +kernel
theorem d_Mod_extremeSide_80 : decode b_Mod_extremeSide 80 = .ok (.iload 6, 2) := by decide +kernel
theorem d_Mod_extremeSide_82 : decode b_Mod_extremeSide 82 = .ok (.iload 4, 2) := by decide +kernel
theorem d_Mod_extremeSide_84 : decode b_Mod_extremeSide 84 = .ok (.iadd, 1) := by decide +kernel
theorem d_Mod_extremeSide_85 : decode b_Mod_extremeSide 85 = .ok (.iaload, 1) := by decide +kernel
theorem d_Mod_extremeSide_86 : decode b_Mod_extremeSide 86 = .ok (.invokestatic 163, 3) := by decide +kernel
theorem d_Mod_extremeSide_89 : decode b_Mod_extremeSide 89 = .ok (.goto 46, 3) := by decide +kernel
theorem d_Mod_extremeSide_92 : decode b_Mod_extremeSide 92 = .ok (.iload 9, 2) := by decide +kernel
theorem d_Mod_extremeSide_94 : decode b_Mod_extremeSide 94 = .ok (.aload_n 0, 1) := by decide +kernel
theorem d_Mod_extremeSide_95 : decode b_Mod_extremeSide 95 = .ok (.getfield 50, 3) := by decide +kernel
theorem d_Mod_extremeSide_98 : decode b_Mod_extremeSide 98 = .ok (.iload 6, 2) := by decide +kernel
theorem d_Mod_extremeSide_100 : decode b_Mod_extremeSide 100 = .ok (.iload_n 3, 1) := by decide +kernel
theorem d_Mod_extremeSide_101 : decode b_Mod_extremeSide 101 = .ok (.iadd, 1) := by decide +kernel
theorem d_Mod_extremeSide_102 : decode b_Mod_extremeSide 102 = .ok (.iaload, 1) := by decide +kernel
theorem d_Mod_extremeSide_103 : decode b_Mod_extremeSide 103 = .ok (.aload_n 0, 1) := by decide +kernel
theorem d_Mod_extremeSide_104 : decode b_Mod_extremeSide 104 = .ok (.getfield 53, 3) := by decide +kernel
theorem d_Mod_extremeSide_107 : decode b_Mod_extremeSide 107 = .ok (.iload 6, 2) := by decide +kernel
theorem d_Mod_extremeSide_109 : decode b_Mod_extremeSide 109 = .ok (.iload_n 3, 1) := by decide +kernel
theorem d_Mod_extremeSide_110 : decode b_Mod_extremeSide 110 = .ok (.iadd, 1) := by decide +kernel
theorem d_Mod_extremeSide_111 : decode b_Mod_extremeSide 111 = .ok (.iaload, 1) := by decide +kernel
theorem d_Mod_extremeSide_112 : decode b_Mod_extremeSide 112 = .ok (.aload_n 0, 1) := by decide +kernel
theorem d_Mod_extremeSide_113 : decode b_Mod_extremeSide 113 = .ok (.getfield 50, 3) := by decide +kernel
theorem d_Mod_extremeSide_116 : decode b_Mod_extremeSide 116 = .ok (.iload 6, 2) := by decide +kernel
theorem d_Mod_extremeSide_118 : decode b_Mod_extremeSide 118 = .ok (.iload 4, 2) := by decide +kernel
theorem d_Mod_extremeSide_120 : decode b_Mod_extremeSide 120 = .ok (.iadd, 1) := by decide +kernel
theorem d_Mod_extremeSide_121 : decode b_Mod_extremeSide 121 = .ok (.iaload, 1) := by decide +kernel
theorem d_Mod_extremeSide_122 : decode b_Mod_extremeSide 122 = .ok (.aload_n 0, 1) := by decide +kernel
theorem d_Mod_extremeSide_123 : decode b_Mod_extremeSide 123 = .ok (.getfield 53, 3) := by decide +kernel
theorem d_Mod_extremeSide_126 : decode b_Mod_extremeSide 126 = .ok (.iload 6, 2) := by decide +kernel
theorem d_Mod_extremeSide_128 : decode b_Mod_extremeSide 128 = .ok (.iload 4, 2) := by decide +kernel
theorem d_Mod_extremeSide_130 : decode b_Mod_extremeSide 130 = .ok (.iadd, 1) := by decide +kernel
theorem d_Mod_extremeSide_131 : decode b_Mod_extremeSide 131 = .ok (.iaload, 1) := by decide +kernel
theorem d_Mod_extremeSide_132 : decode b_Mod_extremeSide 132 = .ok (.invokestatic 167, 3) := by decide +kernel
theorem d_Mod_extremeSide_135 : decode b_Mod_extremeSide 135 = .ok (.istore 10, 2) := by decide +kernel
theorem d_Mod_extremeSide_137 : decode b_Mod_extremeSide 137 = .ok (.iload 10, 2) := by decide +kernel
theorem d_Mod_extremeSide_139 : decode b_Mod_extremeSide 139 = .ok (.ifCond .eq 13, 3) := by decide +kernel
theorem d_Mod_extremeSide_142 : decode b_Mod_extremeSide 142 = .ok (.iload 7, 2) := by decide +kernel
theorem d_Mod_extremeSide_144 : decode b_Mod_extremeSide 144 = .ok (.iload 9, 2) := by decide +kernel
theorem d_Mod_extremeSide_146 : decode b_Mod_extremeSide 146 = .ok (.invokestatic 124, 3) := by decide +kernel
theorem d_Mod_extremeSide_149 : decode b_Mod_extremeSide 149 = .ok (.goto 5, 3) := by decide +kernel
theorem d_Mod_extremeSide_152 : decode b_Mod_extremeSide 152 = .ok (.iload 7, 2) := by decide +kernel
theorem d_Mod_extremeSide_154 : decode b_Mod_extremeSide 154 = .ok (.istore 7, 2) := by decide +kernel
theorem d_Mod_extremeSide_156 : decode b_Mod_extremeSide 156 = .ok (.iload 10, 2) := by decide +kernel
theorem d_Mod_extremeSide_158 : decode b_Mod_extremeSide 158 = .ok (.ifCond .eq 8, 3) := by decide +kernel
theorem d_Mod_extremeSide_161 : decode b_Mod_extremeSide 161 = .ok (.iload 9, 2) := by decide +kernel
theorem d_Mod_extremeSide_163 : decode b_Mod_extremeSide 163 = .ok (.goto 5, 3) := by decide +kernel
theorem d_Mod_extremeSide_166 : decode b_Mod_extremeSide 166 = .ok (.iload 8, 2) := by decide +kernel
theorem d_Mod_extremeSide_168 : decode b_Mod_extremeSide 168 = .ok (.istore 8, 2) := by decide +kernel
theorem d_Mod_extremeSide_170 : decode b_Mod_extremeSide 170 = .ok (.iinc 9 1, 3) := by decide +kernel
theorem d_Mod_extremeSide_173 : decode b_Mod_extremeSide 173 = .ok (.goto (-146), 3) := by decide +kernel
theorem d_Mod_extremeSide_176 : decode b_Mod_extremeSide 176 = .ok (.aload_n 0, 1) := by decide +kernel
theorem d_Mod_extremeSide_177 : decode b_Mod_extremeSide 177 = .ok (.iload_n 1, 1) := by decide +kernel
theorem d_Mod_extremeSide_178 : decode b_Mod_extremeSide 178 = .ok (.iload_n 2, 1) := by decide +kernel
theorem d_Mod_extremeSide_179 : decode b_Mod_extremeSide 179 = .ok (.iload 7, 2) := by decide +kernel
theorem d_Mod_extremeSide_181 : decode b_Mod_extremeSide 181 = .ok (.iload 8, 2) := by decide +kernel
theorem d_Mod_extremeSide_183 : decode b_Mod_extremeSide 183 = .ok (.invokevirtual 160, 3) := by decide +kernel
theorem d_Mod_extremeSide_186 : decode b_Mod_extremeSide 186 = .ok (.ireturn, 1) := by decide +kernel
set_option maxHeartbeats 4000000 in
set_option maxRecDepth 20000 in
theorem k_Mod_extremeSide (l : Launch) (D : va_G) (cA : Nat → ClassId) (adr : Nat → Nat) (hi : wI mN adr) (I : Nat → Int32) (F : Nat → Nat → Int32) (d nn ck co cd : Nat) (xd xk xo xc : Int32) (ch less : Bool) (hn : nn ≤ 10) (hd : d < 12) (hxd : xd.toInt = (d : Int)) (hxk : xk.toInt = (ck : Int)) (hxo : xo.toInt = (co : Int)) (hxc : xc.toInt = (cd : Int)) (hck : ck < nn) (hco : co < nn) (hcd : cd < nn) (hch : I 20 = bi ch) (hne : Ne nn (bl F d) (bh F d)) (hrg : ∀ k, k < nn → -100 ≤ bl F d k ∧ bh F d k ≤ 100) : Ct l y_Mod_extremeSide b_Mod_extremeSide 11 (some .boolean) 6 D cA [.ref (adr 0), .int xd, .int xk, .int xo, .int xc, .int (bi less)] (fun H => MP D cA adr I F H) (fun r H => ∃ (f t : Int) (lo hh : Int32), E1 (fun x => (bl F d ck ≤ x ∧ x ≤ bh F d ck) ∧ canE less x (bl F d co) (bh F d co) (bl F d cd) (bh F d cd) = true) 400 f t ∧ lo.toInt = max (F 18 (10 * d + ck)).toInt f ∧ hh.toInt = min (F 19 (10 * d + ck)).toInt t ∧ r = some (.int (bi (decide (lo.toInt ≤ hh.toInt)))) ∧ MP D cA adr (va_up I 20 (bi (ch || decide ((F 18 (10 * d + ck)).toInt < f ∨ t < (F 19 (10 * d + ck)).toInt)))) (cutF F (10 * d + ck) lo hh) H) (wA mN adr) := by
  refine Ct.mk (by decide) (Nat.le_of_ble_eq_true rfl) ?_
  intro p e s m args below meth c Q H locs ls hx hb hr hml hlk hown hin hK hQ hS hP hl
  have hl : lv_has ls 11 [(0, .ref (adr 0)), (1, .int xd), (2, .int xk), (3, .int xo), (4, .int xc), (5, .int (bi less))] := hl
  have hown : s.vm.findClass "RangeSheetModel" = some m.cls := hown
  have hrck := hrg ck hck; have hnck := hne ck hck; have hrco := hrg co hco; have hnco := hne co hco; have hrcd := hrg cd hcd; have hncd := hne cd hcd; unfold bl bh at hrck hnck hrco hnco hrcd hncd
  refine lv_bipush (v := 10) hx hb d_Mod_extremeSide_0 (by decide) ?_
  refine lv_iload_n hx hb d_Mod_extremeSide_2 rfl (lv_at hl 1 rfl) ?_
  refine x_mul hx hb d_Mod_extremeSide_3 kc_10 hxd (by omega) (fun z_1 tz_1 => ?_)
  refine lv_istore (lv' := [(6, .int z_1), (0, .ref (adr 0)), (1, .int xd), (2, .int xk), (3, .int xo), (4, .int xc), (5, .int (bi less))]) hx hb d_Mod_extremeSide_4 hl (by decide) rfl (fun ls hl => ?_)
  refine lv_sipush (v := 400) hx hb d_Mod_extremeSide_6 (by decide) ?_
  refine lv_istore (lv' := [(7, .int (400 : Int32)), (6, .int z_1), (0, .ref (adr 0)), (1, .int xd), (2, .int xk), (3, .int xo), (4, .int xc), (5, .int (bi less))]) hx hb d_Mod_extremeSide_9 hl (by decide) rfl (fun ls hl => ?_)
  refine lv_sipush (v := (-400)) hx hb d_Mod_extremeSide_11 (by decide) ?_
  refine lv_istore (lv' := [(8, .int (-400 : Int32)), (7, .int (400 : Int32)), (6, .int z_1), (0, .ref (adr 0)), (1, .int xd), (2, .int xk), (3, .int xo), (4, .int xc), (5, .int (bi less))]) hx hb d_Mod_extremeSide_14 hl (by decide) rfl (fun ls hl => ?_)
  refine lv_aload_n hx hb d_Mod_extremeSide_16 rfl (lv_at hl 3 rfl) ?_
  refine m_gr hx hb hK hown hP 18 (by decide) t_755 d_Mod_extremeSide_17 ?_
  refine lv_iload hx hb d_Mod_extremeSide_20 (lv_at hl 2 rfl) ?_
  refine lv_iload_n hx hb d_Mod_extremeSide_22 rfl (lv_at hl 5 rfl) ?_
  refine x_add hx hb d_Mod_extremeSide_23 tz_1 hxk (by omega) (fun z_2 tz_2 => ?_)
  refine m_ld hx hb hK hP 18 (by decide) (((10 * d) + ck)) tz_2 (by omega) (show ((10 * d) + ck) < 120 by omega) d_Mod_extremeSide_24 (fun z_3 ez_3 => ?_)
  subst ez_3
  refine lv_istore (lv' := [(9, .int (F 18 ((10 * d) + ck))), (8, .int (-400 : Int32)), (7, .int (400 : Int32)), (6, .int z_1), (0, .ref (adr 0)), (1, .int xd), (2, .int xk), (3, .int xo), (4, .int xc), (5, .int (bi less))]) hx hb d_Mod_extremeSide_25 hl (by decide) rfl (fun ls hl => ?_)
  have L_4 : ∀ (n : Nat) (x9 : Int32) (x7 : Int32) (x8 : Int32) (H : Heap) (locs : List Loc) (ls : Array Slot), ((F 19 (10 * d + ck)).toInt + 1 - x9.toInt).toNat < n → ((F 18 (10 * d + ck)).toInt ≤ x9.toInt ∧ x9.toInt ≤ (F 19 (10 * d + ck)).toInt + 1 ∧ -100 ≤ x9.toInt ∧ x9.toInt ≤ 101) → (E1 (fun x => ((bl F d ck ≤ x ∧ x ≤ bh F d ck) ∧ canE less x (bl F d co) (bh F d co) (bl F d cd) (bh F d cd) = true) ∧ x < x9.toInt) 400 x7.toInt x8.toInt) → MP D cA adr I F H → va_S (wA mN adr) s.heap H locs → lv_has ls 11 [(6, .int z_1), (0, .ref (adr 0)), (1, .int xd), (2, .int xk), (3, .int xo), (4, .int xc), (5, .int (bi less)), (7, .int x7), (8, .int x8), (9, .int x9)] → W p l e (rl 6) s m args below meth c H locs 0 0 Q (F0 m 27 ls []) := by
    intro n
    induction n with
    | zero => intro x9 x7 x8 H locs ls hmu; exact absurd hmu (Nat.not_lt_zero _)
    | succ n ih_4 =>
      intro x9 x7 x8 H locs ls hmu hx9 hE1 hP hS hl
      refine lv_iload hx hb d_Mod_extremeSide_27 (lv_at hl 9 rfl) ?_
      refine lv_aload_n hx hb d_Mod_extremeSide_29 rfl (lv_at hl 1 rfl) ?_
      refine m_gr hx hb hK hown hP 19 (by decide) t_756 d_Mod_extremeSide_30 ?_
      refine lv_iload hx hb d_Mod_extremeSide_33 (lv_at hl 0 rfl) ?_
      refine lv_iload_n hx hb d_Mod_extremeSide_35 rfl (lv_at hl 3 rfl) ?_
      refine x_add hx hb d_Mod_extremeSide_36 tz_1 hxk (by omega) (fun z_5 tz_5 => ?_)
      refine m_ld hx hb hK hP 19 (by decide) (((10 * d) + ck)) tz_5 (by omega) (show ((10 * d) + ck) < 120 by omega) d_Mod_extremeSide_37 (fun z_6 ez_6 => ?_)
      subst ez_6
      refine b_icmp_gt (tgt := 176) hx hb d_Mod_extremeSide_38 (by decide) rfl rfl (fun c_7 => ?_) (fun c_7 => ?_)
      · refine lv_aload_n hx hb d_Mod_extremeSide_176 rfl (lv_at hl 1 rfl) ?_
        refine lv_iload_n hx hb d_Mod_extremeSide_177 rfl (lv_at hl 2 rfl) ?_
        refine lv_iload_n hx hb d_Mod_extremeSide_178 rfl (lv_at hl 3 rfl) ?_
        refine lv_iload hx hb d_Mod_extremeSide_179 (lv_at hl 7 rfl) ?_
        refine lv_iload hx hb d_Mod_extremeSide_181 (lv_at hl 8 rfl) ?_
        refine x_V (As := [.int xd, .int xk, .int x7, .int x8]) (rest := []) hx hb hml hown hK (k_Mod_cut l D cA adr hi I F d ck xd xk x7 x8 ch hxd hxk (by omega) (by omega) hch) t_910 t_4 t_907 t_909 ts_20 yk_Mod_cut ⟨Nat.le_of_ble_eq_true rfl, Nat.le_of_ble_eq_true rfl⟩ (m_rec hK hP) hP rfl hl.1 rfl (Nat.le_of_ble_eq_true rfl) d_Mod_extremeSide_183 ⟨Nat.le_of_ble_eq_true rfl, Nat.le_of_ble_eq_true rfl⟩ hS (fun q h => h) (fun r H locs hq _ hS => ?_)
        obtain ⟨lo_8, hh_8, hlo_8, hhh_8, rfl, hP⟩ := hq
        obtain ⟨ch_8, hch_8⟩ : ∃ q : Bool, q = (ch || decide ((F 18 (10 * d + ck)).toInt < x7.toInt ∨ x8.toInt < (F 19 (10 * d + ck)).toInt)) := ⟨_, rfl⟩
        rw [← hch_8] at hP
        refine W.eq (g2 := F0 m 186 ls [.int (bi (decide (lo_8.toInt ≤ hh_8.toInt)))]) rfl ?_
        refine e_z hx hb hr hlk hQ hS d_Mod_extremeSide_186 ?_
        rw [hch_8] at hP
        exact ⟨_, _, lo_8, hh_8, (hE1.congr (fun x => ⟨fun h => h.1, fun h => ⟨h, by have := h.1; unfold bl bh at this; omega⟩⟩)), hlo_8, hhh_8, rfl, hP⟩
      · refine lv_iload hx hb d_Mod_extremeSide_41 (lv_at hl 6 rfl) ?_
        have K_209 : ∀ (b_209_0 : Bool) (locs : List Loc), (b_209_0 = true ↔ ((less = false ∧ (cbg x9.toInt (F 18 ((10 * d) + co)).toInt (F 19 ((10 * d) + co)).toInt (F 18 ((10 * d) + cd)).toInt (F 19 ((10 * d) + cd)).toInt) = true) ∨ (less = true ∧ (cbl x9.toInt (F 18 ((10 * d) + co)).toInt (F 19 ((10 * d) + co)).toInt (F 18 ((10 * d) + cd)).toInt (F 19 ((10 * d) + cd)).toInt) = true))) → va_S (wA mN adr) s.heap H locs → W p l e (rl 6) s m args below meth c H locs 0 0 Q (F0 m 135 ls [.int (bi b_209_0)]) := by
          intro b_209_0 locs hb_209_0 hS
          refine lv_istore (lv' := [(10, .int (bi b_209_0)), (6, .int z_1), (0, .ref (adr 0)), (1, .int xd), (2, .int xk), (3, .int xo), (4, .int xc), (5, .int (bi less)), (7, .int x7), (8, .int x8), (9, .int x9)]) hx hb d_Mod_extremeSide_135 hl (by decide) rfl (fun ls hl => ?_)
          refine lv_iload hx hb d_Mod_extremeSide_137 (lv_at hl 0 rfl) ?_
          refine b_bool_eq (tgt := 152) hx hb d_Mod_extremeSide_139 (by decide) (fun c_210 => ?_) (fun c_210 => ?_)
          · refine lv_iload hx hb d_Mod_extremeSide_152 (lv_at hl 8 rfl) ?_
            refine lv_istore (lv' := [(7, .int x7), (10, .int (bi b_209_0)), (6, .int z_1), (0, .ref (adr 0)), (1, .int xd), (2, .int xk), (3, .int xo), (4, .int xc), (5, .int (bi less)), (8, .int x8), (9, .int x9)]) hx hb d_Mod_extremeSide_154 hl (by decide) rfl (fun ls hl => ?_)
            refine lv_iload hx hb d_Mod_extremeSide_156 (lv_at hl 1 rfl) ?_
            refine b_bool_eq (tgt := 166) hx hb d_Mod_extremeSide_158 (by decide) (fun c_211 => ?_) (fun c_211 => ?_)
            · refine lv_iload hx hb d_Mod_extremeSide_166 (lv_at hl 9 rfl) ?_
              refine lv_istore (lv' := [(8, .int x8), (7, .int x7), (10, .int (bi b_209_0)), (6, .int z_1), (0, .ref (adr 0)), (1, .int xd), (2, .int xk), (3, .int xo), (4, .int xc), (5, .int (bi less)), (9, .int x9)]) hx hb d_Mod_extremeSide_168 hl (by decide) rfl (fun ls hl => ?_)
              refine x_iinc (k := 10) (lv' := fun v_ => [(9, .int v_), (8, .int x8), (7, .int x7), (10, .int (bi b_209_0)), (6, .int z_1), (0, .ref (adr 0)), (1, .int xd), (2, .int xk), (3, .int xo), (4, .int xc), (5, .int (bi less))]) hx hb d_Mod_extremeSide_170 hl rfl rfl (by decide) (by omega) (by decide) (fun v_ => rfl) (fun z_212 tz_212 ls hl => ?_)
              refine lv_goto (tgt := 27) hx hb d_Mod_extremeSide_173 (by decide) ?_
              have hcan0 : canE less x9.toInt (bl F d co) (bh F d co) (bl F d cd) (bh F d cd) = false := (canE_iff hb_209_0).symm.trans c_210
              have hcan : ¬ canE less x9.toInt (bl F d co) (bh F d co) (bl F d cd) (bh F d cd) = true := by rw [hcan0]; decide
              have hE9 := hE1.skip (x0 := x9.toInt) (fun h => hcan h.2)
              rw [← tz_212] at hE9
              exact ih_4 z_212 x7 x8 _ _ _ (by omega) (by omega) hE9 hP hS (lv_sub hl [4, 5, 6, 7, 8, 9, 10, 2, 1, 0] rfl)
            · rw [c_210] at c_211; cases c_211
          · refine lv_iload hx hb d_Mod_extremeSide_142 (lv_at hl 8 rfl) ?_
            refine lv_iload hx hb d_Mod_extremeSide_144 (lv_at hl 10 rfl) ?_
            refine r_Mod_lesser hx hb hml hown hK hl.1 hS ⟨Nat.le_of_ble_eq_true rfl, Nat.le_of_ble_eq_true rfl⟩ ⟨Nat.le_of_ble_eq_true rfl, Nat.le_of_ble_eq_true rfl⟩ rfl rfl  d_Mod_extremeSide_146 (Nat.le_of_ble_eq_true rfl) (fun z_213 locs tz_213 hS => ?_)
            refine lv_goto (tgt := 154) hx hb d_Mod_extremeSide_149 (by decide) ?_
            refine lv_istore (lv' := [(7, .int z_213), (10, .int (bi b_209_0)), (6, .int z_1), (0, .ref (adr 0)), (1, .int xd), (2, .int xk), (3, .int xo), (4, .int xc), (5, .int (bi less)), (8, .int x8), (9, .int x9)]) hx hb d_Mod_extremeSide_154 hl (by decide) rfl (fun ls hl => ?_)
            refine lv_iload hx hb d_Mod_extremeSide_156 (lv_at hl 1 rfl) ?_
            refine b_bool_eq (tgt := 166) hx hb d_Mod_extremeSide_158 (by decide) (fun c_214 => ?_) (fun c_214 => ?_)
            · rw [c_210] at c_214; cases c_214
            · refine lv_iload hx hb d_Mod_extremeSide_161 (lv_at hl 10 rfl) ?_
              refine lv_goto (tgt := 168) hx hb d_Mod_extremeSide_163 (by decide) ?_
              refine lv_istore (lv' := [(8, .int x9), (7, .int z_213), (10, .int (bi b_209_0)), (6, .int z_1), (0, .ref (adr 0)), (1, .int xd), (2, .int xk), (3, .int xo), (4, .int xc), (5, .int (bi less)), (9, .int x9)]) hx hb d_Mod_extremeSide_168 hl (by decide) rfl (fun ls hl => ?_)
              refine x_iinc (k := 10) (lv' := fun v_ => [(9, .int v_), (8, .int x9), (7, .int z_213), (10, .int (bi b_209_0)), (6, .int z_1), (0, .ref (adr 0)), (1, .int xd), (2, .int xk), (3, .int xo), (4, .int xc), (5, .int (bi less))]) hx hb d_Mod_extremeSide_170 hl rfl rfl (by decide) (by omega) (by decide) (fun v_ => rfl) (fun z_215 tz_215 ls hl => ?_)
              refine lv_goto (tgt := 27) hx hb d_Mod_extremeSide_173 (by decide) ?_
              have hcan0 : canE less x9.toInt (bl F d co) (bh F d co) (bl F d cd) (bh F d cd) = true := (canE_iff hb_209_0).symm.trans c_210
              have hcan : canE less x9.toInt (bl F d co) (bh F d co) (bl F d cd) (bh F d cd) = true := by rw [hcan0]
              have hE9 := hE1.add (x0 := x9.toInt) ⟨by unfold bl bh; omega, hcan⟩ (by omega)
              rw [← tz_213, ← tz_215] at hE9
              exact ih_4 z_215 z_213 x9 _ _ _ (by omega) (by omega) hE9 hP hS (lv_sub hl [4, 5, 6, 7, 8, 9, 10, 2, 1, 0] rfl)
        refine b_bool_eq (tgt := 92) hx hb d_Mod_extremeSide_43 (by decide) (fun c_216 => ?_) (fun c_216 => ?_)
        · refine lv_iload hx hb d_Mod_extremeSide_92 (lv_at hl 9 rfl) ?_
          refine lv_aload_n hx hb d_Mod_extremeSide_94 rfl (lv_at hl 1 rfl) ?_
          refine m_gr hx hb hK hown hP 18 (by decide) t_755 d_Mod_extremeSide_95 ?_
          refine lv_iload hx hb d_Mod_extremeSide_98 (lv_at hl 0 rfl) ?_
          refine lv_iload_n hx hb d_Mod_extremeSide_100 rfl (lv_at hl 4 rfl) ?_
          refine x_add hx hb d_Mod_extremeSide_101 tz_1 hxo (by omega) (fun z_217 tz_217 => ?_)
          refine m_ld hx hb hK hP 18 (by decide) (((10 * d) + co)) tz_217 (by omega) (show ((10 * d) + co) < 120 by omega) d_Mod_extremeSide_102 (fun z_218 ez_218 => ?_)
          subst ez_218
          refine lv_aload_n hx hb d_Mod_extremeSide_103 rfl (lv_at hl 1 rfl) ?_
          refine m_gr hx hb hK hown hP 19 (by decide) t_756 d_Mod_extremeSide_104 ?_
          refine lv_iload hx hb d_Mod_extremeSide_107 (lv_at hl 0 rfl) ?_
          refine lv_iload_n hx hb d_Mod_extremeSide_109 rfl (lv_at hl 4 rfl) ?_
          refine x_add hx hb d_Mod_extremeSide_110 tz_1 hxo (by omega) (fun z_219 tz_219 => ?_)
          refine m_ld hx hb hK hP 19 (by decide) (((10 * d) + co)) tz_219 (by omega) (show ((10 * d) + co) < 120 by omega) d_Mod_extremeSide_111 (fun z_220 ez_220 => ?_)
          subst ez_220
          refine lv_aload_n hx hb d_Mod_extremeSide_112 rfl (lv_at hl 1 rfl) ?_
          refine m_gr hx hb hK hown hP 18 (by decide) t_755 d_Mod_extremeSide_113 ?_
          refine lv_iload hx hb d_Mod_extremeSide_116 (lv_at hl 0 rfl) ?_
          refine lv_iload hx hb d_Mod_extremeSide_118 (lv_at hl 5 rfl) ?_
          refine x_add hx hb d_Mod_extremeSide_120 tz_1 hxc (by omega) (fun z_221 tz_221 => ?_)
          refine m_ld hx hb hK hP 18 (by decide) (((10 * d) + cd)) tz_221 (by omega) (show ((10 * d) + cd) < 120 by omega) d_Mod_extremeSide_121 (fun z_222 ez_222 => ?_)
          subst ez_222
          refine lv_aload_n hx hb d_Mod_extremeSide_122 rfl (lv_at hl 1 rfl) ?_
          refine m_gr hx hb hK hown hP 19 (by decide) t_756 d_Mod_extremeSide_123 ?_
          refine lv_iload hx hb d_Mod_extremeSide_126 (lv_at hl 0 rfl) ?_
          refine lv_iload hx hb d_Mod_extremeSide_128 (lv_at hl 5 rfl) ?_
          refine x_add hx hb d_Mod_extremeSide_130 tz_1 hxc (by omega) (fun z_223 tz_223 => ?_)
          refine m_ld hx hb hK hP 19 (by decide) (((10 * d) + cd)) tz_223 (by omega) (show ((10 * d) + cd) < 120 by omega) d_Mod_extremeSide_131 (fun z_224 ez_224 => ?_)
          subst ez_224
          refine r_Mod_cbg hx hb hml hown hK hl.1 hS ⟨Nat.le_of_ble_eq_true rfl, Nat.le_of_ble_eq_true rfl⟩ ⟨Nat.le_of_ble_eq_true rfl, Nat.le_of_ble_eq_true rfl⟩ rfl rfl rfl rfl rfl (by omega) d_Mod_extremeSide_132 (Nat.le_of_ble_eq_true rfl) (fun locs hS => ?_)
          exact K_209 (cbg x9.toInt (F 18 ((10 * d) + co)).toInt (F 19 ((10 * d) + co)).toInt (F 18 ((10 * d) + cd)).toInt (F 19 ((10 * d) + cd)).toInt) locs (by simp [c_216]) hS
        · refine lv_iload hx hb d_Mod_extremeSide_46 (lv_at hl 9 rfl) ?_
          refine lv_aload_n hx hb d_Mod_extremeSide_48 rfl (lv_at hl 1 rfl) ?_
          refine m_gr hx hb hK hown hP 18 (by decide) t_755 d_Mod_extremeSide_49 ?_
          refine lv_iload hx hb d_Mod_extremeSide_52 (lv_at hl 0 rfl) ?_
          refine lv_iload_n hx hb d_Mod_extremeSide_54 rfl (lv_at hl 4 rfl) ?_
          refine x_add hx hb d_Mod_extremeSide_55 tz_1 hxo (by omega) (fun z_225 tz_225 => ?_)
          refine m_ld hx hb hK hP 18 (by decide) (((10 * d) + co)) tz_225 (by omega) (show ((10 * d) + co) < 120 by omega) d_Mod_extremeSide_56 (fun z_226 ez_226 => ?_)
          subst ez_226
          refine lv_aload_n hx hb d_Mod_extremeSide_57 rfl (lv_at hl 1 rfl) ?_
          refine m_gr hx hb hK hown hP 19 (by decide) t_756 d_Mod_extremeSide_58 ?_
          refine lv_iload hx hb d_Mod_extremeSide_61 (lv_at hl 0 rfl) ?_
          refine lv_iload_n hx hb d_Mod_extremeSide_63 rfl (lv_at hl 4 rfl) ?_
          refine x_add hx hb d_Mod_extremeSide_64 tz_1 hxo (by omega) (fun z_227 tz_227 => ?_)
          refine m_ld hx hb hK hP 19 (by decide) (((10 * d) + co)) tz_227 (by omega) (show ((10 * d) + co) < 120 by omega) d_Mod_extremeSide_65 (fun z_228 ez_228 => ?_)
          subst ez_228
          refine lv_aload_n hx hb d_Mod_extremeSide_66 rfl (lv_at hl 1 rfl) ?_
          refine m_gr hx hb hK hown hP 18 (by decide) t_755 d_Mod_extremeSide_67 ?_
          refine lv_iload hx hb d_Mod_extremeSide_70 (lv_at hl 0 rfl) ?_
          refine lv_iload hx hb d_Mod_extremeSide_72 (lv_at hl 5 rfl) ?_
          refine x_add hx hb d_Mod_extremeSide_74 tz_1 hxc (by omega) (fun z_229 tz_229 => ?_)
          refine m_ld hx hb hK hP 18 (by decide) (((10 * d) + cd)) tz_229 (by omega) (show ((10 * d) + cd) < 120 by omega) d_Mod_extremeSide_75 (fun z_230 ez_230 => ?_)
          subst ez_230
          refine lv_aload_n hx hb d_Mod_extremeSide_76 rfl (lv_at hl 1 rfl) ?_
          refine m_gr hx hb hK hown hP 19 (by decide) t_756 d_Mod_extremeSide_77 ?_
          refine lv_iload hx hb d_Mod_extremeSide_80 (lv_at hl 0 rfl) ?_
          refine lv_iload hx hb d_Mod_extremeSide_82 (lv_at hl 5 rfl) ?_
          refine x_add hx hb d_Mod_extremeSide_84 tz_1 hxc (by omega) (fun z_231 tz_231 => ?_)
          refine m_ld hx hb hK hP 19 (by decide) (((10 * d) + cd)) tz_231 (by omega) (show ((10 * d) + cd) < 120 by omega) d_Mod_extremeSide_85 (fun z_232 ez_232 => ?_)
          subst ez_232
          refine r_Mod_cbl hx hb hml hown hK hl.1 hS ⟨Nat.le_of_ble_eq_true rfl, Nat.le_of_ble_eq_true rfl⟩ ⟨Nat.le_of_ble_eq_true rfl, Nat.le_of_ble_eq_true rfl⟩ rfl rfl rfl rfl rfl (by omega) d_Mod_extremeSide_86 (Nat.le_of_ble_eq_true rfl) (fun locs hS => ?_)
          refine lv_goto (tgt := 135) hx hb d_Mod_extremeSide_89 (by decide) ?_
          exact K_209 (cbl x9.toInt (F 18 ((10 * d) + co)).toInt (F 19 ((10 * d) + co)).toInt (F 18 ((10 * d) + cd)).toInt (F 19 ((10 * d) + cd)).toInt) locs (by simp [c_216]) hS
  exact L_4 (_ + 1) (F 18 ((10 * d) + ck)) (400 : Int32) (-400 : Int32) _ _ _ (Nat.lt_succ_self _) (by omega) (Or.inl ⟨fun x h => by have h1 := h.1.1; have h2 := h.2; unfold bl at h1; omega, kc_400, kc_m400⟩) hP hS (lv_sub hl [3, 4, 5, 6, 7, 8, 9, 2, 1, 0] rfl)
theorem d_Mod_thirdSide_0 : decode b_Mod_thirdSide 0 = .ok (.bipush 10, 2) := by decide +kernel
theorem d_Mod_thirdSide_2 : decode b_Mod_thirdSide 2 = .ok (.iload_n 1, 1) := by decide +kernel
theorem d_Mod_thirdSide_3 : decode b_Mod_thirdSide 3 = .ok (.imul, 1) := by decide +kernel
theorem d_Mod_thirdSide_4 : decode b_Mod_thirdSide 4 = .ok (.istore 7, 2) := by decide +kernel
theorem d_Mod_thirdSide_6 : decode b_Mod_thirdSide 6 = .ok (.sipush 400, 3) := by decide +kernel
theorem d_Mod_thirdSide_9 : decode b_Mod_thirdSide 9 = .ok (.istore 8, 2) := by decide +kernel
theorem d_Mod_thirdSide_11 : decode b_Mod_thirdSide 11 = .ok (.sipush (-400), 3) := by decide +kernel
theorem d_Mod_thirdSide_14 : decode b_Mod_thirdSide 14 = .ok (.istore 9, 2) := by decide +kernel
theorem d_Mod_thirdSide_16 : decode b_Mod_thirdSide 16 = .ok (.iload 5, 2) := by decide +kernel
theorem d_Mod_thirdSide_18 : decode b_Mod_thirdSide 18 = .ok (.aload_n 0, 1) := by decide +kernel
theorem d_Mod_thirdSide_19 : decode b_Mod_thirdSide 19 = .ok (.getfield 50, 3) := by decide +kernel
theorem d_Mod_thirdSide_22 : decode b_Mod_thirdSide 22 = .ok (.iload 7, 2) := by decide +kernel
theorem d_Mod_thirdSide_24 : decode b_Mod_thirdSide 24 = .ok (.iload 4, 2) := by decide +kernel
theorem d_Mod_thirdSide_26 : decode b_Mod_thirdSide 26 = .ok (.iadd, 1) := by decide +kernel
theorem d_Mod_thirdSide_27 : decode b_Mod_thirdSide 27 = .ok (.iaload, 1) := by decide +kernel
theorem d_Mod_thirdSide_28 : decode b_Mod_thirdSide 28 = .ok (.invokestatic 120, 3) := by decide +kernel
theorem d_Mod_thirdSide_31 : decode b_Mod_thirdSide 31 = .ok (.istore 10, 2) := by decide +kernel
theorem d_Mod_thirdSide_33 : decode b_Mod_thirdSide 33 = .ok (.iload 10, 2) := by decide +kernel
theorem d_Mod_thirdSide_35 : decode b_Mod_thirdSide 35 = .ok (.iload 6, 2) := by decide +kernel
theorem d_Mod_thirdSide_37 : decode b_Mod_thirdSide 37 = .ok (.aload_n 0, 1) := by decide +kernel
theorem d_Mod_thirdSide_38 : decode b_Mod_thirdSide 38 = .ok (.getfield 53, 3) := by decide +kernel
theorem d_Mod_thirdSide_41 : decode b_Mod_thirdSide 41 = .ok (.iload 7, 2) := by decide +kernel
theorem d_Mod_thirdSide_43 : decode b_Mod_thirdSide 43 = .ok (.iload 4, 2) := by decide +kernel
theorem d_Mod_thirdSide_45 : decode b_Mod_thirdSide 45 = .ok (.iadd, 1) := by decide +kernel
theorem d_Mod_thirdSide_46 : decode b_Mod_thirdSide 46 = .ok (.iaload, 1) := by decide +kernel
theorem d_Mod_thirdSide_47 : decode b_Mod_thirdSide 47 = .ok (.invokestatic 124, 3) := by decide +kernel
theorem d_Mod_thirdSide_50 : decode b_Mod_thirdSide 50 = .ok (.if_icmp .gt 101, 3) := by decide +kernel
theorem d_Mod_thirdSide_53 : decode b_Mod_thirdSide 53 = .ok (.iload 10, 2) := by decide +kernel
theorem d_Mod_thirdSide_55 : decode b_Mod_thirdSide 55 = .ok (.aload_n 0, 1) := by decide +kernel
theorem d_Mod_thirdSide_56 : decode b_Mod_thirdSide 56 = .ok (.getfield 50, 3) := by decide +kernel
theorem d_Mod_thirdSide_59 : decode b_Mod_thirdSide 59 = .ok (.iload 7, 2) := by decide +kernel
theorem d_Mod_thirdSide_61 : decode b_Mod_thirdSide 61 = .ok (.iload_n 2, 1) := by decide +kernel
theorem d_Mod_thirdSide_62 : decode b_Mod_thirdSide 62 = .ok (.iadd, 1) := by decide +kernel
theorem d_Mod_thirdSide_63 : decode b_Mod_thirdSide 63 = .ok (.iaload, 1) := by decide +kernel
theorem d_Mod_thirdSide_64 : decode b_Mod_thirdSide 64 = .ok (.aload_n 0, 1) := by decide +kernel
theorem d_Mod_thirdSide_65 : decode b_Mod_thirdSide 65 = .ok (.getfield 53, 3) := by decide +kernel
theorem d_Mod_thirdSide_68 : decode b_Mod_thirdSide 68 = .ok (.iload 7, 2) := by decide +kernel
theorem d_Mod_thirdSide_70 : decode b_Mod_thirdSide 70 = .ok (.iload_n 2, 1) := by decide +kernel
theorem d_Mod_thirdSide_71 : decode b_Mod_thirdSide 71 = .ok (.iadd, 1) := by decide +kernel
theorem d_Mod_thirdSide_72 : decode b_Mod_thirdSide 72 = .ok (.iaload, 1) := by decide +kernel
theorem d_Mod_thirdSide_73 : decode b_Mod_thirdSide 73 = .ok (.invokestatic 89, 3) := by decide +kernel
theorem d_Mod_thirdSide_76 : decode b_Mod_thirdSide 76 = .ok (.ifCond .ne 29, 3) := by decide +kernel
theorem d_Mod_thirdSide_79 : decode b_Mod_thirdSide 79 = .ok (.iload 10, 2) := by decide +kernel
theorem d_Mod_thirdSide_81 : decode b_Mod_thirdSide 81 = .ok (.aload_n 0, 1) := by decide +kernel
theorem d_Mod_thirdSide_82 : decode b_Mod_thirdSide 82 = .ok (.getfield 50, 3) := by decide +kernel
theorem d_Mod_thirdSide_85 : decode b_Mod_thirdSide 85 = .ok (.iload 7, 2) := by decide +kernel
theorem d_Mod_thirdSide_87 : decode b_Mod_thirdSide 87 = .ok (.iload_n 3, 1) := by decide +kernel
theorem d_Mod_thirdSide_88 : decode b_Mod_thirdSide 88 = .ok (.iadd, 1) := by decide +kernel
theorem d_Mod_thirdSide_89 : decode b_Mod_thirdSide 89 = .ok (.iaload, 1) := by decide +kernel
theorem d_Mod_thirdSide_90 : decode b_Mod_thirdSide 90 = .ok (.aload_n 0, 1) := by decide +kernel
theorem d_Mod_thirdSide_91 : decode b_Mod_thirdSide 91 = .ok (.getfield 53, 3) := by decide +kernel
theorem d_Mod_thirdSide_94 : decode b_Mod_thirdSide 94 = .ok (.iload 7, 2) := by decide +kernel
theorem d_Mod_thirdSide_96 : decode b_Mod_thirdSide 96 = .ok (.iload_n 3, 1) := by decide +kernel
theorem d_Mod_thirdSide_97 : decode b_Mod_thirdSide 97 = .ok (.iadd, 1) := by decide +kernel
theorem d_Mod_thirdSide_98 : decode b_Mod_thirdSide 98 = .ok (.iaload, 1) := by decide +kernel
theorem d_Mod_thirdSide_99 : decode b_Mod_thirdSide 99 = .ok (.invokestatic 89, 3) := by decide +kernel
theorem d_Mod_thirdSide_102 : decode b_Mod_thirdSide 102 = .ok (.ifCond .eq 7, 3) := by decide +kernel
theorem d_Mod_thirdSide_105 : decode b_Mod_thirdSide 105 = .ok (.iconst 1, 1) := by decide +kernel
theorem d_Mod_thirdSide_106 : decode b_Mod_thirdSide 106 = .ok (.goto 4, 3) := by decide +kernel
theorem d_Mod_thirdSide_109 : decode b_Mod_thirdSide 109 = .ok (.iconst 0, 1) := by decide +kernel
theorem d_Mod_thirdSide_110 : decode b_Mod_thirdSide 110 = .ok (.istore 11, 2) := by decide +kernel
theorem d_Mod_thirdSide_112 : decode b_Mod_thirdSide 112 = .ok (.iload 11, 2) := by decide +kernel
theorem d_Mod_thirdSide_114 : decode b_Mod_thirdSide 114 = .ok (.ifCond .eq 13, 3) := by decide +kernel
theorem d_Mod_thirdSide_117 : decode b_Mod_thirdSide 117 = .ok (.iload 8, 2) := by decide +kernel
theorem d_Mod_thirdSide_119 : decode b_Mod_thirdSide 119 = .ok (.iload 10, 2) := by decide +kernel
theorem d_Mod_thirdSide_121 : decode b_Mod_thirdSide 121 = .ok (.invokestatic 124, 3) := by decide +kernel
theorem d_Mod_thirdSide_124 : decode b_Mod_thirdSide 124 = .ok (.goto 5, 3) := by decide +kernel
theorem d_Mod_thirdSide_127 : decode b_Mod_thirdSide 127 = .ok (.iload 8, 2) := by decide +kernel
theorem d_Mod_thirdSide_129 : decode b_Mod_thirdSide 129 = .ok (.istore 8, 2) := by decide +kernel
theorem d_Mod_thirdSide_131 : decode b_Mod_thirdSide 131 = .ok (.iload 11, 2) := by decide +kernel
theorem d_Mod_thirdSide_133 : decode b_Mod_thirdSide 133 = .ok (.ifCond .eq 8, 3) := by decide +kernel
theorem d_Mod_thirdSide_136 : decode b_Mod_thirdSide 136 = .ok (.iload 10, 2) := by decide +kernel
theorem d_Mod_thirdSide_138 : decode b_Mod_thirdSide 138 = .ok (.goto 5, 3) := by decide +kernel
theorem d_Mod_thirdSide_141 : decode b_Mod_thirdSide 141 = .ok (.iload 9, 2) := by decide +kernel
theorem d_Mod_thirdSide_143 : decode b_Mod_thirdSide 143 = .ok (.istore 9, 2) := by decide +kernel
theorem d_Mod_thirdSide_145 : decode b_Mod_thirdSide 145 = .ok (.iinc 10 1, 3) := by decide +kernel
theorem d_Mod_thirdSide_148 : decode b_Mod_thirdSide 148 = .ok (.goto (-115), 3) := by decide +kernel
theorem d_Mod_thirdSide_151 : decode b_Mod_thirdSide 151 = .ok (.aload_n 0, 1) := by decide +kernel
theorem d_Mod_thirdSide_152 : decode b_Mod_thirdSide 152 = .ok (.iload_n 1, 1) := by decide +kernel
theorem d_Mod_thirdSide_153 : decode b_Mod_thirdSide 153 = .ok (.iload 4, 2) := by decide +kernel
theorem d_Mod_thirdSide_155 : decode b_Mod_thirdSide 155 = .ok (.iload 8, 2) := by decide +kernel
theorem d_Mod_thirdSide_157 : decode b_Mod_thirdSide 157 = .ok (.iload 9, 2) := by decide +kernel
theorem d_Mod_thirdSide_159 : decode b_Mod_thirdSide 159 = .ok (.invokevirtual 160, 3) := by decide +kernel
theorem d_Mod_thirdSide_162 : decode b_Mod_thirdSide 162 = .ok (.ireturn, 1) := by decide +kernel
set_option maxHeartbeats 4000000 in
set_option maxRecDepth 20000 in
theorem k_Mod_thirdSide (l : Launch) (D : va_G) (cA : Nat → ClassId) (adr : Nat → Nat) (hi : wI mN adr) (I : Nat → Int32) (F : Nat → Nat → Int32) (d nn ca cb cd : Nat) (xd xa xb xc f0 t0 : Int32) (ch : Bool) (hn : nn ≤ 10) (hd : d < 12) (hxd : xd.toInt = (d : Int)) (hxa : xa.toInt = (ca : Int)) (hxb : xb.toInt = (cb : Int)) (hxc : xc.toInt = (cd : Int)) (hca : ca < nn) (hcb : cb < nn) (hcd : cd < nn) (hf0 : -100 ≤ f0.toInt ∧ f0.toInt ≤ 100) (ht0 : -100 ≤ t0.toInt ∧ t0.toInt ≤ 100) (hch : I 20 = bi ch) (hne : Ne nn (bl F d) (bh F d)) (hrg : ∀ k, k < nn → -100 ≤ bl F d k ∧ bh F d k ≤ 100) : Ct l y_Mod_thirdSide b_Mod_thirdSide 12 (some .boolean) 6 D cA [.ref (adr 0), .int xd, .int xa, .int xb, .int xc, .int f0, .int t0] (fun H => MP D cA adr I F H) (fun r H => ∃ (f t : Int) (lo hh : Int32), E1 (fun z => (max f0.toInt (bl F d cd) ≤ z ∧ z ≤ min t0.toInt (bh F d cd)) ∧ ((bl F d ca ≤ z ∧ z ≤ bh F d ca) ∨ (bl F d cb ≤ z ∧ z ≤ bh F d cb))) 400 f t ∧ lo.toInt = max (F 18 (10 * d + cd)).toInt f ∧ hh.toInt = min (F 19 (10 * d + cd)).toInt t ∧ r = some (.int (bi (decide (lo.toInt ≤ hh.toInt)))) ∧ MP D cA adr (va_up I 20 (bi (ch || decide ((F 18 (10 * d + cd)).toInt < f ∨ t < (F 19 (10 * d + cd)).toInt)))) (cutF F (10 * d + cd) lo hh) H) (wA mN adr) := by
  refine Ct.mk (by decide) (Nat.le_of_ble_eq_true rfl) ?_
  intro p e s m args below meth c Q H locs ls hx hb hr hml hlk hown hin hK hQ hS hP hl
  have hl : lv_has ls 12 [(0, .ref (adr 0)), (1, .int xd), (2, .int xa), (3, .int xb), (4, .int xc), (5, .int f0), (6, .int t0)] := hl
  have hown : s.vm.findClass "RangeSheetModel" = some m.cls := hown
  have hrca := hrg ca hca; have hnca := hne ca hca; have hrcb := hrg cb hcb; have hncb := hne cb hcb; have hrcd := hrg cd hcd; have hncd := hne cd hcd; unfold bl bh at hrca hnca hrcb hncb hrcd hncd
  refine lv_bipush (v := 10) hx hb d_Mod_thirdSide_0 (by decide) ?_
  refine lv_iload_n hx hb d_Mod_thirdSide_2 rfl (lv_at hl 1 rfl) ?_
  refine x_mul hx hb d_Mod_thirdSide_3 kc_10 hxd (by omega) (fun z_1 tz_1 => ?_)
  refine lv_istore (lv' := [(7, .int z_1), (0, .ref (adr 0)), (1, .int xd), (2, .int xa), (3, .int xb), (4, .int xc), (5, .int f0), (6, .int t0)]) hx hb d_Mod_thirdSide_4 hl (by decide) rfl (fun ls hl => ?_)
  refine lv_sipush (v := 400) hx hb d_Mod_thirdSide_6 (by decide) ?_
  refine lv_istore (lv' := [(8, .int (400 : Int32)), (7, .int z_1), (0, .ref (adr 0)), (1, .int xd), (2, .int xa), (3, .int xb), (4, .int xc), (5, .int f0), (6, .int t0)]) hx hb d_Mod_thirdSide_9 hl (by decide) rfl (fun ls hl => ?_)
  refine lv_sipush (v := (-400)) hx hb d_Mod_thirdSide_11 (by decide) ?_
  refine lv_istore (lv' := [(9, .int (-400 : Int32)), (8, .int (400 : Int32)), (7, .int z_1), (0, .ref (adr 0)), (1, .int xd), (2, .int xa), (3, .int xb), (4, .int xc), (5, .int f0), (6, .int t0)]) hx hb d_Mod_thirdSide_14 hl (by decide) rfl (fun ls hl => ?_)
  refine lv_iload hx hb d_Mod_thirdSide_16 (lv_at hl 8 rfl) ?_
  refine lv_aload_n hx hb d_Mod_thirdSide_18 rfl (lv_at hl 3 rfl) ?_
  refine m_gr hx hb hK hown hP 18 (by decide) t_755 d_Mod_thirdSide_19 ?_
  refine lv_iload hx hb d_Mod_thirdSide_22 (lv_at hl 2 rfl) ?_
  refine lv_iload hx hb d_Mod_thirdSide_24 (lv_at hl 7 rfl) ?_
  refine x_add hx hb d_Mod_thirdSide_26 tz_1 hxc (by omega) (fun z_2 tz_2 => ?_)
  refine m_ld hx hb hK hP 18 (by decide) (((10 * d) + cd)) tz_2 (by omega) (show ((10 * d) + cd) < 120 by omega) d_Mod_thirdSide_27 (fun z_3 ez_3 => ?_)
  subst ez_3
  refine r_Mod_greater hx hb hml hown hK hl.1 hS ⟨Nat.le_of_ble_eq_true rfl, Nat.le_of_ble_eq_true rfl⟩ ⟨Nat.le_of_ble_eq_true rfl, Nat.le_of_ble_eq_true rfl⟩ rfl rfl  d_Mod_thirdSide_28 (Nat.le_of_ble_eq_true rfl) (fun z_4 locs tz_4 hS => ?_)
  refine lv_istore (lv' := [(10, .int z_4), (9, .int (-400 : Int32)), (8, .int (400 : Int32)), (7, .int z_1), (0, .ref (adr 0)), (1, .int xd), (2, .int xa), (3, .int xb), (4, .int xc), (5, .int f0), (6, .int t0)]) hx hb d_Mod_thirdSide_31 hl (by decide) rfl (fun ls hl => ?_)
  have L_5 : ∀ (n : Nat) (x10 : Int32) (x8 : Int32) (x9 : Int32) (H : Heap) (locs : List Loc) (ls : Array Slot), (101 - x10.toInt).toNat < n → (max f0.toInt (F 18 (10 * d + cd)).toInt ≤ x10.toInt ∧ -100 ≤ x10.toInt ∧ x10.toInt ≤ 101) → (E1 (fun z => ((max f0.toInt (bl F d cd) ≤ z ∧ z ≤ min t0.toInt (bh F d cd)) ∧ ((bl F d ca ≤ z ∧ z ≤ bh F d ca) ∨ (bl F d cb ≤ z ∧ z ≤ bh F d cb))) ∧ z < x10.toInt) 400 x8.toInt x9.toInt) → MP D cA adr I F H → va_S (wA mN adr) s.heap H locs → lv_has ls 12 [(7, .int z_1), (0, .ref (adr 0)), (1, .int xd), (2, .int xa), (3, .int xb), (4, .int xc), (5, .int f0), (6, .int t0), (8, .int x8), (9, .int x9), (10, .int x10)] → W p l e (rl 6) s m args below meth c H locs 0 0 Q (F0 m 33 ls []) := by
    intro n
    induction n with
    | zero => intro x10 x8 x9 H locs ls hmu; exact absurd hmu (Nat.not_lt_zero _)
    | succ n ih_5 =>
      intro x10 x8 x9 H locs ls hmu hx10 hE1 hP hS hl
      refine lv_iload hx hb d_Mod_thirdSide_33 (lv_at hl 10 rfl) ?_
      refine lv_iload hx hb d_Mod_thirdSide_35 (lv_at hl 7 rfl) ?_
      refine lv_aload_n hx hb d_Mod_thirdSide_37 rfl (lv_at hl 1 rfl) ?_
      refine m_gr hx hb hK hown hP 19 (by decide) t_756 d_Mod_thirdSide_38 ?_
      refine lv_iload hx hb d_Mod_thirdSide_41 (lv_at hl 0 rfl) ?_
      refine lv_iload hx hb d_Mod_thirdSide_43 (lv_at hl 5 rfl) ?_
      refine x_add hx hb d_Mod_thirdSide_45 tz_1 hxc (by omega) (fun z_6 tz_6 => ?_)
      refine m_ld hx hb hK hP 19 (by decide) (((10 * d) + cd)) tz_6 (by omega) (show ((10 * d) + cd) < 120 by omega) d_Mod_thirdSide_46 (fun z_7 ez_7 => ?_)
      subst ez_7
      refine r_Mod_lesser hx hb hml hown hK hl.1 hS ⟨Nat.le_of_ble_eq_true rfl, Nat.le_of_ble_eq_true rfl⟩ ⟨Nat.le_of_ble_eq_true rfl, Nat.le_of_ble_eq_true rfl⟩ rfl rfl  d_Mod_thirdSide_47 (Nat.le_of_ble_eq_true rfl) (fun z_8 locs tz_8 hS => ?_)
      refine b_icmp_gt (tgt := 151) hx hb d_Mod_thirdSide_50 (by decide) rfl tz_8 (fun c_9 => ?_) (fun c_9 => ?_)
      · refine lv_aload_n hx hb d_Mod_thirdSide_151 rfl (lv_at hl 1 rfl) ?_
        refine lv_iload_n hx hb d_Mod_thirdSide_152 rfl (lv_at hl 2 rfl) ?_
        refine lv_iload hx hb d_Mod_thirdSide_153 (lv_at hl 5 rfl) ?_
        refine lv_iload hx hb d_Mod_thirdSide_155 (lv_at hl 8 rfl) ?_
        refine lv_iload hx hb d_Mod_thirdSide_157 (lv_at hl 9 rfl) ?_
        refine x_V (As := [.int xd, .int xc, .int x8, .int x9]) (rest := []) hx hb hml hown hK (k_Mod_cut l D cA adr hi I F d cd xd xc x8 x9 ch hxd hxc (by omega) (by omega) hch) t_910 t_4 t_907 t_909 ts_20 yk_Mod_cut ⟨Nat.le_of_ble_eq_true rfl, Nat.le_of_ble_eq_true rfl⟩ (m_rec hK hP) hP rfl hl.1 rfl (Nat.le_of_ble_eq_true rfl) d_Mod_thirdSide_159 ⟨Nat.le_of_ble_eq_true rfl, Nat.le_of_ble_eq_true rfl⟩ hS (fun q h => h) (fun r H locs hq _ hS => ?_)
        obtain ⟨lo_10, hh_10, hlo_10, hhh_10, rfl, hP⟩ := hq
        obtain ⟨ch_10, hch_10⟩ : ∃ q : Bool, q = (ch || decide ((F 18 (10 * d + cd)).toInt < x8.toInt ∨ x9.toInt < (F 19 (10 * d + cd)).toInt)) := ⟨_, rfl⟩
        rw [← hch_10] at hP
        refine W.eq (g2 := F0 m 162 ls [.int (bi (decide (lo_10.toInt ≤ hh_10.toInt)))]) rfl ?_
        refine e_z hx hb hr hlk hQ hS d_Mod_thirdSide_162 ?_
        rw [hch_10] at hP
        exact ⟨_, _, lo_10, hh_10, (hE1.congr (fun z => ⟨fun h => h.1, fun h => ⟨h, by have := h.1; unfold bl bh at this; omega⟩⟩)), hlo_10, hhh_10, rfl, hP⟩
      · refine lv_iload hx hb d_Mod_thirdSide_53 (lv_at hl 10 rfl) ?_
        refine lv_aload_n hx hb d_Mod_thirdSide_55 rfl (lv_at hl 1 rfl) ?_
        refine m_gr hx hb hK hown hP 18 (by decide) t_755 d_Mod_thirdSide_56 ?_
        refine lv_iload hx hb d_Mod_thirdSide_59 (lv_at hl 0 rfl) ?_
        refine lv_iload_n hx hb d_Mod_thirdSide_61 rfl (lv_at hl 3 rfl) ?_
        refine x_add hx hb d_Mod_thirdSide_62 tz_1 hxa (by omega) (fun z_11 tz_11 => ?_)
        refine m_ld hx hb hK hP 18 (by decide) (((10 * d) + ca)) tz_11 (by omega) (show ((10 * d) + ca) < 120 by omega) d_Mod_thirdSide_63 (fun z_12 ez_12 => ?_)
        subst ez_12
        refine lv_aload_n hx hb d_Mod_thirdSide_64 rfl (lv_at hl 1 rfl) ?_
        refine m_gr hx hb hK hown hP 19 (by decide) t_756 d_Mod_thirdSide_65 ?_
        refine lv_iload hx hb d_Mod_thirdSide_68 (lv_at hl 0 rfl) ?_
        refine lv_iload_n hx hb d_Mod_thirdSide_70 rfl (lv_at hl 3 rfl) ?_
        refine x_add hx hb d_Mod_thirdSide_71 tz_1 hxa (by omega) (fun z_13 tz_13 => ?_)
        refine m_ld hx hb hK hP 19 (by decide) (((10 * d) + ca)) tz_13 (by omega) (show ((10 * d) + ca) < 120 by omega) d_Mod_thirdSide_72 (fun z_14 ez_14 => ?_)
        subst ez_14
        refine r_Mod_within hx hb hml hown hK hl.1 hS ⟨Nat.le_of_ble_eq_true rfl, Nat.le_of_ble_eq_true rfl⟩ ⟨Nat.le_of_ble_eq_true rfl, Nat.le_of_ble_eq_true rfl⟩ rfl rfl rfl  d_Mod_thirdSide_73 (Nat.le_of_ble_eq_true rfl) (fun locs hS => ?_)
        have K_215 : ∀ (b_215_0 : Bool) (locs : List Loc), (b_215_0 = true ↔ ((decide ((F 18 ((10 * d) + ca)).toInt ≤ x10.toInt ∧ x10.toInt ≤ (F 19 ((10 * d) + ca)).toInt)) = true ∨ (decide ((F 18 ((10 * d) + cb)).toInt ≤ x10.toInt ∧ x10.toInt ≤ (F 19 ((10 * d) + cb)).toInt)) = true)) → va_S (wA mN adr) s.heap H locs → W p l e (rl 6) s m args below meth c H locs 0 0 Q (F0 m 110 ls [.int (bi b_215_0)]) := by
          intro b_215_0 locs hb_215_0 hS
          refine lv_istore (lv' := [(11, .int (bi b_215_0)), (7, .int z_1), (0, .ref (adr 0)), (1, .int xd), (2, .int xa), (3, .int xb), (4, .int xc), (5, .int f0), (6, .int t0), (8, .int x8), (9, .int x9), (10, .int x10)]) hx hb d_Mod_thirdSide_110 hl (by decide) rfl (fun ls hl => ?_)
          refine lv_iload hx hb d_Mod_thirdSide_112 (lv_at hl 0 rfl) ?_
          refine b_bool_eq (tgt := 127) hx hb d_Mod_thirdSide_114 (by decide) (fun c_216 => ?_) (fun c_216 => ?_)
          · refine lv_iload hx hb d_Mod_thirdSide_127 (lv_at hl 9 rfl) ?_
            refine lv_istore (lv' := [(8, .int x8), (11, .int (bi b_215_0)), (7, .int z_1), (0, .ref (adr 0)), (1, .int xd), (2, .int xa), (3, .int xb), (4, .int xc), (5, .int f0), (6, .int t0), (9, .int x9), (10, .int x10)]) hx hb d_Mod_thirdSide_129 hl (by decide) rfl (fun ls hl => ?_)
            refine lv_iload hx hb d_Mod_thirdSide_131 (lv_at hl 1 rfl) ?_
            refine b_bool_eq (tgt := 141) hx hb d_Mod_thirdSide_133 (by decide) (fun c_217 => ?_) (fun c_217 => ?_)
            · refine lv_iload hx hb d_Mod_thirdSide_141 (lv_at hl 10 rfl) ?_
              refine lv_istore (lv' := [(9, .int x9), (8, .int x8), (11, .int (bi b_215_0)), (7, .int z_1), (0, .ref (adr 0)), (1, .int xd), (2, .int xa), (3, .int xb), (4, .int xc), (5, .int f0), (6, .int t0), (10, .int x10)]) hx hb d_Mod_thirdSide_143 hl (by decide) rfl (fun ls hl => ?_)
              refine x_iinc (k := 11) (lv' := fun v_ => [(10, .int v_), (9, .int x9), (8, .int x8), (11, .int (bi b_215_0)), (7, .int z_1), (0, .ref (adr 0)), (1, .int xd), (2, .int xa), (3, .int xb), (4, .int xc), (5, .int f0), (6, .int t0)]) hx hb d_Mod_thirdSide_145 hl rfl rfl (by decide) (by omega) (by decide) (fun v_ => rfl) (fun z_218 tz_218 ls hl => ?_)
              refine lv_goto (tgt := 33) hx hb d_Mod_thirdSide_148 (by decide) ?_
              have hcan : ¬ ((bl F d ca ≤ x10.toInt ∧ x10.toInt ≤ bh F d ca) ∨ (bl F d cb ≤ x10.toInt ∧ x10.toInt ≤ bh F d cb)) := by
                have h := hb_215_0; simp only [decide_eq_true_eq, decide_eq_false_iff_not] at h; unfold bl bh; intro h2; exact absurd (h.mpr (by omega)) (by rw [c_216]; decide)
              have hE9 := hE1.skip (x0 := x10.toInt) (fun h => hcan h.2)
              rw [← tz_218] at hE9
              exact ih_5 z_218 x8 x9 _ _ _ (by omega) (by omega) hE9 hP hS (lv_sub hl [4, 5, 6, 7, 8, 9, 10, 11, 2, 1, 0] rfl)
            · rw [c_216] at c_217; cases c_217
          · refine lv_iload hx hb d_Mod_thirdSide_117 (lv_at hl 9 rfl) ?_
            refine lv_iload hx hb d_Mod_thirdSide_119 (lv_at hl 11 rfl) ?_
            refine r_Mod_lesser hx hb hml hown hK hl.1 hS ⟨Nat.le_of_ble_eq_true rfl, Nat.le_of_ble_eq_true rfl⟩ ⟨Nat.le_of_ble_eq_true rfl, Nat.le_of_ble_eq_true rfl⟩ rfl rfl  d_Mod_thirdSide_121 (Nat.le_of_ble_eq_true rfl) (fun z_219 locs tz_219 hS => ?_)
            refine lv_goto (tgt := 129) hx hb d_Mod_thirdSide_124 (by decide) ?_
            refine lv_istore (lv' := [(8, .int z_219), (11, .int (bi b_215_0)), (7, .int z_1), (0, .ref (adr 0)), (1, .int xd), (2, .int xa), (3, .int xb), (4, .int xc), (5, .int f0), (6, .int t0), (9, .int x9), (10, .int x10)]) hx hb d_Mod_thirdSide_129 hl (by decide) rfl (fun ls hl => ?_)
            refine lv_iload hx hb d_Mod_thirdSide_131 (lv_at hl 1 rfl) ?_
            refine b_bool_eq (tgt := 141) hx hb d_Mod_thirdSide_133 (by decide) (fun c_220 => ?_) (fun c_220 => ?_)
            · rw [c_216] at c_220; cases c_220
            · refine lv_iload hx hb d_Mod_thirdSide_136 (lv_at hl 11 rfl) ?_
              refine lv_goto (tgt := 143) hx hb d_Mod_thirdSide_138 (by decide) ?_
              refine lv_istore (lv' := [(9, .int x10), (8, .int z_219), (11, .int (bi b_215_0)), (7, .int z_1), (0, .ref (adr 0)), (1, .int xd), (2, .int xa), (3, .int xb), (4, .int xc), (5, .int f0), (6, .int t0), (10, .int x10)]) hx hb d_Mod_thirdSide_143 hl (by decide) rfl (fun ls hl => ?_)
              refine x_iinc (k := 11) (lv' := fun v_ => [(10, .int v_), (9, .int x10), (8, .int z_219), (11, .int (bi b_215_0)), (7, .int z_1), (0, .ref (adr 0)), (1, .int xd), (2, .int xa), (3, .int xb), (4, .int xc), (5, .int f0), (6, .int t0)]) hx hb d_Mod_thirdSide_145 hl rfl rfl (by decide) (by omega) (by decide) (fun v_ => rfl) (fun z_221 tz_221 ls hl => ?_)
              refine lv_goto (tgt := 33) hx hb d_Mod_thirdSide_148 (by decide) ?_
              have hcan : ((bl F d ca ≤ x10.toInt ∧ x10.toInt ≤ bh F d ca) ∨ (bl F d cb ≤ x10.toInt ∧ x10.toInt ≤ bh F d cb)) := by
                have h := hb_215_0; simp only [decide_eq_true_eq, decide_eq_false_iff_not] at h; unfold bl bh; have h := h.mp c_216; omega
              have hE9 := hE1.add (x0 := x10.toInt) ⟨by unfold bl bh; omega, hcan⟩ (by omega)
              rw [← tz_219, ← tz_221] at hE9
              exact ih_5 z_221 z_219 x10 _ _ _ (by omega) (by omega) hE9 hP hS (lv_sub hl [4, 5, 6, 7, 8, 9, 10, 11, 2, 1, 0] rfl)
        refine b_bool_ne (tgt := 105) hx hb d_Mod_thirdSide_76 (by decide) (fun c_222 => ?_) (fun c_222 => ?_)
        · refine lv_iconst (v := 1) hx hb d_Mod_thirdSide_105 (by decide) ?_
          refine lv_goto (tgt := 110) hx hb d_Mod_thirdSide_106 (by decide) ?_
          exact K_215 true locs ⟨fun _ => by first | omega | (simp [c_222]; done) | (simp [c_222]; omega) | (simp only [decide_eq_true_eq, decide_eq_false_iff_not]; have hc_222 := of_decide_eq_true c_222; omega), fun _ => rfl⟩ hS
        · refine lv_iload hx hb d_Mod_thirdSide_79 (lv_at hl 10 rfl) ?_
          refine lv_aload_n hx hb d_Mod_thirdSide_81 rfl (lv_at hl 1 rfl) ?_
          refine m_gr hx hb hK hown hP 18 (by decide) t_755 d_Mod_thirdSide_82 ?_
          refine lv_iload hx hb d_Mod_thirdSide_85 (lv_at hl 0 rfl) ?_
          refine lv_iload_n hx hb d_Mod_thirdSide_87 rfl (lv_at hl 4 rfl) ?_
          refine x_add hx hb d_Mod_thirdSide_88 tz_1 hxb (by omega) (fun z_223 tz_223 => ?_)
          refine m_ld hx hb hK hP 18 (by decide) (((10 * d) + cb)) tz_223 (by omega) (show ((10 * d) + cb) < 120 by omega) d_Mod_thirdSide_89 (fun z_224 ez_224 => ?_)
          subst ez_224
          refine lv_aload_n hx hb d_Mod_thirdSide_90 rfl (lv_at hl 1 rfl) ?_
          refine m_gr hx hb hK hown hP 19 (by decide) t_756 d_Mod_thirdSide_91 ?_
          refine lv_iload hx hb d_Mod_thirdSide_94 (lv_at hl 0 rfl) ?_
          refine lv_iload_n hx hb d_Mod_thirdSide_96 rfl (lv_at hl 4 rfl) ?_
          refine x_add hx hb d_Mod_thirdSide_97 tz_1 hxb (by omega) (fun z_225 tz_225 => ?_)
          refine m_ld hx hb hK hP 19 (by decide) (((10 * d) + cb)) tz_225 (by omega) (show ((10 * d) + cb) < 120 by omega) d_Mod_thirdSide_98 (fun z_226 ez_226 => ?_)
          subst ez_226
          refine r_Mod_within hx hb hml hown hK hl.1 hS ⟨Nat.le_of_ble_eq_true rfl, Nat.le_of_ble_eq_true rfl⟩ ⟨Nat.le_of_ble_eq_true rfl, Nat.le_of_ble_eq_true rfl⟩ rfl rfl rfl  d_Mod_thirdSide_99 (Nat.le_of_ble_eq_true rfl) (fun locs hS => ?_)
          refine b_bool_eq (tgt := 109) hx hb d_Mod_thirdSide_102 (by decide) (fun c_227 => ?_) (fun c_227 => ?_)
          · refine lv_iconst (v := 0) hx hb d_Mod_thirdSide_109 (by decide) ?_
            exact K_215 false locs ⟨fun h => absurd h (by decide), fun h => absurd h (by first | omega | (simp [c_222, c_227]; done) | (simp [c_222, c_227]; omega) | (simp only [decide_eq_true_eq, decide_eq_false_iff_not]; have hc_222 := of_decide_eq_false c_222; have hc_227 := of_decide_eq_false c_227; omega))⟩ hS
          · refine lv_iconst (v := 1) hx hb d_Mod_thirdSide_105 (by decide) ?_
            refine lv_goto (tgt := 110) hx hb d_Mod_thirdSide_106 (by decide) ?_
            exact K_215 true locs ⟨fun _ => by first | omega | (simp [c_222, c_227]; done) | (simp [c_222, c_227]; omega) | (simp only [decide_eq_true_eq, decide_eq_false_iff_not]; have hc_222 := of_decide_eq_false c_222; have hc_227 := of_decide_eq_true c_227; omega), fun _ => rfl⟩ hS
  exact L_5 (_ + 1) z_4 (400 : Int32) (-400 : Int32) _ _ _ (Nat.lt_succ_self _) (by have := tz_4; omega) (Or.inl ⟨fun x h => by have h1 := h.1.1; have h2 := h.2; have h3 := tz_4; unfold bl at h1; omega, kc_400, kc_m400⟩) hP hS (lv_sub hl [3, 4, 5, 6, 7, 8, 9, 10, 2, 1, 0] rfl)
