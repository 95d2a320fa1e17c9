/-- what a search leaves alone -/
def FS (I I' : Nat → Int32) (F F' : Nat → Nat → Int32) : Prop := (∀ k, (k < 20 ∨ (26 < k ∧ k ≠ 31 ∧ k ≠ 32)) → I' k = I k) ∧ (∀ n, n ≠ 18 → n ≠ 19 → n ≠ 27 → n ≠ 33 → n ≠ 34 → n ≠ 35 → F' n = F n)
theorem FS.ft {I I' : Nat → Int32} {F F' : Nat → Nat → Int32} (h : FS I I' F F') : FT F F' := by
  have q := h.2
  exact ⟨q 5 (by decide) (by decide) (by decide) (by decide) (by decide) (by decide), q 6 (by decide) (by decide) (by decide) (by decide) (by decide) (by decide), q 7 (by decide) (by decide) (by decide) (by decide) (by decide) (by decide), q 8 (by decide) (by decide) (by decide) (by decide) (by decide) (by decide), q 9 (by decide) (by decide) (by decide) (by decide) (by decide) (by decide), q 10 (by decide) (by decide) (by decide) (by decide) (by decide) (by decide), q 11 (by decide) (by decide) (by decide) (by decide) (by decide) (by decide), q 12 (by decide) (by decide) (by decide) (by decide) (by decide) (by decide)⟩
theorem FS.wr {I I' : Nat → Int32} {F F' : Nat → Nat → Int32} {n m : Nat} (h : FS I I' F F') (w : WR I F n m) : WR I' F' n m := w.fr (h.1 1 (by omega)) (h.1 4 (by omega)) h.ft
theorem FS.d {d : Nat} {I I' I'' : Nat → Int32} {F F' F'' : Nat → Nat → Int32} (h : FS I I' F F') (g : FrD d I' I'' F' F'') : FS I I'' F F'' := ⟨fun k hk => (g.1 k (by omega)).trans (h.1 k hk), fun n a b c d e f => (g.2.1 n a b c).trans (h.2 n a b c d e f)⟩
/-- the boxes of a search -/
def SBx (nn : Nat) (F : Nat → Nat → Int32) (X : Nat → Bx) (d : Nat) : Prop := ∀ j, j < d → Eqb nn (bl F j) (bh F j) (X j).1 (X j).2 ∧ (∀ i, i < nn → -100 ≤ (X j).1 i ∧ (X j).1 i ≤ (X j).2 i ∧ (X j).2 i ≤ 100) ∧ j ≤ fxc nn (X j)
/-- what is tried, how often -/
def SKT (nn : Nat) (F : Nat → Nat → Int32) (X : Nat → Bx) (K T : Nat → Nat) (d : Nat) : Prop := ∀ j, j < d → (F 34 j).toInt = (K j : Int) ∧ (F 35 j).toInt = (T j : Int) ∧ K j < nn ∧ (X j).1 (K j) < (X j).2 (K j) ∧ T j ≤ wid (X j) (K j)
theorem SBx.fr {nn d e : Nat} {I I' : Nat → Int32} {F F' : Nat → Nat → Int32} {X : Nat → Bx} (h : SBx nn F X d) (hn : nn ≤ 10) (g : FrD e I I' F F') (hd : d ≤ e) : SBx nn F' X d := fun j hj => by
  refine ⟨fun i hi => ?_, (h j hj).2⟩
  have h1 := (h j hj).1 i hi
  have h2 := g.2.2 (10 * j + i) (by omega)
  unfold bl bh at *
  rw [h2.1, h2.2]
  exact h1
theorem SBx.up {nn d : Nat} {F : Nat → Nat → Int32} {X : Nat → Bx} {y : Bx} (h : SBx nn F X d) (e : Eqb nn (bl F d) (bh F d) y.1 y.2) (hr : ∀ i, i < nn → -100 ≤ y.1 i ∧ y.1 i ≤ y.2 i ∧ y.2 i ≤ 100) (hf : d ≤ fxc nn y) : SBx nn F (va_up X d y) (d + 1) := fun j hj => by
  rcases (by omega : j < d ∨ j = d) with z | z
  · rw [va_up_ne _ _ (by omega)]; exact h j z
  · subst z; rw [va_up_self]; exact ⟨e, hr, hf⟩
theorem SKT.fr {nn d e : Nat} {I I' : Nat → Int32} {F F' : Nat → Nat → Int32} {X : Nat → Bx} {K T : Nat → Nat} (h : SKT nn F X K T d) (g : FrD e I I' F F') : SKT nn F' X K T d := fun j hj => by
  rw [g.2.1 34 (by decide) (by decide) (by decide), g.2.1 35 (by decide) (by decide) (by decide)]; exact h j hj
theorem SKT.x {nn d e : Nat} {F : Nat → Nat → Int32} {X : Nat → Bx} {K T : Nat → Nat} {y : Bx} (h : SKT nn F X K T d) (hd : d ≤ e) : SKT nn F (va_up X e y) K T d := fun j hj => by
  rw [va_up_ne _ _ (show j ≠ e by omega)]; exact h j hj
theorem SKT.new {nn d k : Nat} {F : Nat → Nat → Int32} {X : Nat → Bx} {K T : Nat → Nat} {z t : Int32} (h : SKT nn F X K T d) (hz : z.toInt = (k : Int)) (ht : t.toInt = 0) (hk : k < nn) (ho : (X d).1 k < (X d).2 k) : SKT nn (va_up (va_up F 34 (upd (F 34) d z)) 35 (upd ((va_up F 34 (upd (F 34) d z)) 35) d t)) X (va_up K d k) (va_up T d 0) (d + 1) := fun j hj => by
  rcases (by omega : j < d ∨ j = d) with q | q
  · have q2 : j ≠ d := by omega
    have := h j q
    rw [va_up_ne _ _ q2, va_up_ne _ _ q2]
    refine ⟨?_, ?_, this.2.2⟩
    · simp [va_up, upd, q2]; exact this.1
    · simp [va_up, upd, q2]; exact this.2.1
  · subst q
    simp [va_up, upd, hz, ht, hk, ho]
theorem SKT.step {nn d : Nat} {F : Nat → Nat → Int32} {X : Nat → Bx} {K T : Nat → Nat} {z : Int32} (h : SKT nn F X K T (d + 1)) (hz : z.toInt = (T d : Int) + 1) (ht : T d < wid (X d) (K d)) : SKT nn (va_up F 35 (upd (F 35) d z)) X K (va_up T d (T d + 1)) (d + 1) := fun j hj => by
  have := h j hj
  by_cases q : j = d
  · subst q
    simp only [va_up, upd, if_true]
    refine ⟨by simpa using this.1, by simp [hz], this.2.2.1, this.2.2.2.1, by omega⟩
  · rw [va_up_ne _ _ q]
    refine ⟨?_, ?_, this.2.2⟩
    · simp [va_up]; exact this.1
    · simp [va_up, upd, q]; exact this.2.1
def FP (F F' : Nat → Nat → Int32) : Prop := ∀ n, n ≠ 34 → n ≠ 35 → F' n = F n
theorem SBx.fp {nn d : Nat} {F F' : Nat → Nat → Int32} {X : Nat → Bx} (h : SBx nn F X d) (g : FP F F') : SBx nn F' X d := fun j hj => by
  have := h j hj
  unfold bl bh at *
  rw [g 18 (by decide) (by decide), g 19 (by decide) (by decide)]
  exact this
theorem FS.fp {I I' : Nat → Int32} {F F' F'' : Nat → Nat → Int32} (h : FS I I' F F') (g : FP F' F'') : FS I I' F F'' := ⟨h.1, fun n a b c d e f => (g n e f).trans (h.2 n a b c d e f)⟩
theorem FP.new {F : Nat → Nat → Int32} {g h : Nat → Int32} : FP F (va_up (va_up F 34 g) 35 h) := fun n a b => by simp [va_up, a, b]
theorem FP.one {F : Nat → Nat → Int32} {h : Nat → Int32} : FP F (va_up F 35 h) := fun n a b => by simp [va_up, b]
theorem i32_of {z : Int32} {v : Int} (h : z.toInt = v) : z = Int32.ofInt v := by rw [← h, Int32.ofInt_toInt]
theorem FT.trans {F F' F'' : Nat → Nat → Int32} (h : FT F F') (g : FT F' F'') : FT F F'' := ⟨g.1.trans h.1, g.2.1.trans h.2.1, g.2.2.1.trans h.2.2.1, g.2.2.2.1.trans h.2.2.2.1, g.2.2.2.2.1.trans h.2.2.2.2.1, g.2.2.2.2.2.1.trans h.2.2.2.2.2.1, g.2.2.2.2.2.2.1.trans h.2.2.2.2.2.2.1, g.2.2.2.2.2.2.2.trans h.2.2.2.2.2.2.2⟩
theorem d_Mod_search_0 : decode b_Mod_search 0 = .ok (.aload_n 0, 1) := by decide +kernel
theorem d_Mod_search_1 : decode b_Mod_search 1 = .ok (.iconst 0, 1) := by decide +kernel
theorem d_Mod_search_2 : decode b_Mod_search 2 = .ok (.putfield 217, 3) := by decide +kernel
theorem d_Mod_search_5 : decode b_Mod_search 5 = .ok (.aload_n 0, 1) := by decide +kernel
theorem d_Mod_search_6 : decode b_Mod_search 6 = .ok (.aload_n 0, 1) := by decide +kernel
theorem d_Mod_search_7 : decode b_Mod_search 7 = .ok (.getfield 110, 3) := by decide +kernel
theorem d_Mod_search_10 : decode b_Mod_search 10 = .ok (.invokevirtual 208, 3) := by decide +kernel
theorem d_Mod_search_13 : decode b_Mod_search 13 = .ok (.ifCond .ne 5, 3) := by decide +kernel
theorem d_Mod_search_16 : decode b_Mod_search 16 = .ok (.iconst 0, 1) := by decide +kernel
theorem d_Mod_search_17 : decode b_Mod_search 17 = .ok (.ireturn, 1) := by decide +kernel
theorem d_Mod_search_18 : decode b_Mod_search 18 = .ok (.iconst 0, 1) := by decide +kernel
theorem d_Mod_search_19 : decode b_Mod_search 19 = .ok (.istore 4, 2) := by decide +kernel
theorem d_Mod_search_21 : decode b_Mod_search 21 = .ok (.iconst 1, 1) := by decide +kernel
theorem d_Mod_search_22 : decode b_Mod_search 22 = .ok (.istore 5, 2) := by decide +kernel
theorem d_Mod_search_24 : decode b_Mod_search 24 = .ok (.iload 4, 2) := by decide +kernel
theorem d_Mod_search_26 : decode b_Mod_search 26 = .ok (.ifCond .lt 209, 3) := by decide +kernel
theorem d_Mod_search_29 : decode b_Mod_search 29 = .ok (.iload 5, 2) := by decide +kernel
theorem d_Mod_search_31 : decode b_Mod_search 31 = .ok (.ifCond .eq 43, 3) := by decide +kernel
theorem d_Mod_search_34 : decode b_Mod_search 34 = .ok (.aload_n 0, 1) := by decide +kernel
theorem d_Mod_search_35 : decode b_Mod_search 35 = .ok (.getfield 68, 3) := by decide +kernel
theorem d_Mod_search_38 : decode b_Mod_search 38 = .ok (.iload 4, 2) := by decide +kernel
theorem d_Mod_search_40 : decode b_Mod_search 40 = .ok (.aload_n 0, 1) := by decide +kernel
theorem d_Mod_search_41 : decode b_Mod_search 41 = .ok (.iload 4, 2) := by decide +kernel
theorem d_Mod_search_43 : decode b_Mod_search 43 = .ok (.iload_n 1, 1) := by decide +kernel
theorem d_Mod_search_44 : decode b_Mod_search 44 = .ok (.invokevirtual 220, 3) := by decide +kernel
theorem d_Mod_search_47 : decode b_Mod_search 47 = .ok (.iastore, 1) := by decide +kernel
theorem d_Mod_search_48 : decode b_Mod_search 48 = .ok (.aload_n 0, 1) := by decide +kernel
theorem d_Mod_search_49 : decode b_Mod_search 49 = .ok (.getfield 71, 3) := by decide +kernel
theorem d_Mod_search_52 : decode b_Mod_search 52 = .ok (.iload 4, 2) := by decide +kernel
theorem d_Mod_search_54 : decode b_Mod_search 54 = .ok (.iconst 0, 1) := by decide +kernel
theorem d_Mod_search_55 : decode b_Mod_search 55 = .ok (.iastore, 1) := by decide +kernel
theorem d_Mod_search_56 : decode b_Mod_search 56 = .ok (.aload_n 0, 1) := by decide +kernel
theorem d_Mod_search_57 : decode b_Mod_search 57 = .ok (.getfield 68, 3) := by decide +kernel
theorem d_Mod_search_60 : decode b_Mod_search 60 = .ok (.iload 4, 2) := by decide +kernel
theorem d_Mod_search_62 : decode b_Mod_search 62 = .ok (.iaload, 1) := by decide +kernel
theorem d_Mod_search_63 : decode b_Mod_search 63 = .ok (.ifCond .ge 11, 3) := by decide +kernel
theorem d_Mod_search_66 : decode b_Mod_search 66 = .ok (.aload_n 0, 1) := by decide +kernel
theorem d_Mod_search_67 : decode b_Mod_search 67 = .ok (.iload 4, 2) := by decide +kernel
theorem d_Mod_search_69 : decode b_Mod_search 69 = .ok (.invokevirtual 223, 3) := by decide +kernel
theorem d_Mod_search_72 : decode b_Mod_search 72 = .ok (.iconst 1, 1) := by decide +kernel
theorem d_Mod_search_73 : decode b_Mod_search 73 = .ok (.ireturn, 1) := by decide +kernel
theorem d_Mod_search_74 : decode b_Mod_search 74 = .ok (.bipush 10, 2) := by decide +kernel
theorem d_Mod_search_76 : decode b_Mod_search 76 = .ok (.iload 4, 2) := by decide +kernel
theorem d_Mod_search_78 : decode b_Mod_search 78 = .ok (.imul, 1) := by decide +kernel
theorem d_Mod_search_79 : decode b_Mod_search 79 = .ok (.aload_n 0, 1) := by decide +kernel
theorem d_Mod_search_80 : decode b_Mod_search 80 = .ok (.getfield 68, 3) := by decide +kernel
theorem d_Mod_search_83 : decode b_Mod_search 83 = .ok (.iload 4, 2) := by decide +kernel
theorem d_Mod_search_85 : decode b_Mod_search 85 = .ok (.iaload, 1) := by decide +kernel
theorem d_Mod_search_86 : decode b_Mod_search 86 = .ok (.iadd, 1) := by decide +kernel
theorem d_Mod_search_87 : decode b_Mod_search 87 = .ok (.istore 6, 2) := by decide +kernel
theorem d_Mod_search_89 : decode b_Mod_search 89 = .ok (.iconst 0, 1) := by decide +kernel
theorem d_Mod_search_90 : decode b_Mod_search 90 = .ok (.istore 5, 2) := by decide +kernel
theorem d_Mod_search_92 : decode b_Mod_search 92 = .ok (.aload_n 0, 1) := by decide +kernel
theorem d_Mod_search_93 : decode b_Mod_search 93 = .ok (.getfield 50, 3) := by decide +kernel
theorem d_Mod_search_96 : decode b_Mod_search 96 = .ok (.iload 6, 2) := by decide +kernel
theorem d_Mod_search_98 : decode b_Mod_search 98 = .ok (.iaload, 1) := by decide +kernel
theorem d_Mod_search_99 : decode b_Mod_search 99 = .ok (.aload_n 0, 1) := by decide +kernel
theorem d_Mod_search_100 : decode b_Mod_search 100 = .ok (.getfield 71, 3) := by decide +kernel
theorem d_Mod_search_103 : decode b_Mod_search 103 = .ok (.iload 4, 2) := by decide +kernel
theorem d_Mod_search_105 : decode b_Mod_search 105 = .ok (.iaload, 1) := by decide +kernel
theorem d_Mod_search_106 : decode b_Mod_search 106 = .ok (.iadd, 1) := by decide +kernel
theorem d_Mod_search_107 : decode b_Mod_search 107 = .ok (.aload_n 0, 1) := by decide +kernel
theorem d_Mod_search_108 : decode b_Mod_search 108 = .ok (.getfield 53, 3) := by decide +kernel
theorem d_Mod_search_111 : decode b_Mod_search 111 = .ok (.iload 6, 2) := by decide +kernel
theorem d_Mod_search_113 : decode b_Mod_search 113 = .ok (.iaload, 1) := by decide +kernel
theorem d_Mod_search_114 : decode b_Mod_search 114 = .ok (.if_icmp .le 9, 3) := by decide +kernel
theorem d_Mod_search_117 : decode b_Mod_search 117 = .ok (.iinc 4 (-1), 3) := by decide +kernel
theorem d_Mod_search_120 : decode b_Mod_search 120 = .ok (.goto 112, 3) := by decide +kernel
theorem d_Mod_search_123 : decode b_Mod_search 123 = .ok (.aload_n 0, 1) := by decide +kernel
theorem d_Mod_search_124 : decode b_Mod_search 124 = .ok (.getfield 217, 3) := by decide +kernel
theorem d_Mod_search_127 : decode b_Mod_search 127 = .ok (.iload_n 3, 1) := by decide +kernel
theorem d_Mod_search_128 : decode b_Mod_search 128 = .ok (.if_icmp .ne 7, 3) := by decide +kernel
theorem d_Mod_search_131 : decode b_Mod_search 131 = .ok (.sipush (-1000), 3) := by decide +kernel
theorem d_Mod_search_134 : decode b_Mod_search 134 = .ok (.ireturn, 1) := by decide +kernel
theorem d_Mod_search_135 : decode b_Mod_search 135 = .ok (.aload_n 0, 1) := by decide +kernel
theorem d_Mod_search_136 : decode b_Mod_search 136 = .ok (.dup, 1) := by decide +kernel
theorem d_Mod_search_137 : decode b_Mod_search 137 = .ok (.getfield 217, 3) := by decide +kernel
theorem d_Mod_search_140 : decode b_Mod_search 140 = .ok (.iconst 1, 1) := by decide +kernel
theorem d_Mod_search_141 : decode b_Mod_search 141 = .ok (.iadd, 1) := by decide +kernel
theorem d_Mod_search_142 : decode b_Mod_search 142 = .ok (.putfield 217, 3) := by decide +kernel
theorem d_Mod_search_145 : decode b_Mod_search 145 = .ok (.iload_n 2, 1) := by decide +kernel
theorem d_Mod_search_146 : decode b_Mod_search 146 = .ok (.ifCond .eq 32, 3) := by decide +kernel
theorem d_Mod_search_149 : decode b_Mod_search 149 = .ok (.aload_n 0, 1) := by decide +kernel
theorem d_Mod_search_150 : decode b_Mod_search 150 = .ok (.getfield 68, 3) := by decide +kernel
theorem d_Mod_search_153 : decode b_Mod_search 153 = .ok (.iload 4, 2) := by decide +kernel
theorem d_Mod_search_155 : decode b_Mod_search 155 = .ok (.iaload, 1) := by decide +kernel
theorem d_Mod_search_156 : decode b_Mod_search 156 = .ok (.iload_n 1, 1) := by decide +kernel
theorem d_Mod_search_157 : decode b_Mod_search 157 = .ok (.if_icmp .ne 21, 3) := by decide +kernel
theorem d_Mod_search_160 : decode b_Mod_search 160 = .ok (.aload_n 0, 1) := by decide +kernel
theorem d_Mod_search_161 : decode b_Mod_search 161 = .ok (.getfield 53, 3) := by decide +kernel
theorem d_Mod_search_164 : decode b_Mod_search 164 = .ok (.iload 6, 2) := by decide +kernel
theorem d_Mod_search_166 : decode b_Mod_search 166 = .ok (.iaload, 1) := by decide +kernel
theorem d_Mod_search_167 : decode b_Mod_search 167 = .ok (.aload_n 0, 1) := by decide +kernel
theorem d_Mod_search_168 : decode b_Mod_search 168 = .ok (.getfield 71, 3) := by decide +kernel
theorem d_Mod_search_171 : decode b_Mod_search 171 = .ok (.iload 4, 2) := by decide +kernel
theorem d_Mod_search_173 : decode b_Mod_search 173 = .ok (.iaload, 1) := by decide +kernel
theorem d_Mod_search_174 : decode b_Mod_search 174 = .ok (.isub, 1) := by decide +kernel
theorem d_Mod_search_175 : decode b_Mod_search 175 = .ok (.goto 18, 3) := by decide +kernel
theorem d_Mod_search_178 : decode b_Mod_search 178 = .ok (.aload_n 0, 1) := by decide +kernel
theorem d_Mod_search_179 : decode b_Mod_search 179 = .ok (.getfield 50, 3) := by decide +kernel
theorem d_Mod_search_182 : decode b_Mod_search 182 = .ok (.iload 6, 2) := by decide +kernel
theorem d_Mod_search_184 : decode b_Mod_search 184 = .ok (.iaload, 1) := by decide +kernel
theorem d_Mod_search_185 : decode b_Mod_search 185 = .ok (.aload_n 0, 1) := by decide +kernel
theorem d_Mod_search_186 : decode b_Mod_search 186 = .ok (.getfield 71, 3) := by decide +kernel
theorem d_Mod_search_189 : decode b_Mod_search 189 = .ok (.iload 4, 2) := by decide +kernel
theorem d_Mod_search_191 : decode b_Mod_search 191 = .ok (.iaload, 1) := by decide +kernel
theorem d_Mod_search_192 : decode b_Mod_search 192 = .ok (.iadd, 1) := by decide +kernel
theorem d_Mod_search_193 : decode b_Mod_search 193 = .ok (.istore 7, 2) := by decide +kernel
theorem d_Mod_search_195 : decode b_Mod_search 195 = .ok (.aload_n 0, 1) := by decide +kernel
theorem d_Mod_search_196 : decode b_Mod_search 196 = .ok (.getfield 71, 3) := by decide +kernel
theorem d_Mod_search_199 : decode b_Mod_search 199 = .ok (.iload 4, 2) := by decide +kernel
theorem d_Mod_search_201 : decode b_Mod_search 201 = .ok (.dup2, 1) := by decide +kernel
theorem d_Mod_search_202 : decode b_Mod_search 202 = .ok (.iaload, 1) := by decide +kernel
theorem d_Mod_search_203 : decode b_Mod_search 203 = .ok (.iconst 1, 1) := by decide +kernel
theorem d_Mod_search_204 : decode b_Mod_search 204 = .ok (.iadd, 1) := by decide +kernel
theorem d_Mod_search_205 : decode b_Mod_search 205 = .ok (.iastore, 1) := by decide +kernel
theorem d_Mod_search_206 : decode b_Mod_search 206 = .ok (.aload_n 0, 1) := by decide +kernel
theorem d_Mod_search_207 : decode b_Mod_search 207 = .ok (.iload 4, 2) := by decide +kernel
theorem d_Mod_search_209 : decode b_Mod_search 209 = .ok (.iload 7, 2) := by decide +kernel
theorem d_Mod_search_211 : decode b_Mod_search 211 = .ok (.invokevirtual 227, 3) := by decide +kernel
theorem d_Mod_search_214 : decode b_Mod_search 214 = .ok (.istore 5, 2) := by decide +kernel
theorem d_Mod_search_216 : decode b_Mod_search 216 = .ok (.iload 5, 2) := by decide +kernel
theorem d_Mod_search_218 : decode b_Mod_search 218 = .ok (.ifCond .eq 10, 3) := by decide +kernel
theorem d_Mod_search_221 : decode b_Mod_search 221 = .ok (.iload 4, 2) := by decide +kernel
theorem d_Mod_search_223 : decode b_Mod_search 223 = .ok (.iconst 1, 1) := by decide +kernel
theorem d_Mod_search_224 : decode b_Mod_search 224 = .ok (.iadd, 1) := by decide +kernel
theorem d_Mod_search_225 : decode b_Mod_search 225 = .ok (.goto 5, 3) := by decide +kernel
theorem d_Mod_search_228 : decode b_Mod_search 228 = .ok (.iload 4, 2) := by decide +kernel
theorem d_Mod_search_230 : decode b_Mod_search 230 = .ok (.istore 4, 2) := by decide +kernel
theorem d_Mod_search_232 : decode b_Mod_search 232 = .ok (.goto (-208), 3) := by decide +kernel
theorem d_Mod_search_235 : decode b_Mod_search 235 = .ok (.iconst 0, 1) := by decide +kernel
theorem d_Mod_search_236 : decode b_Mod_search 236 = .ok (.ireturn, 1) := by decide +kernel
set_option maxHeartbeats 4000000 in
set_option maxRecDepth 20000 in
theorem k_Mod_search (l : Launch) (D : va_G) (cA : Nat → ClassId) (adr : Nat → Nat) (hi : wI mN adr) (I : Nat → Int32) (F : Nat → Nat → Int32) (nn mm en mk lim : Nat) (xl xlim : Int32) (dn ch : Bool) (hch : I 20 = bi ch) (hW : WR I F nn mm) (hE : WE F nn en) (hen : (I 13).toInt = (en : Int)) (hmk : (I 17).toInt = (mk : Int)) (hld : xl.toInt < nn) (hlim : xlim.toInt = (lim : Int)) (hl300 : lim ≤ 300) : Ct l y_Mod_search b_Mod_search 8 (some .int) 18 D cA [.ref (adr 0), .int xl, .int (bi dn), .int xlim] (fun H => MP D cA adr I F H) (fun r H => ∃ (I2 : Nat → Int32) (F2 : Nat → Nat → Int32) (z : Int32) (c2 : Bool), r = some (.int z) ∧ z.toInt = (fnd F nn mm en mk lim xl.toInt dn).1 ∧ I2 20 = bi c2 ∧ (I2 31).toInt = ((fnd F nn mm en mk lim xl.toInt dn).2.1 : Int) ∧ (fnd F nn mm en mk lim xl.toInt dn).2.1 ≤ lim ∧ FS I I2 F F2 ∧ ((fnd F nn mm en mk lim xl.toInt dn).1 = 1 → (I2 32 = I 1 ∧ F2 33 = fun k => if k < nn then Int32.ofInt ((fnd F nn mm en mk lim xl.toInt dn).2.2.1 k) else F 33 k) ∧ ∀ k, k < nn → -100 ≤ (fnd F nn mm en mk lim xl.toInt dn).2.2.1 k ∧ (fnd F nn mm en mk lim xl.toInt dn).2.2.1 k ≤ 100) ∧ (¬ (fnd F nn mm en mk lim xl.toInt dn).1 = 1 → I2 32 = I 32 ∧ F2 33 = F 33) ∧ MP D cA adr I2 F2 H) (wA mN adr) := by
  refine Ct.mk (by decide) (Nat.le_of_ble_eq_true rfl) ?_
  intro p e s m args below meth c Q H locs ls hx hb hr hml hlk hown hin hK hQ hS hP hl
  have hl : lv_has ls 8 [(0, .ref (adr 0)), (1, .int xl), (2, .int (bi dn)), (3, .int xlim)] := hl
  have hown : s.vm.findClass "RangeSheetModel" = some m.cls := hown
  have hn10 := hW.1
  refine lv_aload_n hx hb d_Mod_search_0 rfl (lv_at hl 0 rfl) ?_
  refine lv_iconst (v := 0) hx hb d_Mod_search_1 (by decide) ?_
  refine m_pi hx hb hK hown hi hP hS wA_mem 31 (by decide) t_768 rfl rfl d_Mod_search_2 (fun H locs hP hS => ?_)
  refine lv_aload_n hx hb d_Mod_search_5 rfl (lv_at hl 0 rfl) ?_
  refine lv_aload_n hx hb d_Mod_search_6 rfl (lv_at hl 0 rfl) ?_
  refine m_gi (v := (I 17)) hx hb hK hown hP 17 (by decide) t_754 rfl d_Mod_search_7 ?_
  refine x_V (As := [.int (I 17)]) (rest := []) hx hb hml hown hK (k_Mod_narrowWith l D cA adr hi (va_up I 31 (0 : Int32)) F nn mm en mk (I 17) ch hmk hch (hW.fr rfl rfl ⟨rfl, rfl, rfl, rfl, rfl, rfl, rfl, rfl⟩) hE hen) t_906 t_4 t_903 t_905 ts_19 yk_Mod_narrowWith ⟨Nat.le_of_ble_eq_true rfl, Nat.le_of_ble_eq_true rfl⟩ (m_rec hK hP) hP rfl hl.1 rfl (Nat.le_of_ble_eq_true rfl) d_Mod_search_10 ⟨Nat.le_of_ble_eq_true rfl, Nat.le_of_ble_eq_true rfl⟩ hS (fun q h => h) (fun r H locs hq _ hS => ?_)
  obtain ⟨I_1, F_1, q_1, c_1, rfl, hFr_1, h20_1, hT_1, hF_1, hP⟩ := hq
  refine W.eq (g2 := F0 m 13 ls [.int (bi q_1)]) rfl ?_
  refine b_bool_ne (tgt := 18) hx hb d_Mod_search_13 (by decide) (fun c_2 => ?_) (fun c_2 => ?_)
  · refine lv_iconst (v := 0) hx hb d_Mod_search_18 (by decide) ?_
    refine lv_istore (lv' := [(4, .int (0 : Int32)), (0, .ref (adr 0)), (1, .int xl), (2, .int (bi dn)), (3, .int xlim)]) hx hb d_Mod_search_19 hl (by decide) rfl (fun ls hl => ?_)
    refine lv_iconst (v := 1) hx hb d_Mod_search_21 (by decide) ?_
    refine lv_istore (lv' := [(5, .int (1 : Int32)), (4, .int (0 : Int32)), (0, .ref (adr 0)), (1, .int xl), (2, .int (bi dn)), (3, .int xlim)]) hx hb d_Mod_search_22 hl (by decide) rfl (fun ls hl => ?_)
    have L_3 : ∀ (n : Nat) (d1 : Nat) (x4 : Int32) (fr : Bool) (I1 : Nat → Int32) (F1 : Nat → Nat → Int32) (c1 : Bool) (X : Nat → Bx) (K : Nat → Nat) (T : Nat → Nat) (sx : Nat) (H : Heap) (locs : List Loc) (ls : Array Slot), (2 * (lim - sx) + d1) < n → (d1 ≤ 11) → (x4.toInt = (d1 : Int) - 1) → (FS I I1 F F1) → (I1 32 = I 32 ∧ F1 33 = F 33) → (I1 20 = bi c1) → ((I1 31).toInt = (sx : Int)) → (sx ≤ lim) → (SBx nn F1 X d1) → (∀ j, j + (if fr = true then 1 else 0) < d1 → (F1 34 j).toInt = (K j : Int) ∧ (F1 35 j).toInt = (T j : Int) ∧ K j < nn ∧ (X j).1 (K j) < (X j).2 (K j) ∧ T j ≤ wid (X j) (K j)) → (fr = true → 1 ≤ d1 ∧ (fnd F nn mm en mk lim xl.toInt dn) = unw (stl nn (FA F mm)) nn lim xl.toInt dn X K T (d1 - 1) (srch (stl nn (FA F mm)) nn lim xl.toInt dn (12 - d1) (X (d1 - 1)) sx)) → (fr = false → (fnd F nn mm en mk lim xl.toInt dn) = unw (stl nn (FA F mm)) nn lim xl.toInt dn X K T d1 (0, sx, bx0)) → MP D cA adr I1 F1 H → va_S (wA mN adr) s.heap H locs → lv_has ls 8 [(0, .ref (adr 0)), (1, .int xl), (2, .int (bi dn)), (3, .int xlim), (4, .int x4), (5, .int (bi fr))] → W p l e (rl 18) s m args below meth c H locs 0 0 Q (F0 m 24 ls []) := by
      intro n
      induction n with
      | zero => intro d1 x4 fr I1 F1 c1 X K T sx H locs ls hmu; exact absurd hmu (Nat.not_lt_zero _)
      | succ n ih_3 =>
        intro d1 x4 fr I1 F1 c1 X K T sx H locs ls hmu hd1 h4z hFS h32 h20 hs hsl hX hKT hft hnf hP hS hl
        refine lv_iload hx hb d_Mod_search_24 (lv_at hl 4 rfl) ?_
        refine b_if_lt (tgt := 235) hx hb d_Mod_search_26 (by decide) h4z (fun c_4 => ?_) (fun c_4 => ?_)
        · refine lv_iconst (v := 0) hx hb d_Mod_search_235 (by decide) ?_
          refine e_i hx hb hr hlk hQ hS d_Mod_search_236 ?_
          have hf0 : fr = false := by cases hq : fr; rfl; (have := (hft hq).1; omega)
          have hfn : (fnd F nn mm en mk lim xl.toInt dn) = (0, sx, bx0) := by rw [hnf hf0, show d1 = 0 by omega]; rfl
          rw [hfn]; exact ⟨I1, F1, _, c1, rfl, kc_0, h20, hs, hsl, hFS, fun h => absurd h (show ¬ (0 : Int) = 1 by decide), fun _ => h32, hP⟩
        · obtain ⟨d, hdd⟩ : ∃ d, d1 = d + 1 := ⟨d1 - 1, by omega⟩
          subst hdd
          have h4 : x4.toInt = (d : Int) := by omega
          have hn1 : (I1 1).toInt = (nn : Int) := by rw [hFS.1 1 (by omega)]; exact hW.2.2.1
          have B_5 : ∀ (F2 : Nat → Nat → Int32) (K2 : Nat → Nat) (T2 : Nat → Nat) (H : Heap) (locs : List Loc) (ls : Array Slot), (FS I I1 F F2) → (F2 33 = F 33) → (SBx nn F2 X (d + 1)) → (SKT nn F2 X K2 T2 (d + 1)) → ((fnd F nn mm en mk lim xl.toInt dn) = unw (stl nn (FA F mm)) nn lim xl.toInt dn X K2 T2 (d + 1) (0, sx, bx0)) → MP D cA adr I1 F2 H → va_S (wA mN adr) s.heap H locs → lv_has ls 8 [(0, .ref (adr 0)), (1, .int xl), (2, .int (bi dn)), (3, .int xlim), (4, .int x4)] → W p l e (rl 18) s m args below meth c H locs 0 0 Q (F0 m 74 ls []) := by
            intro F2 K2 T2 H locs ls hFS2 h33 hX2 hK2 hu2 hP hS hl
            have hX2d := hX2 d (by omega); have hKd := hK2 d (by omega)
            have hd10 : d < 10 := by have a1 := fxc_lt (x := X d) hKd.2.2.1 (by have := hKd.2.2.2.1; omega); have a2 := hX2d.2.2; omega
            have hrk := hX2d.2.1 (K2 d) hKd.2.2.1; have hek := hX2d.1 (K2 d) hKd.2.2.1; have hkn := hKd.2.2.1; have hko := hKd.2.2.2.1; have hkw := hKd.2.2.2.2; unfold bl bh at hek; unfold wid at hkw
            refine lv_bipush (v := 10) hx hb d_Mod_search_74 (by decide) ?_
            refine lv_iload hx hb d_Mod_search_76 (lv_at hl 4 rfl) ?_
            refine x_mul hx hb d_Mod_search_78 kc_10 h4 (by omega) (fun z_6 tz_6 => ?_)
            refine lv_aload_n hx hb d_Mod_search_79 rfl (lv_at hl 0 rfl) ?_
            refine m_gr hx hb hK hown hP 34 (by decide) t_771 d_Mod_search_80 ?_
            refine lv_iload hx hb d_Mod_search_83 (lv_at hl 4 rfl) ?_
            refine m_ld hx hb hK hP 34 (by decide) (d) h4 (by omega) (show d < 11 by omega) d_Mod_search_85 (fun z_7 ez_7 => ?_)
            subst ez_7
            refine x_add hx hb d_Mod_search_86 tz_6 hKd.1 (by omega) (fun z_8 tz_8 => ?_)
            refine lv_istore (lv' := [(6, .int z_8), (0, .ref (adr 0)), (1, .int xl), (2, .int (bi dn)), (3, .int xlim), (4, .int x4)]) hx hb d_Mod_search_87 hl (by decide) rfl (fun ls hl => ?_)
            refine lv_iconst (v := 0) hx hb d_Mod_search_89 (by decide) ?_
            refine lv_istore (lv' := [(5, .int (0 : Int32)), (6, .int z_8), (0, .ref (adr 0)), (1, .int xl), (2, .int (bi dn)), (3, .int xlim), (4, .int x4)]) hx hb d_Mod_search_90 hl (by decide) rfl (fun ls hl => ?_)
            refine lv_aload_n hx hb d_Mod_search_92 rfl (lv_at hl 2 rfl) ?_
            refine m_gr hx hb hK hown hP 18 (by decide) t_755 d_Mod_search_93 ?_
            refine lv_iload hx hb d_Mod_search_96 (lv_at hl 1 rfl) ?_
            refine m_ld hx hb hK hP 18 (by decide) (((10 * d) + (K2 d))) tz_8 (by omega) (show ((10 * d) + (K2 d)) < 120 by omega) d_Mod_search_98 (fun z_9 ez_9 => ?_)
            subst ez_9
            refine lv_aload_n hx hb d_Mod_search_99 rfl (lv_at hl 2 rfl) ?_
            refine m_gr hx hb hK hown hP 35 (by decide) t_772 d_Mod_search_100 ?_
            refine lv_iload hx hb d_Mod_search_103 (lv_at hl 6 rfl) ?_
            refine m_ld hx hb hK hP 35 (by decide) (d) h4 (by omega) (show d < 11 by omega) d_Mod_search_105 (fun z_10 ez_10 => ?_)
            subst ez_10
            refine x_add hx hb d_Mod_search_106 rfl hKd.2.1 (by omega) (fun z_11 tz_11 => ?_)
            refine lv_aload_n hx hb d_Mod_search_107 rfl (lv_at hl 2 rfl) ?_
            refine m_gr hx hb hK hown hP 19 (by decide) t_756 d_Mod_search_108 ?_
            refine lv_iload hx hb d_Mod_search_111 (lv_at hl 1 rfl) ?_
            refine m_ld hx hb hK hP 19 (by decide) (((10 * d) + (K2 d))) tz_8 (by omega) (show ((10 * d) + (K2 d)) < 120 by omega) d_Mod_search_113 (fun z_12 ez_12 => ?_)
            subst ez_12
            refine b_icmp_le (tgt := 123) hx hb d_Mod_search_114 (by decide) tz_11 rfl (fun c_13 => ?_) (fun c_13 => ?_)
            · refine lv_aload_n hx hb d_Mod_search_123 rfl (lv_at hl 2 rfl) ?_
              refine m_gi (v := (I1 31)) hx hb hK hown hP 31 (by decide) t_768 rfl d_Mod_search_124 ?_
              refine lv_iload_n hx hb d_Mod_search_127 rfl (lv_at hl 5 rfl) ?_
              refine b_icmp_ne (tgt := 135) hx hb d_Mod_search_128 (by decide) hs hlim (fun c_14 => ?_) (fun c_14 => ?_)
              · refine lv_aload_n hx hb d_Mod_search_135 rfl (lv_at hl 2 rfl) ?_
                refine lv_dup hx hb d_Mod_search_136 rfl ?_
                refine m_gi (v := (I1 31)) hx hb hK hown hP 31 (by decide) t_768 rfl d_Mod_search_137 ?_
                refine lv_iconst (v := 1) hx hb d_Mod_search_140 (by decide) ?_
                refine x_add hx hb d_Mod_search_141 hs kc_1 (by omega) (fun z_15 tz_15 => ?_)
                refine m_pi hx hb hK hown hi hP hS wA_mem 31 (by decide) t_768 rfl rfl d_Mod_search_142 (fun H locs hP hS => ?_)
                refine lv_iload_n hx hb d_Mod_search_145 rfl (lv_at hl 4 rfl) ?_
                have K_216 : ∀ (z_216_0 : Int32), z_216_0.toInt = (if dn = false then ((F2 18 ((10 * d) + (K2 d))).toInt + ((T2 d : Nat) : Int)) else (if ¬ ((K2 d : Nat) : Int) = xl.toInt then ((F2 18 ((10 * d) + (K2 d))).toInt + ((T2 d : Nat) : Int)) else ((F2 19 ((10 * d) + (K2 d))).toInt - ((T2 d : Nat) : Int)))) → W p l e (rl 18) s m args below meth c H locs 0 0 Q (F0 m 193 ls [.int z_216_0]) := by
                  intro z_216_0 hz_216_0
                  refine lv_istore (lv' := [(7, .int z_216_0), (5, .int (0 : Int32)), (6, .int z_8), (0, .ref (adr 0)), (1, .int xl), (2, .int (bi dn)), (3, .int xlim), (4, .int x4)]) hx hb d_Mod_search_193 hl (by decide) rfl (fun ls hl => ?_)
                  have hvv : z_216_0.toInt = vlu xl.toInt dn (X d) (K2 d) (T2 d) := by rw [hz_216_0]; unfold vlu; rw [hek.1, hek.2]; cases dn <;> simp <;> split <;> simp_all
                  have hxv : (X d).1 (K2 d) ≤ z_216_0.toInt ∧ z_216_0.toInt ≤ (X d).2 (K2 d) := by rw [hvv]; unfold vlu; split <;> omega
                  refine lv_aload_n hx hb d_Mod_search_195 rfl (lv_at hl 3 rfl) ?_
                  refine m_gr hx hb hK hown hP 35 (by decide) t_772 d_Mod_search_196 ?_
                  refine lv_iload hx hb d_Mod_search_199 (lv_at hl 7 rfl) ?_
                  refine lv_dup2_11 hx hb d_Mod_search_201 rfl rfl ?_
                  refine m_ld hx hb hK hP 35 (by decide) (d) h4 (by omega) (show d < 11 by omega) d_Mod_search_202 (fun z_217 ez_217 => ?_)
                  subst ez_217
                  refine lv_iconst (v := 1) hx hb d_Mod_search_203 (by decide) ?_
                  refine x_add hx hb d_Mod_search_204 hKd.2.1 kc_1 (by omega) (fun z_218 tz_218 => ?_)
                  refine m_st hx hb hK hi hP hS wA_mem 35 (by decide) (d) h4 (by omega) (show d < 11 by omega) d_Mod_search_205 (fun H locs hP hS => ?_)
                  have hW9 : WR (va_up I1 31 z_15) (va_up F2 35 (upd (F2 35) (d) z_218)) nn mm := (hFS2.wr hW).fr (va_up_ne _ _ (by decide)) (va_up_ne _ _ (by decide)) ⟨rfl, rfl, rfl, rfl, rfl, rfl, rfl, rfl⟩
                  refine lv_aload_n hx hb d_Mod_search_206 rfl (lv_at hl 3 rfl) ?_
                  refine lv_iload hx hb d_Mod_search_207 (lv_at hl 7 rfl) ?_
                  refine lv_iload hx hb d_Mod_search_209 (lv_at hl 0 rfl) ?_
                  refine x_V (As := [.int x4, .int z_216_0]) (rest := []) hx hb hml hown hK (k_Mod_follow l D cA adr hi (va_up I1 31 z_15) (va_up F2 35 (upd (F2 35) (d) z_218)) d nn mm (K2 d) x4 z_216_0 (by omega) h4 hW9 (X d) hX2d.1 hX2d.2.1 hKd.1 hKd.2.2.1 hxv) t_1021 t_4 t_1018 t_1020 ts_38 yk_Mod_follow ⟨Nat.le_of_ble_eq_true rfl, Nat.le_of_ble_eq_true rfl⟩ (m_rec hK hP) hP rfl hl.1 rfl (Nat.le_of_ble_eq_true rfl) d_Mod_search_211 ⟨Nat.le_of_ble_eq_true rfl, Nat.le_of_ble_eq_true rfl⟩ hS (fun q h => h) (fun r H locs hq _ hS => ?_)
                  obtain ⟨I_219, F_219, q_219, c_219, rfl, hFr_219, h20_219, hT_219, hF_219, hP⟩ := hq
                  refine W.eq (g2 := F0 m 214 ls [.int (bi q_219)]) rfl ?_
                  refine lv_istore (lv' := [(5, .int (bi q_219)), (7, .int z_216_0), (6, .int z_8), (0, .ref (adr 0)), (1, .int xl), (2, .int (bi dn)), (3, .int xlim), (4, .int x4)]) hx hb d_Mod_search_214 hl (by decide) rfl (fun ls hl => ?_)
                  refine lv_iload hx hb d_Mod_search_216 (lv_at hl 0 rfl) ?_
                  refine b_bool_eq (tgt := 228) hx hb d_Mod_search_218 (by decide) (fun c_220 => ?_) (fun c_220 => ?_)
                  · refine lv_iload hx hb d_Mod_search_228 (lv_at hl 7 rfl) ?_
                    refine lv_istore (lv' := [(4, .int x4), (5, .int (bi q_219)), (7, .int z_216_0), (6, .int z_8), (0, .ref (adr 0)), (1, .int xl), (2, .int (bi dn)), (3, .int xlim)]) hx hb d_Mod_search_230 hl (by decide) rfl (fun ls hl => ?_)
                    refine lv_goto (tgt := 24) hx hb d_Mod_search_232 (by decide) ?_
                    have hFSk : FS I I_219 F F_219 := FS.d (FS.fp ⟨fun k hk => (va_up_ne _ _ (by omega)).trans (hFS2.1 k hk), hFS2.2⟩ FP.one) hFr_219
                    have h32k : I_219 32 = I 32 ∧ F_219 33 = F 33 := ⟨(hFr_219.1 32 (by omega)).trans ((va_up_ne _ _ (by decide)).trans h32.1), (hFr_219.2.1 33 (by decide) (by decide) (by decide)).trans ((va_up_ne _ _ (by decide)).trans h33)⟩
                    have hsk : (I_219 31).toInt = ((sx + 1 : Nat) : Int) := by rw [hFr_219.1 31 (by omega), va_up_self]; omega
                    have hKk := (hK2.step (z := z_218) (by omega) (by unfold wid; omega)).fr hFr_219
                    have hXk := (hX2.fp FP.one).fr hn10 hFr_219 (Nat.le_refl _)
                    have hft9 : FT F (va_up F2 35 (upd (F2 35) (d) z_218)) := hFS2.ft.trans ⟨rfl, rfl, rfl, rfl, rfl, rfl, rfl, rfl⟩
                    have hns := hF_219 c_220; rw [hft9.fa, hvv] at hns
                    exact ih_3 (d + 1) x4 q_219 I_219 F_219 c_219 X K2 (va_up T2 d (T2 d + 1)) (sx + 1) _ _ _ (by omega) (by omega) (by omega) hFSk h32k h20_219 hsk (by omega) hXk (fun j hj => hKk j (by rw [c_220, if_neg (by decide)] at hj; omega)) (fun h => by rw [c_220] at h; cases h) (fun _ => by rw [hu2]; exact unw_no (by unfold wid; omega) (by omega) hns) hP hS (lv_sub hl [4, 5, 6, 7, 0, 1] rfl)
                  · refine lv_iload hx hb d_Mod_search_221 (lv_at hl 7 rfl) ?_
                    refine lv_iconst (v := 1) hx hb d_Mod_search_223 (by decide) ?_
                    refine x_add hx hb d_Mod_search_224 h4 kc_1 (by omega) (fun z_221 tz_221 => ?_)
                    refine lv_goto (tgt := 230) hx hb d_Mod_search_225 (by decide) ?_
                    refine lv_istore (lv' := [(4, .int z_221), (5, .int (bi q_219)), (7, .int z_216_0), (6, .int z_8), (0, .ref (adr 0)), (1, .int xl), (2, .int (bi dn)), (3, .int xlim)]) hx hb d_Mod_search_230 hl (by decide) rfl (fun ls hl => ?_)
                    refine lv_goto (tgt := 24) hx hb d_Mod_search_232 (by decide) ?_
                    have hFSk : FS I I_219 F F_219 := FS.d (FS.fp ⟨fun k hk => (va_up_ne _ _ (by omega)).trans (hFS2.1 k hk), hFS2.2⟩ FP.one) hFr_219
                    have h32k : I_219 32 = I 32 ∧ F_219 33 = F 33 := ⟨(hFr_219.1 32 (by omega)).trans ((va_up_ne _ _ (by decide)).trans h32.1), (hFr_219.2.1 33 (by decide) (by decide) (by decide)).trans ((va_up_ne _ _ (by decide)).trans h33)⟩
                    have hsk : (I_219 31).toInt = ((sx + 1 : Nat) : Int) := by rw [hFr_219.1 31 (by omega), va_up_self]; omega
                    have hKk := (hK2.step (z := z_218) (by omega) (by unfold wid; omega)).fr hFr_219
                    have hXk := (hX2.fp FP.one).fr hn10 hFr_219 (Nat.le_refl _)
                    have hft9 : FT F (va_up F2 35 (upd (F2 35) (d) z_218)) := hFS2.ft.trans ⟨rfl, rfl, rfl, rfl, rfl, rfl, rfl, rfl⟩
                    obtain ⟨y, hy, hyE⟩ := hT_219 c_220; rw [hft9.fa, hvv] at hy
                    have hyn := stl_next hX2d.2.1 hKd.2.2.1 hKd.2.2.2.1 (by rw [← hvv]; exact hxv) hX2d.2.2 hy
                    exact ih_3 (d + 1 + 1) z_221 q_219 I_219 F_219 c_219 (va_up X (d + 1) y) K2 (va_up T2 d (T2 d + 1)) (sx + 1) _ _ _ (by omega) (by omega) (by omega) hFSk h32k h20_219 hsk (by omega) (hXk.up hyE hyn.1 hyn.2) (fun j hj => (hKk.x (Nat.le_refl _)) j (by rw [c_220, if_pos rfl] at hj; omega)) (fun _ => ⟨by omega, by rw [hu2, unw_go (by unfold wid; omega) (by omega) hy]; rw [show d + 1 + 1 - 1 = d + 1 by omega, show 12 - (d + 1 + 1) = 10 - d by omega, va_up_self]⟩) (fun h => by rw [c_220] at h; cases h) hP hS (lv_sub hl [4, 5, 6, 7, 0, 1] rfl)
                refine b_bool_eq (tgt := 178) hx hb d_Mod_search_146 (by decide) (fun c_222 => ?_) (fun c_222 => ?_)
                · refine lv_aload_n hx hb d_Mod_search_178 rfl (lv_at hl 2 rfl) ?_
                  refine m_gr hx hb hK hown hP 18 (by decide) t_755 d_Mod_search_179 ?_
                  refine lv_iload hx hb d_Mod_search_182 (lv_at hl 1 rfl) ?_
                  refine m_ld hx hb hK hP 18 (by decide) (((10 * d) + (K2 d))) tz_8 (by omega) (show ((10 * d) + (K2 d)) < 120 by omega) d_Mod_search_184 (fun z_223 ez_223 => ?_)
                  subst ez_223
                  refine lv_aload_n hx hb d_Mod_search_185 rfl (lv_at hl 2 rfl) ?_
                  refine m_gr hx hb hK hown hP 35 (by decide) t_772 d_Mod_search_186 ?_
                  refine lv_iload hx hb d_Mod_search_189 (lv_at hl 6 rfl) ?_
                  refine m_ld hx hb hK hP 35 (by decide) (d) h4 (by omega) (show d < 11 by omega) d_Mod_search_191 (fun z_224 ez_224 => ?_)
                  subst ez_224
                  refine x_add hx hb d_Mod_search_192 rfl hKd.2.1 (by omega) (fun z_225 tz_225 => ?_)
                  exact K_216 z_225 (by first | omega | (simp [c_222]; done) | (simp [c_222]; omega) | (simp only [decide_eq_true_eq, decide_eq_false_iff_not]; omega))
                · refine lv_aload_n hx hb d_Mod_search_149 rfl (lv_at hl 2 rfl) ?_
                  refine m_gr hx hb hK hown hP 34 (by decide) t_771 d_Mod_search_150 ?_
                  refine lv_iload hx hb d_Mod_search_153 (lv_at hl 6 rfl) ?_
                  refine m_ld hx hb hK hP 34 (by decide) (d) h4 (by omega) (show d < 11 by omega) d_Mod_search_155 (fun z_226 ez_226 => ?_)
                  subst ez_226
                  refine lv_iload_n hx hb d_Mod_search_156 rfl (lv_at hl 3 rfl) ?_
                  refine b_icmp_ne (tgt := 178) hx hb d_Mod_search_157 (by decide) hKd.1 rfl (fun c_227 => ?_) (fun c_227 => ?_)
                  · refine lv_aload_n hx hb d_Mod_search_178 rfl (lv_at hl 2 rfl) ?_
                    refine m_gr hx hb hK hown hP 18 (by decide) t_755 d_Mod_search_179 ?_
                    refine lv_iload hx hb d_Mod_search_182 (lv_at hl 1 rfl) ?_
                    refine m_ld hx hb hK hP 18 (by decide) (((10 * d) + (K2 d))) tz_8 (by omega) (show ((10 * d) + (K2 d)) < 120 by omega) d_Mod_search_184 (fun z_228 ez_228 => ?_)
                    subst ez_228
                    refine lv_aload_n hx hb d_Mod_search_185 rfl (lv_at hl 2 rfl) ?_
                    refine m_gr hx hb hK hown hP 35 (by decide) t_772 d_Mod_search_186 ?_
                    refine lv_iload hx hb d_Mod_search_189 (lv_at hl 6 rfl) ?_
                    refine m_ld hx hb hK hP 35 (by decide) (d) h4 (by omega) (show d < 11 by omega) d_Mod_search_191 (fun z_229 ez_229 => ?_)
                    subst ez_229
                    refine x_add hx hb d_Mod_search_192 rfl hKd.2.1 (by omega) (fun z_230 tz_230 => ?_)
                    exact K_216 z_230 (by first | omega | (simp [c_222, c_227]; done) | (simp [c_222, c_227]; omega) | (simp only [decide_eq_true_eq, decide_eq_false_iff_not]; omega))
                  · refine lv_aload_n hx hb d_Mod_search_160 rfl (lv_at hl 2 rfl) ?_
                    refine m_gr hx hb hK hown hP 19 (by decide) t_756 d_Mod_search_161 ?_
                    refine lv_iload hx hb d_Mod_search_164 (lv_at hl 1 rfl) ?_
                    refine m_ld hx hb hK hP 19 (by decide) (((10 * d) + (K2 d))) tz_8 (by omega) (show ((10 * d) + (K2 d)) < 120 by omega) d_Mod_search_166 (fun z_231 ez_231 => ?_)
                    subst ez_231
                    refine lv_aload_n hx hb d_Mod_search_167 rfl (lv_at hl 2 rfl) ?_
                    refine m_gr hx hb hK hown hP 35 (by decide) t_772 d_Mod_search_168 ?_
                    refine lv_iload hx hb d_Mod_search_171 (lv_at hl 6 rfl) ?_
                    refine m_ld hx hb hK hP 35 (by decide) (d) h4 (by omega) (show d < 11 by omega) d_Mod_search_173 (fun z_232 ez_232 => ?_)
                    subst ez_232
                    refine x_sub hx hb d_Mod_search_174 rfl hKd.2.1 (by omega) (fun z_233 tz_233 => ?_)
                    refine lv_goto (tgt := 193) hx hb d_Mod_search_175 (by decide) ?_
                    exact K_216 z_233 (by first | omega | (simp [c_222, c_227]; done) | (simp [c_222, c_227]; omega) | (simp only [decide_eq_true_eq, decide_eq_false_iff_not]; omega))
              · refine lv_sipush (v := (-1000)) hx hb d_Mod_search_131 (by decide) ?_
                refine e_i hx hb hr hlk hQ hS d_Mod_search_134 ?_
                have hsx : sx = lim := by omega
                have hfn : (fnd F nn mm en mk lim xl.toInt dn) = (-1000, lim, bx0) := by rw [hu2, hsx]; exact unw_lim (by unfold wid; omega)
                rw [hfn]; exact ⟨I1, F2, _, c1, rfl, kc_m1000, h20, by rw [← hsx]; exact hs, Nat.le_refl _, hFS2, fun h => absurd h (show ¬ (-1000 : Int) = 1 by decide), fun _ => ⟨h32.1, h33⟩, hP⟩
            · refine x_iinc (k := 6) (lv' := fun v_ => [(4, .int v_), (5, .int (0 : Int32)), (6, .int z_8), (0, .ref (adr 0)), (1, .int xl), (2, .int (bi dn)), (3, .int xlim)]) hx hb d_Mod_search_117 hl rfl h4 (by decide) (by omega) (by decide) (fun v_ => rfl) (fun z_234 tz_234 ls hl => ?_)
              refine lv_goto (tgt := 232) hx hb d_Mod_search_120 (by decide) ?_
              refine lv_goto (tgt := 24) hx hb d_Mod_search_232 (by decide) ?_
              exact ih_3 d z_234 false I1 F2 c1 X K2 T2 sx _ _ _ (by omega) (by omega) (by omega) hFS2 ⟨h32.1, h33⟩ h20 hs hsl (fun j hj => hX2 j (by omega)) (fun j hj => hK2 j (by rw [if_neg (by decide)] at hj; omega)) (fun h => absurd h (by decide)) (fun _ => by rw [hu2]; exact unw_pop (by unfold wid; omega)) hP hS (lv_sub hl [3, 4, 5, 6, 0, 1] rfl)
          refine lv_iload hx hb d_Mod_search_29 (lv_at hl 5 rfl) ?_
          refine b_bool_eq (tgt := 74) hx hb d_Mod_search_31 (by decide) (fun c_235 => ?_) (fun c_235 => ?_)
          · exact B_5 F1 K T _ _ _ hFS h32.2 hX (fun j hj => hKT j (by rw [c_235, if_neg (by decide)]; exact hj)) (hnf c_235) hP hS (lv_sub hl [0, 1, 2, 3, 4] rfl)
          · have hfr := c_235
            have hfu := (hft hfr).2; rw [show d + 1 - 1 = d by omega, show 12 - (d + 1) = 11 - d by omega] at hfu
            refine lv_aload_n hx hb d_Mod_search_34 rfl (lv_at hl 0 rfl) ?_
            refine m_gr hx hb hK hown hP 34 (by decide) t_771 d_Mod_search_35 ?_
            refine lv_iload hx hb d_Mod_search_38 (lv_at hl 4 rfl) ?_
            refine lv_aload_n hx hb d_Mod_search_40 rfl (lv_at hl 0 rfl) ?_
            refine lv_iload hx hb d_Mod_search_41 (lv_at hl 4 rfl) ?_
            refine lv_iload_n hx hb d_Mod_search_43 rfl (lv_at hl 1 rfl) ?_
            refine x_V (As := [.int x4, .int xl]) (rest := [.int x4, .ref (adr 34)]) hx hb hml hown hK (k_Mod_openCell l D cA adr hi I1 F1 d nn x4 xl (by omega) h4 hn10 hn1 hld (X d) (hX d (by omega)).1) t_1013 t_4 t_1010 t_1012 ts_36 yk_Mod_openCell ⟨Nat.le_of_ble_eq_true rfl, Nat.le_of_ble_eq_true rfl⟩ (m_rec hK hP) hP rfl hl.1 rfl (Nat.le_of_ble_eq_true rfl) d_Mod_search_44 ⟨Nat.le_of_ble_eq_true rfl, Nat.le_of_ble_eq_true rfl⟩ hS (fun q h => h) (fun r H locs hq _ hS => ?_)
            obtain ⟨zo_236, rfl, ho_236, hP⟩ := hq
            refine W.eq (g2 := F0 m 47 ls [.int zo_236, .int x4, .ref (adr 34)]) rfl ?_
            refine m_st hx hb hK hi hP hS wA_mem 34 (by decide) (d) h4 (by omega) (show d < 11 by omega) d_Mod_search_47 (fun H locs hP hS => ?_)
            refine lv_aload_n hx hb d_Mod_search_48 rfl (lv_at hl 0 rfl) ?_
            refine m_gr hx hb hK hown hP 35 (by decide) t_772 d_Mod_search_49 ?_
            refine lv_iload hx hb d_Mod_search_52 (lv_at hl 4 rfl) ?_
            refine lv_iconst (v := 0) hx hb d_Mod_search_54 (by decide) ?_
            refine m_st hx hb hK hi hP hS wA_mem 35 (by decide) (d) h4 (by omega) (show d < 11 by omega) d_Mod_search_55 (fun H locs hP hS => ?_)
            refine lv_aload_n hx hb d_Mod_search_56 rfl (lv_at hl 0 rfl) ?_
            refine m_gr hx hb hK hown hP 34 (by decide) t_771 d_Mod_search_57 ?_
            refine lv_iload hx hb d_Mod_search_60 (lv_at hl 4 rfl) ?_
            refine m_ld hx hb hK hP 34 (by decide) (d) h4 (by omega) (show d < 11 by omega) d_Mod_search_62 (fun z_237 ez_237 => ?_)
            have ez_237 : z_237 = zo_236 := by rw [ez_237]; simp [va_up, upd]
            rw [ez_237]
            refine b_if_ge (tgt := 74) hx hb d_Mod_search_63 (by decide) rfl (fun c_238 => ?_) (fun c_238 => ?_)
            · obtain ⟨k9, ho9, hk9⟩ : ∃ k, opn nn xl.toInt (X d) = some k ∧ zo_236.toInt = (k : Int) := by rcases ho_236 with h | h; (have := h.2; omega); exact h
              have ho8 := opn_of hld ho9
              exact B_5 (va_up (va_up F1 34 (upd (F1 34) (d) zo_236)) 35 (upd ((va_up F1 34 (upd (F1 34) (d) zo_236)) 35) (d) (0 : Int32))) (va_up K d k9) (va_up T d 0) _ _ _ (hFS.fp FP.new) ((va_up_ne _ _ (by decide)).trans ((va_up_ne _ _ (by decide)).trans h32.2)) (hX.fp FP.new) (SKT.new (fun j hj => hKT j (by rw [hfr, if_pos rfl]; omega)) hk9 kc_0 ho8.1 ho8.2) (by rw [hfu]; exact unw_new (by omega) ho9) hP hS (lv_sub hl [0, 1, 2, 3, 4] rfl)
            · have ho9 : opn nn xl.toInt (X d) = none := by rcases ho_236 with h | ⟨k, _, h⟩; exact h.1; omega
              refine lv_aload_n hx hb d_Mod_search_66 rfl (lv_at hl 0 rfl) ?_
              refine lv_iload hx hb d_Mod_search_67 (lv_at hl 4 rfl) ?_
              refine x_V (As := [.int x4]) (rest := []) hx hb hml hown hK (k_Mod_keepSetting l D cA adr hi I1 (va_up (va_up F1 34 (upd (F1 34) (d) zo_236)) 35 (upd ((va_up F1 34 (upd (F1 34) (d) zo_236)) 35) (d) (0 : Int32))) d nn x4 (by omega) h4 hn10 hn1) t_1017 t_4 t_1014 t_1016 ts_37 yk_Mod_keepSetting ⟨Nat.le_of_ble_eq_true rfl, Nat.le_of_ble_eq_true rfl⟩ (m_rec hK hP) hP rfl hl.1 rfl (Nat.le_of_ble_eq_true rfl) d_Mod_search_69 ⟨Nat.le_of_ble_eq_true rfl, Nat.le_of_ble_eq_true rfl⟩ hS (fun q h => h) (fun r H locs hq _ hS => ?_)
              obtain ⟨rfl, hP⟩ := hq
              refine W.eq (g2 := F0 m 72 ls []) rfl ?_
              refine lv_iconst (v := 1) hx hb d_Mod_search_72 (by decide) ?_
              refine e_i hx hb hr hlk hQ hS d_Mod_search_73 ?_
              have hfn : (fnd F nn mm en mk lim xl.toInt dn) = (1, sx, X d) := by rw [hfu]; exact unw_leaf (by omega) ho9
              have hXd := hX d (by omega)
              rw [hfn]; refine ⟨_, _, _, c1, rfl, kc_1, ?_, ?_, hsl, ?_, fun _ => ⟨⟨?_, ?_⟩, fun k hk => by show -100 ≤ (X d).1 k ∧ (X d).1 k ≤ 100; have := hXd.2.1 k hk; omega⟩, fun h => absurd rfl h, hP⟩
              · exact (va_up_ne _ _ (by decide)).trans h20
              · rw [va_up_ne _ _ (by decide)]; exact hs
              · exact ⟨fun k hk => (va_up_ne _ _ (by omega)).trans (hFS.1 k hk), fun n a b c d e f => by rw [va_up_ne _ _ d, va_up_ne _ _ f, va_up_ne _ _ e]; exact hFS.2 n a b c d e f⟩
              · rw [va_up_self]; exact hFS.1 1 (by omega)
              · rw [va_up_self]; funext k; by_cases hk : k < nn
                · rw [if_pos hk, if_pos hk]; exact i32_of (hXd.1 k hk).1
                · rw [if_neg hk, if_neg hk]; show F1 33 k = F 33 k; rw [h32.2]
    obtain ⟨x0, hx0, hE0⟩ := hT_1 c_2
    have hg0 : GF nn (FA F mm) (entB F mk en).1.1 (entB F mk en).1.2 x0.1 x0.2 := by unfold nw at hx0; split at hx0; exact stl_some hx0; cases hx0
    have hr0 := (entB_rg (mk := mk) hE en (Nat.le_refl _)).1
    have hFS0 : FS I I_1 F F_1 := FS.d ⟨fun k hk => va_up_ne _ _ (by omega), fun _ _ _ _ _ _ _ => rfl⟩ hFr_1
    exact L_3 (_ + 1) 1 (0 : Int32) true I_1 F_1 c_1 (fun _ => x0) (fun _ => 0) (fun _ => 0) 0 _ _ _ (Nat.lt_succ_self _) (by omega) kc_0 hFS0 ⟨hFr_1.1 32 (by omega), hFr_1.2.1 33 (by decide) (by decide) (by decide)⟩ h20_1 (by rw [hFr_1.1 31 (by omega)]; exact kc_0) (Nat.zero_le _) (fun j hj => by rw [show j = 0 by omega]; exact ⟨hE0, fun i hi => by show -100 ≤ x0.1 i ∧ x0.1 i ≤ x0.2 i ∧ x0.2 i ≤ 100; have a1 := hg0.1 i hi; have a2 := hg0.2.1 i hi; have a3 := hr0 i hi; omega, Nat.zero_le _⟩) (fun j hj => absurd hj (by rw [if_pos rfl]; omega)) (fun _ => ⟨Nat.le_refl _, by unfold fnd; rw [hx0]; rfl⟩) (fun h => absurd h (by decide)) hP hS (lv_sub hl [2, 3, 4, 5, 1, 0] rfl)
  · refine lv_iconst (v := 0) hx hb d_Mod_search_16 (by decide) ?_
    refine e_i hx hb hr hlk hQ hS d_Mod_search_17 ?_
    have hfn : (fnd F nn mm en mk lim xl.toInt dn) = (0, 0, bx0) := by unfold fnd; rw [hF_1 c_2]
    rw [hfn]; refine ⟨I_1, F_1, _, c_1, rfl, kc_0, h20_1, by rw [hFr_1.1 31 (by omega)]; exact kc_0, Nat.zero_le _, ?_, fun h => absurd h (by decide), fun _ => ⟨hFr_1.1 32 (by omega), hFr_1.2.1 33 (by decide) (by decide) (by decide)⟩, hP⟩
    exact (FS.d ⟨fun k hk => va_up_ne _ _ (by omega), fun _ _ _ _ _ _ _ => rfl⟩ hFr_1)
