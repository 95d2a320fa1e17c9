/-- relation r of the tables F -/
def FxR (F : Nat → Nat → Int32) (r : Nat) : (Nat → Int) → (Nat → Int) → Prop := FxK (rsA F) (F 5 r).toInt (F 6 r).toInt (F 7 r).toInt (F 8 r).toInt
/-- all good relations -/
def FA (F : Nat → Nat → Int32) (m : Nat) (bl bh : Nat → Int) : Prop := ∀ r, r < m → ¬ (F 9 r).toInt = 0 → FxR F r bl bh
/-- Y is the greatest fixed box below X -/
def GF (n : Nat) (Fx : (Nat → Int) → (Nat → Int) → Prop) (xl xh yl yh : Nat → Int) : Prop := Sb n yl yh xl xh ∧ Ne n yl yh ∧ Fx yl yh ∧ ∀ bl bh, Sb n bl bh xl xh → Ne n bl bh → Fx bl bh → Sb n bl bh yl yh
def wd (n : Nat) (bl bh : Nat → Int) : Nat := match n with
  | 0 => 0
  | n + 1 => wd n bl bh + (bh n - bl n).toNat
theorem wd_le {n : Nat} {yl yh xl xh : Nat → Int} (h : Sb n yl yh xl xh) : wd n yl yh ≤ wd n xl xh := by
  induction n with
  | zero => exact Nat.le_refl _
  | succ n ih =>
    have h1 := ih (fun k hk => h k (by omega))
    have h2 := h n (by omega)
    simp only [wd]
    omega
theorem wd_lt {n : Nat} {yl yh xl xh : Nat → Int} (h : Sb n yl yh xl xh) (hn : Ne n yl yh) (hq : ¬ Eqb n yl yh xl xh) : wd n yl yh < wd n xl xh := by
  induction n with
  | zero => exact absurd (fun k hk => absurd hk (by omega)) hq
  | succ n ih =>
    have h0 : Sb n yl yh xl xh := fun k hk => h k (by omega)
    have h2 := h n (by omega)
    have h3 := hn n (by omega)
    have h1 := wd_le h0
    simp only [wd]
    by_cases e : Eqb n yl yh xl xh
    · have : ¬ (yl n = xl n ∧ yh n = xh n) := fun q => hq (fun k hk => by
        rcases (by omega : k < n ∨ k = n) with z | z
        · exact e k z
        · subst z; exact q)
      omega
    · have := ih h0 (fun k hk => hn k (by omega)) e
      omega
theorem PN.nok {n : Nat} {Fx Fr : (Nat → Int) → (Nat → Int) → Prop} {p0l p0h xl xh yl yh : Nat → Int} {c0 c c' q : Bool} (h : PN n Fx p0l p0h xl xh c0 c) (hk : NOK n Fr xl xh q yl yh c c') (hr : ∀ bl bh, Fx bl bh → Fr bl bh) :
    (q = true → PN n Fx p0l p0h yl yh c0 c') ∧ (q = false → No n Fx p0l p0h) := by
  obtain ⟨h1, h2, h3, h4⟩ := h
  refine ⟨fun hq => ?_, fun hq bl bh hs hn hf => hk.2 hq bl bh (h3 bl bh hs hn hf) hn (hr _ _ hf)⟩
  obtain ⟨⟨g1, g2, g3, g4⟩, -⟩ := hk.1 hq
  refine ⟨g1.tr h1, g2, fun bl bh hs hn hf => g3 bl bh (h3 bl bh hs hn hf) hn (hr _ _ hf), ?_⟩
  rw [g4, h4, or_assoc]
  constructor
  · rintro (q | q | q)
    · exact Or.inl q
    · refine Or.inr (fun e => q (fun k hk => ?_))
      have a1 := e k hk; have a2 := g1 k hk; have a3 := h1 k hk; omega
    · refine Or.inr (fun e => q (fun k hk => ?_))
      have a1 := e k hk; have a2 := g1 k hk; have a3 := h1 k hk; omega
  · rintro (q | q)
    · exact Or.inl q
    · by_cases e : Eqb n xl xh p0l p0h
      · refine Or.inr (Or.inr (fun e2 => q (fun k hk => ?_)))
        have a1 := e k hk; have a2 := e2 k hk; omega
      · exact Or.inr (Or.inl e)
/-- between passes: c tells whether there is one to come -/
def SO (n : Nat) (Fx : (Nat → Int) → (Nat → Int) → Prop) (xl xh yl yh : Nat → Int) (c : Bool) : Prop := Sb n yl yh xl xh ∧ Ne n yl yh ∧ (∀ bl bh, Sb n bl bh xl xh → Ne n bl bh → Fx bl bh → Sb n bl bh yl yh) ∧ (c = false → ∃ vl vh, Eqb n yl yh vl vh ∧ Fx vl vh)
theorem SO.fin {n : Nat} {Fx : (Nat → Int) → (Nat → Int) → Prop} {xl xh yl yh : Nat → Int} (h : SO n Fx xl xh yl yh false) : ∃ vl vh, Eqb n yl yh vl vh ∧ GF n Fx xl xh vl vh := by
  obtain ⟨h1, h2, h3, h4⟩ := h
  obtain ⟨vl, vh, e, hf⟩ := h4 rfl
  refine ⟨vl, vh, e, fun k hk => ?_, fun k hk => ?_, hf, fun bl bh a b c k hk => ?_⟩
  · have a1 := e k hk; have a2 := h1 k hk; omega
  · have a1 := e k hk; have a2 := h2 k hk; omega
  · have a1 := e k hk; have a2 := h3 bl bh a b c k hk; omega
theorem SO.step {n : Nat} {Fx : (Nat → Int) → (Nat → Int) → Prop} {xl xh yl yh wl wh : Nat → Int} {c c' : Bool} (h : SO n Fx xl xh yl yh c) (hp : PN n Fx yl yh wl wh false c') (hf : Eqb n wl wh yl yh → Fx yl yh) : SO n Fx xl xh wl wh c' := by
  obtain ⟨h1, h2, h3, -⟩ := h
  obtain ⟨g1, g2, g3, g4⟩ := hp
  refine ⟨g1.tr h1, g2, fun bl bh a b c => g3 bl bh (h3 bl bh a b c) b c, fun hc => ?_⟩
  have : Eqb n wl wh yl yh := by
    by_cases e : Eqb n wl wh yl yh
    · exact e
    · rw [g4.mpr (Or.inr e)] at hc; cases hc
  exact ⟨yl, yh, this, hf this⟩
theorem SO.no {n : Nat} {Fx : (Nat → Int) → (Nat → Int) → Prop} {xl xh yl yh : Nat → Int} {c : Bool} (h : SO n Fx xl xh yl yh c) (hp : No n Fx yl yh) : No n Fx xl xh := fun bl bh a b c => hp bl bh (h.2.2.1 bl bh a b c) b c
def mu5 (c : Bool) (w : Nat) : Nat := if c = true then w + 1 else 0
theorem mu5_lt {n : Nat} {Fx : (Nat → Int) → (Nat → Int) → Prop} {yl yh wl wh : Nat → Int} {c' : Bool} {k : Nat} (hp : PN n Fx yl yh wl wh false c') (h : mu5 true (wd n yl yh) < k + 1) : mu5 c' (wd n wl wh) < k := by
  simp only [mu5, if_true] at h
  unfold mu5
  split
  · rename_i hc
    have e : ¬ Eqb n wl wh yl yh := by
      rcases hp.2.2.2.mp hc with q | q
      · cases q
      · exact q
    have := wd_lt hp.1 hp.2.1 e
    omega
  · omega
theorem GF.uniq {n : Nat} {Fx : (Nat → Int) → (Nat → Int) → Prop} {xl xh yl yh wl wh : Nat → Int} (h1 : GF n Fx xl xh yl yh) (h2 : GF n Fx xl xh wl wh) : Eqb n yl yh wl wh := fun k hk => by
  have a1 := h2.2.2.2 _ _ h1.1 h1.2.1 h1.2.2.1 k hk
  have a2 := h1.2.2.2 _ _ h2.1 h2.2.1 h2.2.2.1 k hk
  omega
theorem GF.congr {n : Nat} {Fx : (Nat → Int) → (Nat → Int) → Prop} {xl xh yl yh wl wh : Nat → Int} (h : GF n Fx xl xh wl wh) (e : Eqb n xl xh yl yh) : GF n Fx yl yh wl wh :=
  ⟨fun k hk => by have a1 := e k hk; have a2 := h.1 k hk; omega, h.2.1, h.2.2.1, fun bl bh a b c => h.2.2.2 bl bh (fun k hk => by have a1 := e k hk; have a2 := a k hk; omega) b c⟩
theorem No.congr {n : Nat} {Fx : (Nat → Int) → (Nat → Int) → Prop} {xl xh yl yh : Nat → Int} (h : No n Fx xl xh) (e : Eqb n xl xh yl yh) : No n Fx yl yh :=
  fun bl bh a b c => h bl bh (fun k hk => by have a1 := e k hk; have a2 := a k hk; omega) b c
theorem Eqb.symm {n : Nat} {xl xh yl yh : Nat → Int} (e : Eqb n xl xh yl yh) : Eqb n yl yh xl xh := fun k hk => ⟨(e k hk).1.symm, (e k hk).2.symm⟩
theorem Eqb.tr {n : Nat} {xl xh yl yh wl wh : Nat → Int} (e : Eqb n xl xh yl yh) (e2 : Eqb n yl yh wl wh) : Eqb n xl xh wl wh := fun k hk => ⟨(e k hk).1.trans (e2 k hk).1, (e k hk).2.trans (e2 k hk).2⟩
/-- the model's relations are as they must be -/
def WR (I : Nat → Int32) (F : Nat → Nat → Int32) (n m : Nat) : Prop := n ≤ 10 ∧ m ≤ 12 ∧ (I 1).toInt = n ∧ (I 4).toInt = m ∧ RW F ∧ ∀ r, r < m → RV n (F 5 r).toInt (F 6 r).toInt (F 7 r).toInt (F 8 r).toInt
/-- the tables of relations are the same -/
def FT (F F' : Nat → Nat → Int32) : Prop := F' 5 = F 5 ∧ F' 6 = F 6 ∧ F' 7 = F 7 ∧ F' 8 = F 8 ∧ F' 9 = F 9 ∧ F' 10 = F 10 ∧ F' 11 = F 11 ∧ F' 12 = F 12
theorem FrD.ft {d : Nat} {I I' : Nat → Int32} {F F' : Nat → Nat → Int32} (h : FrD d I I' F F') : FT F F' := by
  have q := h.2.1
  exact ⟨q 5 (by decide) (by decide) (by decide), q 6 (by decide) (by decide) (by decide), q 7 (by decide) (by decide) (by decide), q 8 (by decide) (by decide) (by decide), q 9 (by decide) (by decide) (by decide), q 10 (by decide) (by decide) (by decide), q 11 (by decide) (by decide) (by decide), q 12 (by decide) (by decide) (by decide)⟩
theorem FT.rs {F F' : Nat → Nat → Int32} (h : FT F F') : rsA F' = rsA F := by
  obtain ⟨-, -, -, -, -, h1, h2, h3⟩ := h
  funext t
  unfold rsA
  rw [h1]
  funext x y
  unfold rsF
  rw [h2, h3]
theorem FT.fx {F F' : Nat → Nat → Int32} (h : FT F F') (r : Nat) : FxR F' r = FxR F r := by
  unfold FxR
  rw [h.rs, h.1, h.2.1, h.2.2.1, h.2.2.2.1]
theorem FT.fa {F F' : Nat → Nat → Int32} (h : FT F F') (m : Nat) : FA F' m = FA F m := by
  funext x y
  unfold FA
  simp only [h.fx, h.2.2.2.2.1]
theorem FT.rw {F F' : Nat → Nat → Int32} (h : FT F F') (q : RW F) : RW F' := by
  obtain ⟨-, -, -, -, -, h1, h2, h3⟩ := h
  unfold RW at *
  rw [h1, h2, h3]
  exact q
theorem WR.fr {I I' : Nat → Int32} {F F' : Nat → Nat → Int32} {n m : Nat} (h : WR I F n m) (h1 : I' 1 = I 1) (h4 : I' 4 = I 4) (hf : FT F F') : WR I' F' n m := by
  obtain ⟨a, b, c, d, f, g⟩ := h
  refine ⟨a, b, by rw [h1]; exact c, by rw [h4]; exact d, hf.rw f, fun r hr => ?_⟩
  rw [hf.1, hf.2.1, hf.2.2.1, hf.2.2.2.1]
  exact g r hr
theorem FxK.congr {rs : Nat → Int → Int → Prop} {k a b c : Int} {n : Nat} {xl xh yl yh : Nat → Int} (hv : RV n k a b c) (hn : n ≤ 10) (h : FxK rs k a b c xl xh) (e : Eqb n xl xh yl yh) : FxK rs k a b c yl yh := by
  obtain ⟨v0, v7, v1, v5, v8, v3⟩ := hv
  by_cases k7 : k = 7
  · rw [FxK_7 k7] at *
    have hm := mk_lt (v7 k7).2.2
    have he : ∀ p q, cnt 10 (fun j => a.toNat.testBit j) xl xh p q = cnt 10 (fun j => a.toNat.testBit j) yl yh p q := fun p q =>
      Int.le_antisymm (cnt_mono (fun j hj hu h1 h2 => by have := e j (hm j hj hu); exact ⟨hu, by omega, by omega⟩)) (cnt_mono (fun j hj hu h1 h2 => by have := e j (hm j hj hu); exact ⟨hu, by omega, by omega⟩))
    intro p q hpq
    have := h p q hpq
    rw [he] at this
    refine ⟨this.1, fun hc j hj hu => ?_⟩
    have h2 := this.2 hc j hj hu
    have h3 := e j (hm j hj hu)
    rw [h3.1, h3.2] at h2
    exact h2
  · obtain ⟨va, vb⟩ := v1 k7
    have ea := e a.toNat (by omega)
    have eb := e b.toNat (by omega)
    by_cases k8 : k = 8
    · rw [FxK_8 k8] at *
      simpa only [Fx8, Sol8, ea.1, ea.2, eb.1, eb.2] using h
    · by_cases k5 : k = 5
      · rw [FxK_5 k5] at *
        simpa only [Fx5, ea.1, ea.2, eb.1, eb.2] using h
      · have ec := e c.toNat (by have := v3 k5 k7 k8; omega)
        rw [FxK_3 (kk := k.toNat) (by omega) (by omega) (by omega)] at *
        simpa only [Hull, Sol, ea.1, ea.2, eb.1, eb.2, ec.1, ec.2] using h
theorem FxR.congr {F : Nat → Nat → Int32} {r n : Nat} {xl xh yl yh : Nat → Int} (hv : RV n (F 5 r).toInt (F 6 r).toInt (F 7 r).toInt (F 8 r).toInt) (hn : n ≤ 10) (h : FxR F r xl xh) (e : Eqb n xl xh yl yh) : FxR F r yl yh := FxK.congr hv hn h e
theorem d_Mod_settle_0 : decode b_Mod_settle 0 = .ok (.aload_n 0, 1) := by decide +kernel
theorem d_Mod_settle_1 : decode b_Mod_settle 1 = .ok (.iconst 1, 1) := by decide +kernel
theorem d_Mod_settle_2 : decode b_Mod_settle 2 = .ok (.putfield 116, 3) := by decide +kernel
theorem d_Mod_settle_5 : decode b_Mod_settle 5 = .ok (.aload_n 0, 1) := by decide +kernel
theorem d_Mod_settle_6 : decode b_Mod_settle 6 = .ok (.getfield 116, 3) := by decide +kernel
theorem d_Mod_settle_9 : decode b_Mod_settle 9 = .ok (.ifCond .eq 47, 3) := by decide +kernel
theorem d_Mod_settle_12 : decode b_Mod_settle 12 = .ok (.aload_n 0, 1) := by decide +kernel
theorem d_Mod_settle_13 : decode b_Mod_settle 13 = .ok (.iconst 0, 1) := by decide +kernel
theorem d_Mod_settle_14 : decode b_Mod_settle 14 = .ok (.putfield 116, 3) := by decide +kernel
theorem d_Mod_settle_17 : decode b_Mod_settle 17 = .ok (.iconst 0, 1) := by decide +kernel
theorem d_Mod_settle_18 : decode b_Mod_settle 18 = .ok (.istore_n 2, 1) := by decide +kernel
theorem d_Mod_settle_19 : decode b_Mod_settle 19 = .ok (.iload_n 2, 1) := by decide +kernel
theorem d_Mod_settle_20 : decode b_Mod_settle 20 = .ok (.aload_n 0, 1) := by decide +kernel
theorem d_Mod_settle_21 : decode b_Mod_settle 21 = .ok (.getfield 104, 3) := by decide +kernel
theorem d_Mod_settle_24 : decode b_Mod_settle 24 = .ok (.if_icmp .ge 29, 3) := by decide +kernel
theorem d_Mod_settle_27 : decode b_Mod_settle 27 = .ok (.aload_n 0, 1) := by decide +kernel
theorem d_Mod_settle_28 : decode b_Mod_settle 28 = .ok (.getfield 28, 3) := by decide +kernel
theorem d_Mod_settle_31 : decode b_Mod_settle 31 = .ok (.iload_n 2, 1) := by decide +kernel
theorem d_Mod_settle_32 : decode b_Mod_settle 32 = .ok (.baload, 1) := by decide +kernel
theorem d_Mod_settle_33 : decode b_Mod_settle 33 = .ok (.ifCond .eq 14, 3) := by decide +kernel
theorem d_Mod_settle_36 : decode b_Mod_settle 36 = .ok (.aload_n 0, 1) := by decide +kernel
theorem d_Mod_settle_37 : decode b_Mod_settle 37 = .ok (.iload_n 2, 1) := by decide +kernel
theorem d_Mod_settle_38 : decode b_Mod_settle 38 = .ok (.iload_n 1, 1) := by decide +kernel
theorem d_Mod_settle_39 : decode b_Mod_settle 39 = .ok (.invokevirtual 202, 3) := by decide +kernel
theorem d_Mod_settle_42 : decode b_Mod_settle 42 = .ok (.ifCond .ne 5, 3) := by decide +kernel
theorem d_Mod_settle_45 : decode b_Mod_settle 45 = .ok (.iconst 0, 1) := by decide +kernel
theorem d_Mod_settle_46 : decode b_Mod_settle 46 = .ok (.ireturn, 1) := by decide +kernel
theorem d_Mod_settle_47 : decode b_Mod_settle 47 = .ok (.iinc 2 1, 3) := by decide +kernel
theorem d_Mod_settle_50 : decode b_Mod_settle 50 = .ok (.goto (-31), 3) := by decide +kernel
theorem d_Mod_settle_53 : decode b_Mod_settle 53 = .ok (.goto (-48), 3) := by decide +kernel
theorem d_Mod_settle_56 : decode b_Mod_settle 56 = .ok (.iconst 1, 1) := by decide +kernel
theorem d_Mod_settle_57 : decode b_Mod_settle 57 = .ok (.ireturn, 1) := by decide +kernel
set_option maxHeartbeats 4000000 in
set_option maxRecDepth 20000 in
theorem k_Mod_settle (l : Launch) (D : va_G) (cA : Nat → ClassId) (adr : Nat → Nat) (hi : wI mN adr) (I : Nat → Int32) (F : Nat → Nat → Int32) (d nn mm : Nat) (xd : Int32) (hd : d < 12) (hxd : xd.toInt = (d : Int)) (hW : WR I F nn mm) (hne : Ne nn (bl F d) (bh F d)) (hrg : ∀ k, k < nn → -100 ≤ bl F d k ∧ bh F d k ≤ 100) : Ct l y_Mod_settle b_Mod_settle 3 (some .boolean) 14 D cA [.ref (adr 0), .int xd] (fun H => MP D cA adr I F H) (fun r H => ∃ (I2 : Nat → Int32) (F2 : Nat → Nat → Int32) (q c2 : Bool), r = some (.int (bi q)) ∧ FrD d I I2 F F2 ∧ I2 20 = bi c2 ∧ (q = true → ∃ vl vh, Eqb nn (bl F2 d) (bh F2 d) vl vh ∧ GF nn (FA F mm) (bl F d) (bh F d) vl vh) ∧ (q = false → No nn (FA F mm) (bl F d) (bh F d)) ∧ MP D cA adr I2 F2 H) (wA mN adr) := by
  refine Ct.mk (by decide) (Nat.le_of_ble_eq_true rfl) ?_
  intro p e s m args below meth c Q H locs ls hx hb hr hml hlk hown hin hK hQ hS hP hl
  have hl : lv_has ls 3 [(0, .ref (adr 0)), (1, .int xd)] := hl
  have hown : s.vm.findClass "RangeSheetModel" = some m.cls := hown
  have hm4 : (I 4).toInt = (mm : Int) := hW.2.2.2.1
  refine lv_aload_n hx hb d_Mod_settle_0 rfl (lv_at hl 0 rfl) ?_
  refine lv_iconst (v := 1) hx hb d_Mod_settle_1 (by decide) ?_
  refine W.eq (g2 := F0 m 2 ls (.int (bi true) :: [.ref (adr 0)])) rfl ?_
  refine m_pi hx hb hK hown hi hP hS wA_mem 20 (by decide) t_757 (bi_nar _) (bi_fit _) d_Mod_settle_2 (fun H locs hP hS => ?_)
  have L_1 : ∀ (n : Nat) (I1 : Nat → Int32) (F1 : Nat → Nat → Int32) (c1 : Bool) (H : Heap) (locs : List Loc) (ls : Array Slot), mu5 c1 (wd nn (bl F1 d) (bh F1 d)) < n → (FrD d I I1 F F1) → (I1 20 = bi c1) → (SO nn (FA F mm) (bl F d) (bh F d) (bl F1 d) (bh F1 d) c1) → MP D cA adr I1 F1 H → va_S (wA mN adr) s.heap H locs → lv_has ls 3 [(0, .ref (adr 0)), (1, .int xd)] → W p l e (rl 14) s m args below meth c H locs 0 0 Q (F0 m 5 ls []) := by
    intro n
    induction n with
    | zero => intro I1 F1 c1 H locs ls hmu; exact absurd hmu (Nat.not_lt_zero _)
    | succ n ih_1 =>
      intro I1 F1 c1 H locs ls hmu hF1 h20 hSO hP hS hl
      refine lv_aload_n hx hb d_Mod_settle_5 rfl (lv_at hl 0 rfl) ?_
      refine m_gi (v := (bi c1)) hx hb hK hown hP 20 (by decide) t_757 h20 d_Mod_settle_6 ?_
      refine b_bool_eq (tgt := 56) hx hb d_Mod_settle_9 (by decide) (fun c_2 => ?_) (fun c_2 => ?_)
      · refine lv_iconst (v := 1) hx hb d_Mod_settle_56 (by decide) ?_
        refine W.eq (g2 := F0 m 57 ls [.int (bi true)]) rfl ?_
        refine e_z hx hb hr hlk hQ hS d_Mod_settle_57 ?_
        have hSO : SO nn (FA F mm) (bl F d) (bh F d) (bl F1 d) (bh F1 d) false := by have h := hSO; rw [c_2] at h; exact h
        exact ⟨I1, F1, true, c1, rfl, hF1, h20, fun _ => hSO.fin, fun h => absurd h (by decide), hP⟩
      · have hc1t := c_2; have hmu0 := hmu
        refine lv_aload_n hx hb d_Mod_settle_12 rfl (lv_at hl 0 rfl) ?_
        refine lv_iconst (v := 0) hx hb d_Mod_settle_13 (by decide) ?_
        refine W.eq (g2 := F0 m 14 ls (.int (bi false) :: [.ref (adr 0)])) rfl ?_
        refine m_pi hx hb hK hown hi hP hS wA_mem 20 (by decide) t_757 (bi_nar _) (bi_fit _) d_Mod_settle_14 (fun H locs hP hS => ?_)
        refine lv_iconst (v := 0) hx hb d_Mod_settle_17 (by decide) ?_
        refine lv_istore_n (lv' := [(2, .int (0 : Int32)), (0, .ref (adr 0)), (1, .int xd)]) hx hb d_Mod_settle_18 rfl hl (by decide) rfl (fun ls hl => ?_)
        have L_3 : ∀ (n : Nat) (r : Nat) (x2 : Int32) (I2 : Nat → Int32) (F2 : Nat → Nat → Int32) (c2 : Bool) (H : Heap) (locs : List Loc) (ls : Array Slot), (mm - r) < n → (r ≤ mm) → (x2.toInt = (r : Int)) → (FrD d I I2 F F2) → (I2 20 = bi c2) → (PN nn (FA F mm) (bl F1 d) (bh F1 d) (bl F2 d) (bh F2 d) false c2) → (Eqb nn (bl F2 d) (bh F2 d) (bl F1 d) (bh F1 d) → ∀ i, i < r → ¬ (F 9 i).toInt = 0 → FxR F i (bl F1 d) (bh F1 d)) → MP D cA adr I2 F2 H → va_S (wA mN adr) s.heap H locs → lv_has ls 3 [(0, .ref (adr 0)), (1, .int xd), (2, .int x2)] → W p l e (rl 14) s m args below meth c H locs 0 0 Q (F0 m 19 ls []) := by
          intro n
          induction n with
          | zero => intro r x2 I2 F2 c2 H locs ls hmu; exact absurd hmu (Nat.not_lt_zero _)
          | succ n ih_3 =>
            intro r x2 I2 F2 c2 H locs ls hmu hr2 hx2 hF2 h22 hPN hD hP hS hl
            have hm12 := hW.2.1
            have hW2 := hW.fr (hF2.1 1 (by omega)) (hF2.1 4 (by omega)) hF2.ft
            have hrg2 : ∀ k, k < nn → -100 ≤ bl F2 d k ∧ bh F2 d k ≤ 100 := fun k hk => by have a1 := hPN.1 k hk; have a2 := hrg k hk; have a3 := hSO.1 k hk; omega
            refine lv_iload_n hx hb d_Mod_settle_19 rfl (lv_at hl 2 rfl) ?_
            refine lv_aload_n hx hb d_Mod_settle_20 rfl (lv_at hl 0 rfl) ?_
            refine m_gi (v := (I 4)) hx hb hK hown hP 4 (by decide) t_741 (hF2.1 4 (by omega)) d_Mod_settle_21 ?_
            refine b_icmp_ge (tgt := 53) hx hb d_Mod_settle_24 (by decide) hx2 hm4 (fun c_4 => ?_) (fun c_4 => ?_)
            · refine lv_goto (tgt := 5) hx hb d_Mod_settle_53 (by decide) ?_
              exact ih_1 I2 F2 c2 _ _ _ (mu5_lt hPN (by rw [hc1t] at hmu0; exact hmu0)) hF2 h22 (hSO.step hPN (fun e r hr hg => hD e r (by omega) hg)) hP hS (lv_sub hl [0, 1] rfl)
            · refine lv_aload_n hx hb d_Mod_settle_27 rfl (lv_at hl 0 rfl) ?_
              refine m_gr hx hb hK hown hP 9 (by decide) t_746 d_Mod_settle_28 ?_
              refine lv_iload_n hx hb d_Mod_settle_31 rfl (lv_at hl 2 rfl) ?_
              refine m_zld hx hb hK hP 9 (by decide) (r) hx2 (by omega) (show r < 12 by omega) d_Mod_settle_32 (fun z_5 ez_5 => ?_)
              subst ez_5
              refine b_if_eq (tgt := 47) hx hb d_Mod_settle_33 (by decide) rfl (fun c_6 => ?_) (fun c_6 => ?_)
              · refine x_iinc (k := 2) (lv' := fun v_ => [(2, .int v_), (0, .ref (adr 0)), (1, .int xd)]) hx hb d_Mod_settle_47 hl rfl hx2 (by decide) (by omega) (by decide) (fun v_ => rfl) (fun z_7 tz_7 ls hl => ?_)
                refine lv_goto (tgt := 19) hx hb d_Mod_settle_50 (by decide) ?_
                exact ih_3 (r + 1) z_7 I2 F2 c2 _ _ _ (by omega) (by omega) (by omega) hF2 h22 hPN (fun e i hi hg => by rcases (by omega : i < r ∨ i = r) with z | z; exact hD e i z hg; (subst z; rw [hF2.ft.2.2.2.2.1] at c_6; exact absurd c_6 hg)) hP hS (lv_sub hl [1, 2, 0] rfl)
              · have hgd := c_6
                refine lv_aload_n hx hb d_Mod_settle_36 rfl (lv_at hl 0 rfl) ?_
                refine lv_iload_n hx hb d_Mod_settle_37 rfl (lv_at hl 2 rfl) ?_
                refine lv_iload_n hx hb d_Mod_settle_38 rfl (lv_at hl 1 rfl) ?_
                refine x_V (As := [.int x2, .int xd]) (rest := []) hx hb hml hown hK (k_Mod_narrowBy l D cA adr hi I2 F2 r d nn x2 xd c2 hx2 (by omega) hW.1 hd hxd (hW2.2.2.2.2.2 r (by omega)) hW2.2.2.2.2.1 h22 hPN.2.1 (hrg2)) t_924 t_4 t_921 t_923 ts_22 yk_Mod_narrowBy ⟨Nat.le_of_ble_eq_true rfl, Nat.le_of_ble_eq_true rfl⟩ (m_rec hK hP) hP rfl hl.1 rfl (Nat.le_of_ble_eq_true rfl) d_Mod_settle_39 ⟨Nat.le_of_ble_eq_true rfl, Nat.le_of_ble_eq_true rfl⟩ hS (fun q h => h) (fun r H locs hq _ hS => ?_)
                obtain ⟨I_8, F_8, q_8, c_8, rfl, hFr_8, h20_8, hN_8, hP⟩ := hq
                refine W.eq (g2 := F0 m 42 ls [.int (bi q_8)]) rfl ?_
                have hN_8 : NOK nn (FxR F r) (bl F2 d) (bh F2 d) q_8 (bl F_8 d) (bh F_8 d) c2 c_8 := by rw [← hF2.ft.fx r]; exact hN_8
                have hPP := hPN.nok hN_8 (fun bl bh hf => hf r (by omega) (by have := hgd; rw [hF2.ft.2.2.2.2.1] at this; exact this))
                refine b_bool_ne (tgt := 47) hx hb d_Mod_settle_42 (by decide) (fun c_9 => ?_) (fun c_9 => ?_)
                · refine x_iinc (k := 2) (lv' := fun v_ => [(2, .int v_), (0, .ref (adr 0)), (1, .int xd)]) hx hb d_Mod_settle_47 hl rfl hx2 (by decide) (by omega) (by decide) (fun v_ => rfl) (fun z_10 tz_10 ls hl => ?_)
                  refine lv_goto (tgt := 19) hx hb d_Mod_settle_50 (by decide) ?_
                  have hPN9 := hPP.1 c_9
                  have hD9 : Eqb nn (bl F_8 d) (bh F_8 d) (bl F1 d) (bh F1 d) → ∀ i, i < r + 1 → ¬ (F 9 i).toInt = 0 → FxR F i (bl F1 d) (bh F1 d) := by
                    intro e i hi hg
                    have hs9 := (hN_8.1 c_9).1.1
                    have e1 : Eqb nn (bl F2 d) (bh F2 d) (bl F1 d) (bh F1 d) := fun j hj => by have b1 := e j hj; have b2 := hs9 j hj; have b3 := hPN.1 j hj; omega
                    rcases (by omega : i < r ∨ i = r) with z | z
                    · exact hD e1 i z hg
                    · have e2 : Eqb nn (bl F_8 d) (bh F_8 d) (bl F2 d) (bh F2 d) := fun j hj => by have b1 := e j hj; have b2 := e1 j hj; omega
                      have f2 := (hN_8.1 c_9).2 e2
                      rw [z]; exact FxR.congr (hW.2.2.2.2.2 r (by omega)) hW.1 f2 e1
                  exact ih_3 (r + 1) z_10 I_8 F_8 c_8 _ _ _ (by omega) (by omega) (by omega) (hF2.tr hFr_8) h20_8 hPN9 hD9 hP hS (lv_sub hl [1, 2, 0] rfl)
                · refine lv_iconst (v := 0) hx hb d_Mod_settle_45 (by decide) ?_
                  refine W.eq (g2 := F0 m 46 ls [.int (bi false)]) rfl ?_
                  refine e_z hx hb hr hlk hQ hS d_Mod_settle_46 ?_
                  exact ⟨I_8, F_8, false, c_8, rfl, hF2.tr hFr_8, h20_8, fun h => absurd h (by decide), fun _ => hSO.no (hPP.2 c_9), hP⟩
        exact L_3 (_ + 1) 0 (0 : Int32) (va_up I1 20 (bi false)) F1 false _ _ _ (Nat.lt_succ_self _) (by omega) kc_0 (hF1.tr (FrD.ints (fun k hk => va_up_ne _ _ (by omega)))) rfl (PN.rf hSO.2.1) (fun _ i hi => absurd hi (by omega)) hP hS (lv_sub hl [1, 2, 0] rfl)
  exact L_1 (_ + 1) (va_up I 20 (bi true)) F true _ _ _ (Nat.lt_succ_self _) (FrD.ints (fun k hk => va_up_ne _ _ (by omega))) rfl ⟨Sb.rf, hne, fun _ _ a _ _ => a, fun h => absurd h (by decide)⟩ hP hS (lv_sub hl [0, 1] rfl)
