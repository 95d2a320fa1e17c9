/-- the model's ends, as a set's -/
def EI (S : Int → Int → Int → Prop) (I : Nat → Int32) : Prop := Ends S 400 (I 21).toInt (I 22).toInt (I 23).toInt (I 24).toInt (I 25).toInt (I 26).toInt
def NoteR (I I' : Nat → Int32) (x y f t : Int) : Prop := (∀ k, (k < 21 ∨ 26 < k) → I' k = I k) ∧ (f ≤ t → (I' 21).toInt = min (I 21).toInt x ∧ (I' 22).toInt = max (I 22).toInt x ∧ (I' 23).toInt = min (I 23).toInt y ∧ (I' 24).toInt = max (I 24).toInt y ∧ (I' 25).toInt = min (I 25).toInt f ∧ (I' 26).toInt = max (I 26).toInt t) ∧ (¬ f ≤ t → ∀ k, I' k = I k)
theorem NoteR.ends {S : Int → Int → Int → Prop} {I I' : Nat → Int32} {x y f t : Int} (h : NoteR I I' x y f t) (hE : EI S I) (hr : -400 ≤ x ∧ x ≤ 400 ∧ -400 ≤ y ∧ y ≤ 400 ∧ -400 ≤ f ∧ t ≤ 400) : EI (fun a b z => S a b z ∨ (a = x ∧ b = y ∧ f ≤ z ∧ z ≤ t)) I' := by
  unfold EI at *
  by_cases hft : f ≤ t
  · obtain ⟨e1, e2, e3, e4, e5, e6⟩ := h.2.1 hft
    rw [e1, e2, e3, e4, e5, e6]
    exact hE.add ⟨hr.1, hr.2.1, hr.2.2.1, hr.2.2.2.1, hr.2.2.2.2.1, hr.2.2.2.2.2⟩ (fun a b z hT => by omega) ⟨Int.le_refl _, hft⟩ ⟨f, rfl, rfl, Int.le_refl _, hft⟩ ⟨f, rfl, rfl, Int.le_refl _, hft⟩ ⟨y, rfl, rfl, Int.le_refl _, hft⟩ ⟨y, rfl, rfl, hft, Int.le_refl _⟩
  · have e := h.2.2 hft
    rw [e 21, e 22, e 23, e 24, e 25, e 26]
    exact hE.congr (fun a b z => ⟨Or.inl, fun q => q.elim id (fun q => by omega)⟩)
/-- the box d of the model -/
def bl (F : Nat → Nat → Int32) (d k : Nat) : Int := (F 18 (10 * d + k)).toInt
def bh (F : Nat → Nat → Int32) (d k : Nat) : Int := (F 19 (10 * d + k)).toInt
theorem cutF_b {F : Nat → Nat → Int32} {d k n : Nat} {lo hh : Int32} {f t : Int} (hn : n ≤ 10) (h1 : lo.toInt = max (F 18 (10 * d + k)).toInt f) (h2 : hh.toInt = min (F 19 (10 * d + k)).toInt t) : Cutb n (bl F d) (bh F d) k f t (bl (cutF F (10 * d + k) lo hh) d) (bh (cutF F (10 * d + k) lo hh) d) := by
  refine ⟨fun j hj => ?_, fun j hj => ?_⟩
  · by_cases e : j = k
    · subst e; simp [bl, cutF, va_up, upd, h1]
    · simp [bl, cutF, va_up, upd, e]
  · by_cases e : j = k
    · subst e; simp [bh, cutF, va_up, upd, h2]
    · simp [bh, cutF, va_up, upd, e]
/-- what a narrowing of box d leaves alone -/
def FrD (d : Nat) (I I' : Nat → Int32) (F F' : Nat → Nat → Int32) : Prop := (∀ k, (k < 20 ∨ 26 < k) → I' k = I k) ∧ (∀ n, n ≠ 18 → n ≠ 19 → n ≠ 27 → F' n = F n) ∧ (∀ j, (j < 10 * d ∨ 10 * d + 10 ≤ j) → F' 18 j = F 18 j ∧ F' 19 j = F 19 j)
theorem FrD.rf {d : Nat} {I : Nat → Int32} {F : Nat → Nat → Int32} : FrD d I I F F := ⟨fun _ _ => rfl, fun _ _ _ _ => rfl, fun _ _ => ⟨rfl, rfl⟩⟩
theorem FrD.tr {d : Nat} {I I' I'' : Nat → Int32} {F F' F'' : Nat → Nat → Int32} (h1 : FrD d I I' F F') (h2 : FrD d I' I'' F' F'') : FrD d I I'' F F'' :=
  ⟨fun k hk => (h2.1 k hk).trans (h1.1 k hk), fun n a b c => (h2.2.1 n a b c).trans (h1.2.1 n a b c), fun j hj => ⟨(h2.2.2 j hj).1.trans (h1.2.2 j hj).1, (h2.2.2 j hj).2.trans (h1.2.2 j hj).2⟩⟩
theorem FrD.ints {d : Nat} {I I' : Nat → Int32} {F : Nat → Nat → Int32} (h : ∀ k, (k < 20 ∨ 26 < k) → I' k = I k) : FrD d I I' F F := ⟨h, fun _ _ _ _ => rfl, fun _ _ => ⟨rfl, rfl⟩⟩
theorem FrD.cut {d k : Nat} {I : Nat → Int32} {F : Nat → Nat → Int32} {lo hh v : Int32} (hk : k < 10) : FrD d I (va_up I 20 v) F (cutF F (10 * d + k) lo hh) := by
  refine ⟨fun j hj => va_up_ne _ _ (by omega), fun n a b c => ?_, fun j hj => ?_⟩
  · simp [cutF, va_up, a, b]
  · have e : j ≠ 10 * d + k := by omega
    simp [cutF, va_up, upd, e]
/-- z, by x and y: pairs -/
theorem bp_z {k a b c : Nat} {xl xh : Nat → Int} {x y fz tz : Int} (hk : k < 7) (hx : xl a ≤ x ∧ x ≤ xh a) (hy : xl b ≤ y ∧ y ≤ xh b) (hxy : a = b → x = y)
    (hfz : fz = if ¬ (c : Int) = (a : Int) then (if ¬ (c : Int) = (b : Int) then xl c else y) else x) (htz : tz = if ¬ (c : Int) = (a : Int) then (if ¬ (c : Int) = (b : Int) then xh c else y) else x)
    (hr : -100 ≤ fz ∧ tz ≤ 100) (h5 : k ≠ 5) (z : Int) :
    Sol k a b c xl xh x y z ↔ max (thirdI k x y) fz ≤ z ∧ z ≤ min (if ¬ (k : Int) = 6 then thirdI k x y else 400) tz := by
  have e1 : ((c : Int) = (a : Int)) ↔ c = a := by omega
  have e2 : ((c : Int) = (b : Int)) ↔ c = b := by omega
  simp only [e1, e2] at hfz htz
  have hR : -100 ≤ z → z ≤ 100 → (R3 k x y z ↔ thirdI k x y ≤ z ∧ z ≤ (if ¬ (k : Int) = 6 then thirdI k x y else 400)) := by
    intro z1 z2
    match k, hk, h5 with
    | 0, _, _ => simp [R3, thirdI]; omega
    | 1, _, _ => simp [R3, thirdI]; omega
    | 2, _, _ =>
      simp only [R3, thirdI]
      by_cases hy0 : y = 0
      · simp [hy0]; omega
      · simp [hy0]; omega
    | 3, _, _ => simp [R3, thirdI]; omega
    | 4, _, _ => simp [R3, thirdI]; omega
    | 6, _, _ =>
      simp only [R3, thirdI]
      by_cases hx1 : x < 1
      · simp [hx1]; omega
      · simp [hx1]; omega
  by_cases ca : c = a
  · subst ca
    rw [if_neg (by simp)] at hfz htz
    constructor
    · rintro ⟨q1, q2, q3, q4, q5, q6, q7⟩
      have q5 := q5 rfl
      have := (hR (by omega) (by omega)).mp q7
      omega
    · intro h
      have hz : z = x := by omega
      have := (hR (by omega) (by omega)).mpr (by omega)
      exact ⟨hx, hy, by omega, hxy, fun _ => by omega, fun hb => by have := hxy hb.symm; omega, this⟩
  · rw [if_pos ca] at hfz htz
    by_cases cb : c = b
    · subst cb
      rw [if_neg (by simp)] at hfz htz
      constructor
      · rintro ⟨q1, q2, q3, q4, q5, q6, q7⟩
        have q6 := q6 rfl
        have := (hR (by omega) (by omega)).mp q7
        omega
      · intro h
        have hz : z = y := by omega
        have := (hR (by omega) (by omega)).mpr (by omega)
        exact ⟨hx, hy, by omega, hxy, fun hb => absurd hb.symm ca, fun _ => by omega, this⟩
    · rw [if_pos cb] at hfz htz
      constructor
      · rintro ⟨q1, q2, q3, q4, q5, q6, q7⟩
        have := (hR (by omega) (by omega)).mp q7
        omega
      · intro h
        have := (hR (by omega) (by omega)).mpr (by omega)
        exact ⟨hx, hy, by omega, hxy, fun hb => absurd hb.symm ca, fun hb => absurd hb.symm cb, this⟩
theorem d_Mod_clearEnds_0 : decode b_Mod_clearEnds 0 = .ok (.aload_n 0, 1) := by decide +kernel
theorem d_Mod_clearEnds_1 : decode b_Mod_clearEnds 1 = .ok (.sipush 400, 3) := by decide +kernel
theorem d_Mod_clearEnds_4 : decode b_Mod_clearEnds 4 = .ok (.putfield 127, 3) := by decide +kernel
theorem d_Mod_clearEnds_7 : decode b_Mod_clearEnds 7 = .ok (.aload_n 0, 1) := by decide +kernel
theorem d_Mod_clearEnds_8 : decode b_Mod_clearEnds 8 = .ok (.sipush 400, 3) := by decide +kernel
theorem d_Mod_clearEnds_11 : decode b_Mod_clearEnds 11 = .ok (.putfield 130, 3) := by decide +kernel
theorem d_Mod_clearEnds_14 : decode b_Mod_clearEnds 14 = .ok (.aload_n 0, 1) := by decide +kernel
theorem d_Mod_clearEnds_15 : decode b_Mod_clearEnds 15 = .ok (.sipush 400, 3) := by decide +kernel
theorem d_Mod_clearEnds_18 : decode b_Mod_clearEnds 18 = .ok (.putfield 133, 3) := by decide +kernel
theorem d_Mod_clearEnds_21 : decode b_Mod_clearEnds 21 = .ok (.aload_n 0, 1) := by decide +kernel
theorem d_Mod_clearEnds_22 : decode b_Mod_clearEnds 22 = .ok (.sipush (-400), 3) := by decide +kernel
theorem d_Mod_clearEnds_25 : decode b_Mod_clearEnds 25 = .ok (.putfield 136, 3) := by decide +kernel
theorem d_Mod_clearEnds_28 : decode b_Mod_clearEnds 28 = .ok (.aload_n 0, 1) := by decide +kernel
theorem d_Mod_clearEnds_29 : decode b_Mod_clearEnds 29 = .ok (.sipush (-400), 3) := by decide +kernel
theorem d_Mod_clearEnds_32 : decode b_Mod_clearEnds 32 = .ok (.putfield 139, 3) := by decide +kernel
theorem d_Mod_clearEnds_35 : decode b_Mod_clearEnds 35 = .ok (.aload_n 0, 1) := by decide +kernel
theorem d_Mod_clearEnds_36 : decode b_Mod_clearEnds 36 = .ok (.sipush (-400), 3) := by decide +kernel
theorem d_Mod_clearEnds_39 : decode b_Mod_clearEnds 39 = .ok (.putfield 142, 3) := by decide +kernel
theorem d_Mod_clearEnds_42 : decode b_Mod_clearEnds 42 = .ok (.return_, 1) := by decide +kernel
set_option maxHeartbeats 4000000 in
set_option maxRecDepth 20000 in
theorem k_Mod_clearEnds (l : Launch) (D : va_G) (cA : Nat → ClassId) (adr : Nat → Nat) (hi : wI mN adr) (I : Nat → Int32) (F : Nat → Nat → Int32)  : Ct l y_Mod_clearEnds b_Mod_clearEnds 1 none 1 D cA [.ref (adr 0)] (fun H => MP D cA adr I F H) (fun r H => ∃ I2 : Nat → Int32, r = none ∧ (∀ k, (k < 21 ∨ 26 < k) → I2 k = I k) ∧ (∀ S : Int → Int → Int → Prop, (∀ x y z, ¬ S x y z) → EI S I2) ∧ MP D cA adr I2 F H) (wA mN adr) := by
  refine Ct.mk (by decide) (Nat.le_of_ble_eq_true rfl) ?_
  intro p e s m args below meth c Q H locs ls hx hb hr hml hlk hown hin hK hQ hS hP hl
  have hl : lv_has ls 1 [(0, .ref (adr 0))] := hl
  have hown : s.vm.findClass "RangeSheetModel" = some m.cls := hown
  refine lv_aload_n hx hb d_Mod_clearEnds_0 rfl (lv_at hl 0 rfl) ?_
  refine lv_sipush (v := 400) hx hb d_Mod_clearEnds_1 (by decide) ?_
  refine m_pi hx hb hK hown hi hP hS wA_mem 21 (by decide) t_758 rfl rfl d_Mod_clearEnds_4 (fun H locs hP hS => ?_)
  refine lv_aload_n hx hb d_Mod_clearEnds_7 rfl (lv_at hl 0 rfl) ?_
  refine lv_sipush (v := 400) hx hb d_Mod_clearEnds_8 (by decide) ?_
  refine m_pi hx hb hK hown hi hP hS wA_mem 23 (by decide) t_760 rfl rfl d_Mod_clearEnds_11 (fun H locs hP hS => ?_)
  refine lv_aload_n hx hb d_Mod_clearEnds_14 rfl (lv_at hl 0 rfl) ?_
  refine lv_sipush (v := 400) hx hb d_Mod_clearEnds_15 (by decide) ?_
  refine m_pi hx hb hK hown hi hP hS wA_mem 25 (by decide) t_762 rfl rfl d_Mod_clearEnds_18 (fun H locs hP hS => ?_)
  refine lv_aload_n hx hb d_Mod_clearEnds_21 rfl (lv_at hl 0 rfl) ?_
  refine lv_sipush (v := (-400)) hx hb d_Mod_clearEnds_22 (by decide) ?_
  refine m_pi hx hb hK hown hi hP hS wA_mem 22 (by decide) t_759 rfl rfl d_Mod_clearEnds_25 (fun H locs hP hS => ?_)
  refine lv_aload_n hx hb d_Mod_clearEnds_28 rfl (lv_at hl 0 rfl) ?_
  refine lv_sipush (v := (-400)) hx hb d_Mod_clearEnds_29 (by decide) ?_
  refine m_pi hx hb hK hown hi hP hS wA_mem 24 (by decide) t_761 rfl rfl d_Mod_clearEnds_32 (fun H locs hP hS => ?_)
  refine lv_aload_n hx hb d_Mod_clearEnds_35 rfl (lv_at hl 0 rfl) ?_
  refine lv_sipush (v := (-400)) hx hb d_Mod_clearEnds_36 (by decide) ?_
  refine m_pi hx hb hK hown hi hP hS wA_mem 26 (by decide) t_763 rfl rfl d_Mod_clearEnds_39 (fun H locs hP hS => ?_)
  refine e_v hx hb hr hlk hQ hS d_Mod_clearEnds_42 ?_
  refine ⟨_, rfl, ?_, ?_, hP⟩
  · exact fun k hk => by simp only [va_up]; repeat rw [if_neg (by omega)]
  · intro S hs
    show Ends S 400 (400 : Int32).toInt (-400 : Int32).toInt (400 : Int32).toInt (-400 : Int32).toInt (400 : Int32).toInt (-400 : Int32).toInt
    rw [kc_400, kc_m400]
    exact Ends.none hs
theorem d_Mod_note_0 : decode b_Mod_note 0 = .ok (.iload_n 3, 1) := by decide +kernel
theorem d_Mod_note_1 : decode b_Mod_note 1 = .ok (.iload 4, 2) := by decide +kernel
theorem d_Mod_note_3 : decode b_Mod_note 3 = .ok (.if_icmp .gt 76, 3) := by decide +kernel
theorem d_Mod_note_6 : decode b_Mod_note 6 = .ok (.aload_n 0, 1) := by decide +kernel
theorem d_Mod_note_7 : decode b_Mod_note 7 = .ok (.aload_n 0, 1) := by decide +kernel
theorem d_Mod_note_8 : decode b_Mod_note 8 = .ok (.getfield 127, 3) := by decide +kernel
theorem d_Mod_note_11 : decode b_Mod_note 11 = .ok (.iload_n 1, 1) := by decide +kernel
theorem d_Mod_note_12 : decode b_Mod_note 12 = .ok (.invokestatic 124, 3) := by decide +kernel
theorem d_Mod_note_15 : decode b_Mod_note 15 = .ok (.putfield 127, 3) := by decide +kernel
theorem d_Mod_note_18 : decode b_Mod_note 18 = .ok (.aload_n 0, 1) := by decide +kernel
theorem d_Mod_note_19 : decode b_Mod_note 19 = .ok (.aload_n 0, 1) := by decide +kernel
theorem d_Mod_note_20 : decode b_Mod_note 20 = .ok (.getfield 136, 3) := by decide +kernel
theorem d_Mod_note_23 : decode b_Mod_note 23 = .ok (.iload_n 1, 1) := by decide +kernel
theorem d_Mod_note_24 : decode b_Mod_note 24 = .ok (.invokestatic 120, 3) := by decide +kernel
theorem d_Mod_note_27 : decode b_Mod_note 27 = .ok (.putfield 136, 3) := by decide +kernel
theorem d_Mod_note_30 : decode b_Mod_note 30 = .ok (.aload_n 0, 1) := by decide +kernel
theorem d_Mod_note_31 : decode b_Mod_note 31 = .ok (.aload_n 0, 1) := by decide +kernel
theorem d_Mod_note_32 : decode b_Mod_note 32 = .ok (.getfield 130, 3) := by decide +kernel
theorem d_Mod_note_35 : decode b_Mod_note 35 = .ok (.iload_n 2, 1) := by decide +kernel
theorem d_Mod_note_36 : decode b_Mod_note 36 = .ok (.invokestatic 124, 3) := by decide +kernel
theorem d_Mod_note_39 : decode b_Mod_note 39 = .ok (.putfield 130, 3) := by decide +kernel
theorem d_Mod_note_42 : decode b_Mod_note 42 = .ok (.aload_n 0, 1) := by decide +kernel
theorem d_Mod_note_43 : decode b_Mod_note 43 = .ok (.aload_n 0, 1) := by decide +kernel
theorem d_Mod_note_44 : decode b_Mod_note 44 = .ok (.getfield 139, 3) := by decide +kernel
theorem d_Mod_note_47 : decode b_Mod_note 47 = .ok (.iload_n 2, 1) := by decide +kernel
theorem d_Mod_note_48 : decode b_Mod_note 48 = .ok (.invokestatic 120, 3) := by decide +kernel
theorem d_Mod_note_51 : decode b_Mod_note 51 = .ok (.putfield 139, 3) := by decide +kernel
theorem d_Mod_note_54 : decode b_Mod_note 54 = .ok (.aload_n 0, 1) := by decide +kernel
theorem d_Mod_note_55 : decode b_Mod_note 55 = .ok (.aload_n 0, 1) := by decide +kernel
theorem d_Mod_note_56 : decode b_Mod_note 56 = .ok (.getfield 133, 3) := by decide +kernel
theorem d_Mod_note_59 : decode b_Mod_note 59 = .ok (.iload_n 3, 1) := by decide +kernel
theorem d_Mod_note_60 : decode b_Mod_note 60 = .ok (.invokestatic 124, 3) := by decide +kernel
theorem d_Mod_note_63 : decode b_Mod_note 63 = .ok (.putfield 133, 3) := by decide +kernel
theorem d_Mod_note_66 : decode b_Mod_note 66 = .ok (.aload_n 0, 1) := by decide +kernel
theorem d_Mod_note_67 : decode b_Mod_note 67 = .ok (.aload_n 0, 1) := by decide +kernel
theorem d_Mod_note_68 : decode b_Mod_note 68 = .ok (.getfield 142, 3) := by decide +kernel
theorem d_Mod_note_71 : decode b_Mod_note 71 = .ok (.iload 4, 2) := by decide +kernel
theorem d_Mod_note_73 : decode b_Mod_note 73 = .ok (.invokestatic 120, 3) := by decide +kernel
theorem d_Mod_note_76 : decode b_Mod_note 76 = .ok (.putfield 142, 3) := by decide +kernel
theorem d_Mod_note_79 : decode b_Mod_note 79 = .ok (.return_, 1) := by decide +kernel
set_option maxHeartbeats 4000000 in
set_option maxRecDepth 20000 in
theorem k_Mod_note (l : Launch) (D : va_G) (cA : Nat → ClassId) (adr : Nat → Nat) (hi : wI mN adr) (I : Nat → Int32) (F : Nat → Nat → Int32) (x y f t : Int32) : Ct l y_Mod_note b_Mod_note 5 none 2 D cA [.ref (adr 0), .int x, .int y, .int f, .int t] (fun H => MP D cA adr I F H) (fun r H => ∃ I2 : Nat → Int32, r = none ∧ NoteR I I2 x.toInt y.toInt f.toInt t.toInt ∧ MP D cA adr I2 F H) (wA mN adr) := by
  refine Ct.mk (by decide) (Nat.le_of_ble_eq_true rfl) ?_
  intro p e s m args below meth c Q H locs ls hx hb hr hml hlk hown hin hK hQ hS hP hl
  have hl : lv_has ls 5 [(0, .ref (adr 0)), (1, .int x), (2, .int y), (3, .int f), (4, .int t)] := hl
  have hown : s.vm.findClass "RangeSheetModel" = some m.cls := hown
  refine lv_iload_n hx hb d_Mod_note_0 rfl (lv_at hl 3 rfl) ?_
  refine lv_iload hx hb d_Mod_note_1 (lv_at hl 4 rfl) ?_
  refine b_icmp_gt (tgt := 79) hx hb d_Mod_note_3 (by decide) rfl rfl (fun c_1 => ?_) (fun c_1 => ?_)
  · refine e_v hx hb hr hlk hQ hS d_Mod_note_79 ?_
    exact ⟨_, rfl, ⟨fun _ _ => rfl, fun h => absurd h (by omega), fun _ _ => rfl⟩, hP⟩
  · refine lv_aload_n hx hb d_Mod_note_6 rfl (lv_at hl 0 rfl) ?_
    refine lv_aload_n hx hb d_Mod_note_7 rfl (lv_at hl 0 rfl) ?_
    refine m_gi (v := (I 21)) hx hb hK hown hP 21 (by decide) t_758 rfl d_Mod_note_8 ?_
    refine lv_iload_n hx hb d_Mod_note_11 rfl (lv_at hl 1 rfl) ?_
    refine r_Mod_lesser hx hb hml hown hK hl.1 hS ⟨Nat.le_of_ble_eq_true rfl, Nat.le_of_ble_eq_true rfl⟩ ⟨Nat.le_of_ble_eq_true rfl, Nat.le_of_ble_eq_true rfl⟩ rfl rfl  d_Mod_note_12 (Nat.le_of_ble_eq_true rfl) (fun z_2 locs tz_2 hS => ?_)
    refine m_pi hx hb hK hown hi hP hS wA_mem 21 (by decide) t_758 rfl rfl d_Mod_note_15 (fun H locs hP hS => ?_)
    refine lv_aload_n hx hb d_Mod_note_18 rfl (lv_at hl 0 rfl) ?_
    refine lv_aload_n hx hb d_Mod_note_19 rfl (lv_at hl 0 rfl) ?_
    refine m_gi (v := (I 22)) hx hb hK hown hP 22 (by decide) t_759 rfl d_Mod_note_20 ?_
    refine lv_iload_n hx hb d_Mod_note_23 rfl (lv_at hl 1 rfl) ?_
    refine r_Mod_greater hx hb hml hown hK hl.1 hS ⟨Nat.le_of_ble_eq_true rfl, Nat.le_of_ble_eq_true rfl⟩ ⟨Nat.le_of_ble_eq_true rfl, Nat.le_of_ble_eq_true rfl⟩ rfl rfl  d_Mod_note_24 (Nat.le_of_ble_eq_true rfl) (fun z_3 locs tz_3 hS => ?_)
    refine m_pi hx hb hK hown hi hP hS wA_mem 22 (by decide) t_759 rfl rfl d_Mod_note_27 (fun H locs hP hS => ?_)
    refine lv_aload_n hx hb d_Mod_note_30 rfl (lv_at hl 0 rfl) ?_
    refine lv_aload_n hx hb d_Mod_note_31 rfl (lv_at hl 0 rfl) ?_
    refine m_gi (v := (I 23)) hx hb hK hown hP 23 (by decide) t_760 rfl d_Mod_note_32 ?_
    refine lv_iload_n hx hb d_Mod_note_35 rfl (lv_at hl 2 rfl) ?_
    refine r_Mod_lesser hx hb hml hown hK hl.1 hS ⟨Nat.le_of_ble_eq_true rfl, Nat.le_of_ble_eq_true rfl⟩ ⟨Nat.le_of_ble_eq_true rfl, Nat.le_of_ble_eq_true rfl⟩ rfl rfl  d_Mod_note_36 (Nat.le_of_ble_eq_true rfl) (fun z_4 locs tz_4 hS => ?_)
    refine m_pi hx hb hK hown hi hP hS wA_mem 23 (by decide) t_760 rfl rfl d_Mod_note_39 (fun H locs hP hS => ?_)
    refine lv_aload_n hx hb d_Mod_note_42 rfl (lv_at hl 0 rfl) ?_
    refine lv_aload_n hx hb d_Mod_note_43 rfl (lv_at hl 0 rfl) ?_
    refine m_gi (v := (I 24)) hx hb hK hown hP 24 (by decide) t_761 rfl d_Mod_note_44 ?_
    refine lv_iload_n hx hb d_Mod_note_47 rfl (lv_at hl 2 rfl) ?_
    refine r_Mod_greater hx hb hml hown hK hl.1 hS ⟨Nat.le_of_ble_eq_true rfl, Nat.le_of_ble_eq_true rfl⟩ ⟨Nat.le_of_ble_eq_true rfl, Nat.le_of_ble_eq_true rfl⟩ rfl rfl  d_Mod_note_48 (Nat.le_of_ble_eq_true rfl) (fun z_5 locs tz_5 hS => ?_)
    refine m_pi hx hb hK hown hi hP hS wA_mem 24 (by decide) t_761 rfl rfl d_Mod_note_51 (fun H locs hP hS => ?_)
    refine lv_aload_n hx hb d_Mod_note_54 rfl (lv_at hl 0 rfl) ?_
    refine lv_aload_n hx hb d_Mod_note_55 rfl (lv_at hl 0 rfl) ?_
    refine m_gi (v := (I 25)) hx hb hK hown hP 25 (by decide) t_762 rfl d_Mod_note_56 ?_
    refine lv_iload_n hx hb d_Mod_note_59 rfl (lv_at hl 3 rfl) ?_
    refine r_Mod_lesser hx hb hml hown hK hl.1 hS ⟨Nat.le_of_ble_eq_true rfl, Nat.le_of_ble_eq_true rfl⟩ ⟨Nat.le_of_ble_eq_true rfl, Nat.le_of_ble_eq_true rfl⟩ rfl rfl  d_Mod_note_60 (Nat.le_of_ble_eq_true rfl) (fun z_6 locs tz_6 hS => ?_)
    refine m_pi hx hb hK hown hi hP hS wA_mem 25 (by decide) t_762 rfl rfl d_Mod_note_63 (fun H locs hP hS => ?_)
    refine lv_aload_n hx hb d_Mod_note_66 rfl (lv_at hl 0 rfl) ?_
    refine lv_aload_n hx hb d_Mod_note_67 rfl (lv_at hl 0 rfl) ?_
    refine m_gi (v := (I 26)) hx hb hK hown hP 26 (by decide) t_763 rfl d_Mod_note_68 ?_
    refine lv_iload hx hb d_Mod_note_71 (lv_at hl 4 rfl) ?_
    refine r_Mod_greater hx hb hml hown hK hl.1 hS ⟨Nat.le_of_ble_eq_true rfl, Nat.le_of_ble_eq_true rfl⟩ ⟨Nat.le_of_ble_eq_true rfl, Nat.le_of_ble_eq_true rfl⟩ rfl rfl  d_Mod_note_73 (Nat.le_of_ble_eq_true rfl) (fun z_7 locs tz_7 hS => ?_)
    refine m_pi hx hb hK hown hi hP hS wA_mem 26 (by decide) t_763 rfl rfl d_Mod_note_76 (fun H locs hP hS => ?_)
    refine e_v hx hb hr hlk hQ hS d_Mod_note_79 ?_
    exact ⟨_, rfl, ⟨fun k hk => by simp only [va_up]; repeat rw [if_neg (by omega)], fun _ => ⟨tz_2, tz_3, tz_4, tz_5, tz_6, tz_7⟩, fun h => absurd c_1 h⟩, hP⟩
