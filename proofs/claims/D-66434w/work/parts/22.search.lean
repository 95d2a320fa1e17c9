/-! the search, in plain terms -/
def bx0 : Bx := (fun _ => 0, fun _ => 0)
def setB (x : Bx) (k : Nat) (v : Int) : Bx := (fun j => if j = k then v else x.1 j, fun j => if j = k then v else x.2 j)
/-- the first of n cells that is open -/
def fop (x : Bx) (n : Nat) : Option Nat := match n with
  | 0 => none
  | n + 1 => match fop x n with
    | some k => some k
    | none => if x.1 n < x.2 n then some n else none
theorem fop_none {x : Bx} {n : Nat} (h : ∀ i, i < n → ¬ x.1 i < x.2 i) : fop x n = none := by
  induction n with
  | zero => rfl
  | succ n ih =>
    rw [fop, ih (fun i hi => h i (by omega))]
    simp only
    rw [if_neg (h n (by omega))]
theorem fop_some {x : Bx} {n k : Nat} (hk : k < n) (ho : x.1 k < x.2 k) (h : ∀ i, i < k → ¬ x.1 i < x.2 i) : fop x n = some k := by
  induction n with
  | zero => omega
  | succ n ih =>
    rw [fop]
    by_cases e : k = n
    · subst e
      rw [fop_none h]
      simp only
      rw [if_pos ho]
    · rw [ih (by omega)]
theorem fop_of {x : Bx} {n k : Nat} (h : fop x n = some k) : k < n ∧ x.1 k < x.2 k := by
  induction n with
  | zero => cases h
  | succ n ih =>
    rw [fop] at h
    cases hq : fop x n with
    | some j =>
      rw [hq] at h ih
      cases h
      have := ih rfl
      omega
    | none =>
      rw [hq] at h
      simp only at h
      split at h
      · cases h
        omega
      · cases h
def opn (n : Nat) (ld : Int) (x : Bx) : Option Nat := if 0 ≤ ld ∧ x.1 ld.toNat < x.2 ld.toNat then some ld.toNat else fop x n
theorem opn_of {x : Bx} {n k : Nat} {ld : Int} (hl : ld < n) (h : opn n ld x = some k) : k < n ∧ x.1 k < x.2 k := by
  unfold opn at h
  split at h
  · rename_i q
    cases h
    omega
  · exact fop_of h
def vlu (ld : Int) (dn : Bool) (x : Bx) (k i : Nat) : Int := if dn = true ∧ (k : Int) = ld then x.2 k - i else x.1 k + i
def wid (x : Bx) (k : Nat) : Nat := (x.2 k - x.1 k + 1).toNat
def tryL (st : Bx → Option Bx) (rec : Bx → Nat → Int × Nat × Bx) (lim : Nat) (ld : Int) (dn : Bool) (x : Bx) (k : Nat) (rem i s : Nat) : Int × Nat × Bx := match rem with
  | 0 => (0, s, bx0)
  | rem + 1 => if s = lim then (-1000, s, bx0) else match st (setB x k (vlu ld dn x k i)) with
    | none => tryL st rec lim ld dn x k rem (i + 1) (s + 1)
    | some y => if (rec y (s + 1)).1 = 0 then tryL st rec lim ld dn x k rem (i + 1) (rec y (s + 1)).2.1 else rec y (s + 1)
def srch (st : Bx → Option Bx) (n lim : Nat) (ld : Int) (dn : Bool) (f : Nat) (x : Bx) (s : Nat) : Int × Nat × Bx := match f with
  | 0 => (0, s, bx0)
  | f + 1 => match opn n ld x with
    | none => (1, s, x)
    | some k => tryL st (srch st n lim ld dn f) lim ld dn x k (wid x k) 0 s
/-- how many cells have one value -/
def fxc (n : Nat) (x : Bx) : Nat := match n with
  | 0 => 0
  | n + 1 => fxc n x + if x.1 n = x.2 n then 1 else 0
theorem fxc_le (n : Nat) (x : Bx) : fxc n x ≤ n := by
  induction n with
  | zero => exact Nat.le_refl _
  | succ n ih => simp only [fxc]; split <;> omega
theorem fxc_lt {n k : Nat} {x : Bx} (hk : k < n) (ho : ¬ x.1 k = x.2 k) : fxc n x < n := by
  induction n with
  | zero => omega
  | succ n ih =>
    simp only [fxc]
    have h1 := fxc_le n x
    by_cases e : k = n
    · subst e; rw [if_neg ho]; omega
    · have := ih (by omega); split <;> omega
theorem fxc_mono {n : Nat} {x y : Bx} (h : ∀ j, j < n → x.1 j = x.2 j → y.1 j = y.2 j) : fxc n x ≤ fxc n y := by
  induction n with
  | zero => exact Nat.le_refl _
  | succ n ih =>
    simp only [fxc]
    have h1 := ih (fun j hj => h j (by omega))
    have h2 := h n (by omega)
    split
    · rw [if_pos (h2 (by assumption))]; omega
    · split <;> omega
theorem fxc_up {n k : Nat} {x y : Bx} (h : ∀ j, j < n → x.1 j = x.2 j → y.1 j = y.2 j) (hk : k < n) (h1 : ¬ x.1 k = x.2 k) (h2 : y.1 k = y.2 k) : fxc n x + 1 ≤ fxc n y := by
  induction n with
  | zero => omega
  | succ n ih =>
    simp only [fxc]
    by_cases e : k = n
    · subst e
      rw [if_neg h1, if_pos h2]
      have := fxc_mono (x := x) (y := y) (fun j hj => h j (Nat.lt_succ_of_lt hj))
      omega
    · have h3 := ih (fun j hj => h j (by omega)) (by omega)
      have h4 := h n (by omega)
      split
      · rw [if_pos (h4 (by assumption))]; omega
      · split <;> omega
/-- the box behind one step of a search -/
theorem stl_next {n k d : Nat} {Fx : (Nat → Int) → (Nat → Int) → Prop} {x y : Bx} {v : Int} (hr : ∀ j, j < n → -100 ≤ x.1 j ∧ x.1 j ≤ x.2 j ∧ x.2 j ≤ 100) (hk : k < n) (ho : x.1 k < x.2 k) (hv : x.1 k ≤ v ∧ v ≤ x.2 k) (hd : d ≤ fxc n x) (h : stl n Fx (setB x k v) = some y) :
    (∀ j, j < n → -100 ≤ y.1 j ∧ y.1 j ≤ y.2 j ∧ y.2 j ≤ 100) ∧ d + 1 ≤ fxc n y := by
  have g := stl_some h
  have hs : ∀ j, j < n → (setB x k v).1 j ≤ y.1 j ∧ y.1 j ≤ y.2 j ∧ y.2 j ≤ (setB x k v).2 j := fun j hj => ⟨(g.1 j hj).1, g.2.1 j hj, (g.1 j hj).2⟩
  refine ⟨fun j hj => ?_, ?_⟩
  · have h1 := hs j hj
    have h2 := hr j hj
    simp only [setB] at h1
    by_cases e : j = k
    · subst e; simp only [if_true] at h1; omega
    · simp only [if_neg e] at h1; omega
  · refine Nat.le_trans (Nat.succ_le_succ hd) (fxc_up (k := k) (fun j hj hq => ?_) hk (by omega) ?_)
    · have h1 := hs j hj
      simp only [setB] at h1
      by_cases e : j = k
      · subst e; simp only [if_true] at h1; omega
      · simp only [if_neg e] at h1; omega
    · have h1 := hs k hk
      simp only [setB, if_true] at h1
      omega
/-- the frames of the model's search, from depth d - 1 down -/
def unw (st : Bx → Option Bx) (n lim : Nat) (ld : Int) (dn : Bool) (X : Nat → Bx) (K T : Nat → Nat) (d : Nat) (r : Int × Nat × Bx) : Int × Nat × Bx := match d with
  | 0 => r
  | d + 1 => if r.1 = 0 then unw st n lim ld dn X K T d (tryL st (srch st n lim ld dn (10 - d)) lim ld dn (X d) (K d) (wid (X d) (K d) - T d) (T d) r.2.1) else r
theorem unw_congr {st : Bx → Option Bx} {n lim : Nat} {ld : Int} {dn : Bool} {X X' : Nat → Bx} {K T K' T' : Nat → Nat} {d : Nat} {r : Int × Nat × Bx} (h : ∀ j, j < d → X' j = X j ∧ K' j = K j ∧ T' j = T j) : unw st n lim ld dn X' K' T' d r = unw st n lim ld dn X K T d r := by
  induction d generalizing r with
  | zero => rfl
  | succ d ih =>
    have hd := h d (by omega)
    simp only [unw, hd.1, hd.2.1, hd.2.2]
    split
    · exact ih (fun j hj => h j (by omega))
    · rfl
theorem unw_ne {st : Bx → Option Bx} {n lim : Nat} {ld : Int} {dn : Bool} {X : Nat → Bx} {K T : Nat → Nat} {d : Nat} {r : Int × Nat × Bx} (h : ¬ r.1 = 0) : unw st n lim ld dn X K T d r = r := by
  cases d with
  | zero => rfl
  | succ d => simp only [unw, if_neg h]
/-- a frame is done -/
theorem unw_pop {st : Bx → Option Bx} {n lim : Nat} {ld : Int} {dn : Bool} {X : Nat → Bx} {K T : Nat → Nat} {d s : Nat} (h : wid (X d) (K d) ≤ T d) : unw st n lim ld dn X K T (d + 1) (0, s, bx0) = unw st n lim ld dn X K T d (0, s, bx0) := by
  rw [unw, if_pos rfl, show wid (X d) (K d) - T d = 0 by omega]
  simp only [tryL]
theorem unw_lim {st : Bx → Option Bx} {n lim : Nat} {ld : Int} {dn : Bool} {X : Nat → Bx} {K T : Nat → Nat} {d : Nat} (h : T d < wid (X d) (K d)) : unw st n lim ld dn X K T (d + 1) (0, lim, bx0) = (-1000, lim, bx0) := by
  rw [unw, if_pos rfl, show wid (X d) (K d) - T d = (wid (X d) (K d) - T d - 1) + 1 by omega]
  simp only [tryL, if_true]
  exact unw_ne (show ¬ (-1000 : Int) = 0 by decide)
theorem unw_no {st : Bx → Option Bx} {n lim : Nat} {ld : Int} {dn : Bool} {X : Nat → Bx} {K T : Nat → Nat} {d s : Nat} (h : T d < wid (X d) (K d)) (hs : ¬ s = lim) (hn : st (setB (X d) (K d) (vlu ld dn (X d) (K d) (T d))) = none) :
    unw st n lim ld dn X K T (d + 1) (0, s, bx0) = unw st n lim ld dn X K (va_up T d (T d + 1)) (d + 1) (0, s + 1, bx0) := by
  rw [unw, if_pos rfl, show wid (X d) (K d) - T d = (wid (X d) (K d) - T d - 1) + 1 by omega]
  rw [tryL, if_neg hs, hn]
  simp only
  rw [unw, if_pos rfl, va_up_self, show wid (X d) (K d) - (T d + 1) = wid (X d) (K d) - T d - 1 by omega]
  exact (unw_congr (fun j hj => ⟨rfl, rfl, va_up_ne _ _ (by omega)⟩)).symm
theorem unw_go {st : Bx → Option Bx} {n lim : Nat} {ld : Int} {dn : Bool} {X : Nat → Bx} {K T : Nat → Nat} {d s : Nat} {y : Bx} (h : T d < wid (X d) (K d)) (hs : ¬ s = lim) (hn : st (setB (X d) (K d) (vlu ld dn (X d) (K d) (T d))) = some y) :
    unw st n lim ld dn X K T (d + 1) (0, s, bx0) = unw st n lim ld dn (va_up X (d + 1) y) K (va_up T d (T d + 1)) (d + 1) (srch st n lim ld dn (10 - d) y (s + 1)) := by
  rw [unw, if_pos rfl, show wid (X d) (K d) - T d = (wid (X d) (K d) - T d - 1) + 1 by omega]
  rw [tryL, if_neg hs, hn]
  simp only
  rw [unw, va_up_ne _ _ (show d ≠ d + 1 by omega), va_up_self, show wid (X d) (K d) - (T d + 1) = wid (X d) (K d) - T d - 1 by omega]
  by_cases q : (srch st n lim ld dn (10 - d) y (s + 1)).1 = 0
  · rw [if_pos q, if_pos q]
    exact (unw_congr (fun j hj => ⟨va_up_ne _ _ (by omega), rfl, va_up_ne _ _ (by omega)⟩)).symm
  · rw [if_neg q, if_neg q]
    exact unw_ne q
theorem unw_new {st : Bx → Option Bx} {n lim : Nat} {ld : Int} {dn : Bool} {X : Nat → Bx} {K T : Nat → Nat} {d s k : Nat} (hd : d ≤ 10) (ho : opn n ld (X d) = some k) :
    unw st n lim ld dn X K T d (srch st n lim ld dn (11 - d) (X d) s) = unw st n lim ld dn X (va_up K d k) (va_up T d 0) (d + 1) (0, s, bx0) := by
  rw [show 11 - d = (10 - d) + 1 by omega, srch, ho]
  simp only
  rw [unw, if_pos rfl, va_up_self, va_up_self, Nat.sub_zero]
  exact (unw_congr (fun j hj => ⟨rfl, va_up_ne _ _ (by omega), va_up_ne _ _ (by omega)⟩)).symm
theorem unw_leaf {st : Bx → Option Bx} {n lim : Nat} {ld : Int} {dn : Bool} {X : Nat → Bx} {K T : Nat → Nat} {d s : Nat} (hd : d ≤ 10) (ho : opn n ld (X d) = none) :
    unw st n lim ld dn X K T d (srch st n lim ld dn (11 - d) (X d) s) = (1, s, X d) := by
  rw [show 11 - d = (10 - d) + 1 by omega, srch, ho]
  exact unw_ne (by simp)
/-- a whole search -/
noncomputable def fnd (F : Nat → Nat → Int32) (n m en mk lim : Nat) (ld : Int) (dn : Bool) : Int × Nat × Bx := match nw F n m en mk with
  | none => (0, 0, bx0)
  | some x => srch (stl n (FA F m)) n lim ld dn 11 x 0
theorem ck_fr {I I1 : Nat → Int32} {F F1 : Nat → Nat → Int32} {d : Nat} (h : FrD d I I1 F F1) {e : Nat} (hne : e ≠ d) {k : Nat} (hk : k < 10) : F1 18 (10 * e + k) = F 18 (10 * e + k) ∧ F1 19 (10 * e + k) = F 19 (10 * e + k) := h.2.2 _ (by omega)
theorem d_Mod_openCell_0 : decode b_Mod_openCell 0 = .ok (.iload_n 2, 1) := by decide +kernel
theorem d_Mod_openCell_1 : decode b_Mod_openCell 1 = .ok (.ifCond .lt 30, 3) := by decide +kernel
theorem d_Mod_openCell_4 : decode b_Mod_openCell 4 = .ok (.aload_n 0, 1) := by decide +kernel
theorem d_Mod_openCell_5 : decode b_Mod_openCell 5 = .ok (.getfield 50, 3) := by decide +kernel
theorem d_Mod_openCell_8 : decode b_Mod_openCell 8 = .ok (.bipush 10, 2) := by decide +kernel
theorem d_Mod_openCell_10 : decode b_Mod_openCell 10 = .ok (.iload_n 1, 1) := by decide +kernel
theorem d_Mod_openCell_11 : decode b_Mod_openCell 11 = .ok (.imul, 1) := by decide +kernel
theorem d_Mod_openCell_12 : decode b_Mod_openCell 12 = .ok (.iload_n 2, 1) := by decide +kernel
theorem d_Mod_openCell_13 : decode b_Mod_openCell 13 = .ok (.iadd, 1) := by decide +kernel
theorem d_Mod_openCell_14 : decode b_Mod_openCell 14 = .ok (.iaload, 1) := by decide +kernel
theorem d_Mod_openCell_15 : decode b_Mod_openCell 15 = .ok (.aload_n 0, 1) := by decide +kernel
theorem d_Mod_openCell_16 : decode b_Mod_openCell 16 = .ok (.getfield 53, 3) := by decide +kernel
theorem d_Mod_openCell_19 : decode b_Mod_openCell 19 = .ok (.bipush 10, 2) := by decide +kernel
theorem d_Mod_openCell_21 : decode b_Mod_openCell 21 = .ok (.iload_n 1, 1) := by decide +kernel
theorem d_Mod_openCell_22 : decode b_Mod_openCell 22 = .ok (.imul, 1) := by decide +kernel
theorem d_Mod_openCell_23 : decode b_Mod_openCell 23 = .ok (.iload_n 2, 1) := by decide +kernel
theorem d_Mod_openCell_24 : decode b_Mod_openCell 24 = .ok (.iadd, 1) := by decide +kernel
theorem d_Mod_openCell_25 : decode b_Mod_openCell 25 = .ok (.iaload, 1) := by decide +kernel
theorem d_Mod_openCell_26 : decode b_Mod_openCell 26 = .ok (.if_icmp .ge 5, 3) := by decide +kernel
theorem d_Mod_openCell_29 : decode b_Mod_openCell 29 = .ok (.iload_n 2, 1) := by decide +kernel
theorem d_Mod_openCell_30 : decode b_Mod_openCell 30 = .ok (.ireturn, 1) := by decide +kernel
theorem d_Mod_openCell_31 : decode b_Mod_openCell 31 = .ok (.iconst 0, 1) := by decide +kernel
theorem d_Mod_openCell_32 : decode b_Mod_openCell 32 = .ok (.istore_n 3, 1) := by decide +kernel
theorem d_Mod_openCell_33 : decode b_Mod_openCell 33 = .ok (.iload_n 3, 1) := by decide +kernel
theorem d_Mod_openCell_34 : decode b_Mod_openCell 34 = .ok (.aload_n 0, 1) := by decide +kernel
theorem d_Mod_openCell_35 : decode b_Mod_openCell 35 = .ok (.getfield 86, 3) := by decide +kernel
theorem d_Mod_openCell_38 : decode b_Mod_openCell 38 = .ok (.if_icmp .ge 36, 3) := by decide +kernel
theorem d_Mod_openCell_41 : decode b_Mod_openCell 41 = .ok (.aload_n 0, 1) := by decide +kernel
theorem d_Mod_openCell_42 : decode b_Mod_openCell 42 = .ok (.getfield 50, 3) := by decide +kernel
theorem d_Mod_openCell_45 : decode b_Mod_openCell 45 = .ok (.bipush 10, 2) := by decide +kernel
theorem d_Mod_openCell_47 : decode b_Mod_openCell 47 = .ok (.iload_n 1, 1) := by decide +kernel
theorem d_Mod_openCell_48 : decode b_Mod_openCell 48 = .ok (.imul, 1) := by decide +kernel
theorem d_Mod_openCell_49 : decode b_Mod_openCell 49 = .ok (.iload_n 3, 1) := by decide +kernel
theorem d_Mod_openCell_50 : decode b_Mod_openCell 50 = .ok (.iadd, 1) := by decide +kernel
theorem d_Mod_openCell_51 : decode b_Mod_openCell 51 = .ok (.iaload, 1) := by decide +kernel
theorem d_Mod_openCell_52 : decode b_Mod_openCell 52 = .ok (.aload_n 0, 1) := by decide +kernel
theorem d_Mod_openCell_53 : decode b_Mod_openCell 53 = .ok (.getfield 53, 3) := by decide +kernel
theorem d_Mod_openCell_56 : decode b_Mod_openCell 56 = .ok (.bipush 10, 2) := by decide +kernel
theorem d_Mod_openCell_58 : decode b_Mod_openCell 58 = .ok (.iload_n 1, 1) := by decide +kernel
theorem d_Mod_openCell_59 : decode b_Mod_openCell 59 = .ok (.imul, 1) := by decide +kernel
theorem d_Mod_openCell_60 : decode b_Mod_openCell 60 = .ok (.iload_n 3, 1) := by decide +kernel
theorem d_Mod_openCell_61 : decode b_Mod_openCell 61 = .ok (.iadd, 1) := by decide +kernel
theorem d_Mod_openCell_62 : decode b_Mod_openCell 62 = .ok (.iaload, 1) := by decide +kernel
theorem d_Mod_openCell_63 : decode b_Mod_openCell 63 = .ok (.if_icmp .ge 5, 3) := by decide +kernel
theorem d_Mod_openCell_66 : decode b_Mod_openCell 66 = .ok (.iload_n 3, 1) := by decide +kernel
theorem d_Mod_openCell_67 : decode b_Mod_openCell 67 = .ok (.ireturn, 1) := by decide +kernel
theorem d_Mod_openCell_68 : decode b_Mod_openCell 68 = .ok (.iinc 3 1, 3) := by decide +kernel
theorem d_Mod_openCell_71 : decode b_Mod_openCell 71 = .ok (.goto (-38), 3) := by decide +kernel
theorem d_Mod_openCell_74 : decode b_Mod_openCell 74 = .ok (.iconst (-1), 1) := by decide +kernel
theorem d_Mod_openCell_75 : decode b_Mod_openCell 75 = .ok (.ireturn, 1) := by decide +kernel
set_option maxHeartbeats 4000000 in
set_option maxRecDepth 20000 in
theorem k_Mod_openCell (l : Launch) (D : va_G) (cA : Nat → ClassId) (adr : Nat → Nat) (hi : wI mN adr) (I : Nat → Int32) (F : Nat → Nat → Int32) (d nn : Nat) (xd xl : Int32) (hd : d < 12) (hxd : xd.toInt = (d : Int)) (hn10 : nn ≤ 10) (hn1 : (I 1).toInt = (nn : Int)) (hld : xl.toInt < nn) (xq : Bx) (hxx : Eqb nn (bl F d) (bh F d) xq.1 xq.2) : Ct l y_Mod_openCell b_Mod_openCell 4 (some .int) 1 D cA [.ref (adr 0), .int xd, .int xl] (fun H => MP D cA adr I F H) (fun r H => ∃ z : Int32, r = some (.int z) ∧ ((opn nn xl.toInt xq = none ∧ z.toInt = -1) ∨ ∃ k, opn nn xl.toInt xq = some k ∧ z.toInt = (k : Int)) ∧ MP D cA adr I F H) (wA mN adr) := by
  refine Ct.mk (by decide) (Nat.le_of_ble_eq_true rfl) ?_
  intro p e s m args below meth c Q H locs ls hx hb hr hml hlk hown hin hK hQ hS hP hl
  have hl : lv_has ls 4 [(0, .ref (adr 0)), (1, .int xd), (2, .int xl)] := hl
  have hown : s.vm.findClass "RangeSheetModel" = some m.cls := hown
  refine lv_iload_n hx hb d_Mod_openCell_0 rfl (lv_at hl 2 rfl) ?_
  refine b_if_lt (tgt := 31) hx hb d_Mod_openCell_1 (by decide) rfl (fun c_1 => ?_) (fun c_1 => ?_)
  · have hnl : ¬ (0 ≤ xl.toInt ∧ bl F d xl.toInt.toNat < bh F d xl.toInt.toNat) := fun h => by omega
    refine lv_iconst (v := 0) hx hb d_Mod_openCell_31 (by decide) ?_
    refine lv_istore_n (lv' := [(3, .int (0 : Int32)), (0, .ref (adr 0)), (1, .int xd), (2, .int xl)]) hx hb d_Mod_openCell_32 rfl hl (by decide) rfl (fun ls hl => ?_)
    have L_2 : ∀ (n : Nat) (kx : Nat) (x3 : Int32) (H : Heap) (locs : List Loc) (ls : Array Slot), (nn - kx) < n → (kx ≤ nn) → (x3.toInt = (kx : Int)) → (∀ i, i < kx → ¬ bl F d i < bh F d i) → MP D cA adr I F H → va_S (wA mN adr) s.heap H locs → lv_has ls 4 [(0, .ref (adr 0)), (1, .int xd), (2, .int xl), (3, .int x3)] → W p l e (rl 1) s m args below meth c H locs 0 0 Q (F0 m 33 ls []) := by
      intro n
      induction n with
      | zero => intro kx x3 H locs ls hmu; exact absurd hmu (Nat.not_lt_zero _)
      | succ n ih_2 =>
        intro kx x3 H locs ls hmu hkx h3 hno hP hS hl
        refine lv_iload_n hx hb d_Mod_openCell_33 rfl (lv_at hl 3 rfl) ?_
        refine lv_aload_n hx hb d_Mod_openCell_34 rfl (lv_at hl 0 rfl) ?_
        refine m_gi (v := (I 1)) hx hb hK hown hP 1 (by decide) t_738 rfl d_Mod_openCell_35 ?_
        refine b_icmp_ge (tgt := 74) hx hb d_Mod_openCell_38 (by decide) h3 hn1 (fun c_3 => ?_) (fun c_3 => ?_)
        · refine lv_iconst (v := (-1)) hx hb d_Mod_openCell_74 (by decide) ?_
          refine e_i hx hb hr hlk hQ hS d_Mod_openCell_75 ?_
          refine ⟨_, rfl, Or.inl ⟨?_, kc_m1⟩, hP⟩
          unfold opn; rw [if_neg (fun h => hnl ⟨h.1, by have e0 := hxx xl.toInt.toNat (by omega); have h2 := h.2; omega⟩)]
          exact fop_none (fun i hi => by have e0 := hxx i hi; have := hno i (by omega); omega)
        · refine lv_aload_n hx hb d_Mod_openCell_41 rfl (lv_at hl 0 rfl) ?_
          refine m_gr hx hb hK hown hP 18 (by decide) t_755 d_Mod_openCell_42 ?_
          refine lv_bipush (v := 10) hx hb d_Mod_openCell_45 (by decide) ?_
          refine lv_iload_n hx hb d_Mod_openCell_47 rfl (lv_at hl 1 rfl) ?_
          refine x_mul hx hb d_Mod_openCell_48 kc_10 hxd (by omega) (fun z_4 tz_4 => ?_)
          refine lv_iload_n hx hb d_Mod_openCell_49 rfl (lv_at hl 3 rfl) ?_
          refine x_add hx hb d_Mod_openCell_50 tz_4 h3 (by omega) (fun z_5 tz_5 => ?_)
          refine m_ld hx hb hK hP 18 (by decide) (((10 * d) + kx)) tz_5 (by omega) (show ((10 * d) + kx) < 120 by omega) d_Mod_openCell_51 (fun z_6 ez_6 => ?_)
          subst ez_6
          refine lv_aload_n hx hb d_Mod_openCell_52 rfl (lv_at hl 0 rfl) ?_
          refine m_gr hx hb hK hown hP 19 (by decide) t_756 d_Mod_openCell_53 ?_
          refine lv_bipush (v := 10) hx hb d_Mod_openCell_56 (by decide) ?_
          refine lv_iload_n hx hb d_Mod_openCell_58 rfl (lv_at hl 1 rfl) ?_
          refine x_mul hx hb d_Mod_openCell_59 kc_10 hxd (by omega) (fun z_7 tz_7 => ?_)
          refine lv_iload_n hx hb d_Mod_openCell_60 rfl (lv_at hl 3 rfl) ?_
          refine x_add hx hb d_Mod_openCell_61 tz_7 h3 (by omega) (fun z_8 tz_8 => ?_)
          refine m_ld hx hb hK hP 19 (by decide) (((10 * d) + kx)) tz_8 (by omega) (show ((10 * d) + kx) < 120 by omega) d_Mod_openCell_62 (fun z_9 ez_9 => ?_)
          subst ez_9
          refine b_icmp_ge (tgt := 68) hx hb d_Mod_openCell_63 (by decide) rfl rfl (fun c_10 => ?_) (fun c_10 => ?_)
          · refine x_iinc (k := 3) (lv' := fun v_ => [(3, .int v_), (0, .ref (adr 0)), (1, .int xd), (2, .int xl)]) hx hb d_Mod_openCell_68 hl rfl h3 (by decide) (by omega) (by decide) (fun v_ => rfl) (fun z_11 tz_11 ls hl => ?_)
            refine lv_goto (tgt := 33) hx hb d_Mod_openCell_71 (by decide) ?_
            exact ih_2 (kx + 1) z_11 _ _ _ (by omega) (by omega) (by omega) (fun i hi => by rcases (by omega : i < kx ∨ i = kx) with z | z; exact hno i z; (rw [z]; unfold bl bh; omega)) hP hS (lv_sub hl [1, 2, 3, 0] rfl)
          · refine lv_iload_n hx hb d_Mod_openCell_66 rfl (lv_at hl 3 rfl) ?_
            refine e_i hx hb hr hlk hQ hS d_Mod_openCell_67 ?_
            refine ⟨_, rfl, Or.inr ⟨kx, ?_, h3⟩, hP⟩
            unfold opn; rw [if_neg (fun h => hnl ⟨h.1, by have e0 := hxx xl.toInt.toNat (by omega); have h2 := h.2; omega⟩)]
            exact fop_some (by omega) (by have e0 := hxx kx (by omega); have : bl F d kx < bh F d kx := c_10; omega) (fun i hi => by have e0 := hxx i (by omega); have := hno i hi; omega)
    exact L_2 (_ + 1) 0 (0 : Int32) _ _ _ (Nat.lt_succ_self _) (by omega) kc_0 (fun i hi => absurd hi (by omega)) hP hS (lv_sub hl [1, 2, 3, 0] rfl)
  · have hxl : xl.toInt = (xl.toInt.toNat : Int) := by omega
    refine lv_aload_n hx hb d_Mod_openCell_4 rfl (lv_at hl 0 rfl) ?_
    refine m_gr hx hb hK hown hP 18 (by decide) t_755 d_Mod_openCell_5 ?_
    refine lv_bipush (v := 10) hx hb d_Mod_openCell_8 (by decide) ?_
    refine lv_iload_n hx hb d_Mod_openCell_10 rfl (lv_at hl 1 rfl) ?_
    refine x_mul hx hb d_Mod_openCell_11 kc_10 hxd (by omega) (fun z_12 tz_12 => ?_)
    refine lv_iload_n hx hb d_Mod_openCell_12 rfl (lv_at hl 2 rfl) ?_
    refine x_add hx hb d_Mod_openCell_13 tz_12 hxl (by omega) (fun z_13 tz_13 => ?_)
    refine m_ld hx hb hK hP 18 (by decide) (((10 * d) + xl.toInt.toNat)) tz_13 (by omega) (show ((10 * d) + xl.toInt.toNat) < 120 by omega) d_Mod_openCell_14 (fun z_14 ez_14 => ?_)
    subst ez_14
    refine lv_aload_n hx hb d_Mod_openCell_15 rfl (lv_at hl 0 rfl) ?_
    refine m_gr hx hb hK hown hP 19 (by decide) t_756 d_Mod_openCell_16 ?_
    refine lv_bipush (v := 10) hx hb d_Mod_openCell_19 (by decide) ?_
    refine lv_iload_n hx hb d_Mod_openCell_21 rfl (lv_at hl 1 rfl) ?_
    refine x_mul hx hb d_Mod_openCell_22 kc_10 hxd (by omega) (fun z_15 tz_15 => ?_)
    refine lv_iload_n hx hb d_Mod_openCell_23 rfl (lv_at hl 2 rfl) ?_
    refine x_add hx hb d_Mod_openCell_24 tz_15 hxl (by omega) (fun z_16 tz_16 => ?_)
    refine m_ld hx hb hK hP 19 (by decide) (((10 * d) + xl.toInt.toNat)) tz_16 (by omega) (show ((10 * d) + xl.toInt.toNat) < 120 by omega) d_Mod_openCell_25 (fun z_17 ez_17 => ?_)
    subst ez_17
    refine b_icmp_ge (tgt := 31) hx hb d_Mod_openCell_26 (by decide) rfl rfl (fun c_18 => ?_) (fun c_18 => ?_)
    · have hnl : ¬ (0 ≤ xl.toInt ∧ bl F d xl.toInt.toNat < bh F d xl.toInt.toNat) := fun h => by have h2 := h.2; unfold bl bh at h2; omega
      refine lv_iconst (v := 0) hx hb d_Mod_openCell_31 (by decide) ?_
      refine lv_istore_n (lv' := [(3, .int (0 : Int32)), (0, .ref (adr 0)), (1, .int xd), (2, .int xl)]) hx hb d_Mod_openCell_32 rfl hl (by decide) rfl (fun ls hl => ?_)
      have L_19 : ∀ (n : Nat) (kx : Nat) (x3 : Int32) (H : Heap) (locs : List Loc) (ls : Array Slot), (nn - kx) < n → (kx ≤ nn) → (x3.toInt = (kx : Int)) → (∀ i, i < kx → ¬ bl F d i < bh F d i) → MP D cA adr I F H → va_S (wA mN adr) s.heap H locs → lv_has ls 4 [(0, .ref (adr 0)), (1, .int xd), (2, .int xl), (3, .int x3)] → W p l e (rl 1) s m args below meth c H locs 0 0 Q (F0 m 33 ls []) := by
        intro n
        induction n with
        | zero => intro kx x3 H locs ls hmu; exact absurd hmu (Nat.not_lt_zero _)
        | succ n ih_19 =>
          intro kx x3 H locs ls hmu hkx h3 hno hP hS hl
          refine lv_iload_n hx hb d_Mod_openCell_33 rfl (lv_at hl 3 rfl) ?_
          refine lv_aload_n hx hb d_Mod_openCell_34 rfl (lv_at hl 0 rfl) ?_
          refine m_gi (v := (I 1)) hx hb hK hown hP 1 (by decide) t_738 rfl d_Mod_openCell_35 ?_
          refine b_icmp_ge (tgt := 74) hx hb d_Mod_openCell_38 (by decide) h3 hn1 (fun c_20 => ?_) (fun c_20 => ?_)
          · refine lv_iconst (v := (-1)) hx hb d_Mod_openCell_74 (by decide) ?_
            refine e_i hx hb hr hlk hQ hS d_Mod_openCell_75 ?_
            refine ⟨_, rfl, Or.inl ⟨?_, kc_m1⟩, hP⟩
            unfold opn; rw [if_neg (fun h => hnl ⟨h.1, by have e0 := hxx xl.toInt.toNat (by omega); have h2 := h.2; omega⟩)]
            exact fop_none (fun i hi => by have e0 := hxx i hi; have := hno i (by omega); omega)
          · refine lv_aload_n hx hb d_Mod_openCell_41 rfl (lv_at hl 0 rfl) ?_
            refine m_gr hx hb hK hown hP 18 (by decide) t_755 d_Mod_openCell_42 ?_
            refine lv_bipush (v := 10) hx hb d_Mod_openCell_45 (by decide) ?_
            refine lv_iload_n hx hb d_Mod_openCell_47 rfl (lv_at hl 1 rfl) ?_
            refine x_mul hx hb d_Mod_openCell_48 kc_10 hxd (by omega) (fun z_21 tz_21 => ?_)
            refine lv_iload_n hx hb d_Mod_openCell_49 rfl (lv_at hl 3 rfl) ?_
            refine x_add hx hb d_Mod_openCell_50 tz_21 h3 (by omega) (fun z_22 tz_22 => ?_)
            refine m_ld hx hb hK hP 18 (by decide) (((10 * d) + kx)) tz_22 (by omega) (show ((10 * d) + kx) < 120 by omega) d_Mod_openCell_51 (fun z_23 ez_23 => ?_)
            subst ez_23
            refine lv_aload_n hx hb d_Mod_openCell_52 rfl (lv_at hl 0 rfl) ?_
            refine m_gr hx hb hK hown hP 19 (by decide) t_756 d_Mod_openCell_53 ?_
            refine lv_bipush (v := 10) hx hb d_Mod_openCell_56 (by decide) ?_
            refine lv_iload_n hx hb d_Mod_openCell_58 rfl (lv_at hl 1 rfl) ?_
            refine x_mul hx hb d_Mod_openCell_59 kc_10 hxd (by omega) (fun z_24 tz_24 => ?_)
            refine lv_iload_n hx hb d_Mod_openCell_60 rfl (lv_at hl 3 rfl) ?_
            refine x_add hx hb d_Mod_openCell_61 tz_24 h3 (by omega) (fun z_25 tz_25 => ?_)
            refine m_ld hx hb hK hP 19 (by decide) (((10 * d) + kx)) tz_25 (by omega) (show ((10 * d) + kx) < 120 by omega) d_Mod_openCell_62 (fun z_26 ez_26 => ?_)
            subst ez_26
            refine b_icmp_ge (tgt := 68) hx hb d_Mod_openCell_63 (by decide) rfl rfl (fun c_27 => ?_) (fun c_27 => ?_)
            · refine x_iinc (k := 3) (lv' := fun v_ => [(3, .int v_), (0, .ref (adr 0)), (1, .int xd), (2, .int xl)]) hx hb d_Mod_openCell_68 hl rfl h3 (by decide) (by omega) (by decide) (fun v_ => rfl) (fun z_28 tz_28 ls hl => ?_)
              refine lv_goto (tgt := 33) hx hb d_Mod_openCell_71 (by decide) ?_
              exact ih_19 (kx + 1) z_28 _ _ _ (by omega) (by omega) (by omega) (fun i hi => by rcases (by omega : i < kx ∨ i = kx) with z | z; exact hno i z; (rw [z]; unfold bl bh; omega)) hP hS (lv_sub hl [1, 2, 3, 0] rfl)
            · refine lv_iload_n hx hb d_Mod_openCell_66 rfl (lv_at hl 3 rfl) ?_
              refine e_i hx hb hr hlk hQ hS d_Mod_openCell_67 ?_
              refine ⟨_, rfl, Or.inr ⟨kx, ?_, h3⟩, hP⟩
              unfold opn; rw [if_neg (fun h => hnl ⟨h.1, by have e0 := hxx xl.toInt.toNat (by omega); have h2 := h.2; omega⟩)]
              exact fop_some (by omega) (by have e0 := hxx kx (by omega); have : bl F d kx < bh F d kx := c_27; omega) (fun i hi => by have e0 := hxx i (by omega); have := hno i hi; omega)
      exact L_19 (_ + 1) 0 (0 : Int32) _ _ _ (Nat.lt_succ_self _) (by omega) kc_0 (fun i hi => absurd hi (by omega)) hP hS (lv_sub hl [1, 2, 3, 0] rfl)
    · refine lv_iload_n hx hb d_Mod_openCell_29 rfl (lv_at hl 2 rfl) ?_
      refine e_i hx hb hr hlk hQ hS d_Mod_openCell_30 ?_
      refine ⟨_, rfl, Or.inr ⟨xl.toInt.toNat, ?_, by omega⟩, hP⟩
      unfold opn; rw [if_pos ⟨by omega, by have e0 := hxx xl.toInt.toNat (by omega); have : bl F d xl.toInt.toNat < bh F d xl.toInt.toNat := c_18; omega⟩]
theorem ks_init {F : Nat → Nat → Int32} {d : Nat} : F = va_up F 33 (fun k => if k < 0 then F 18 (10 * d + k) else F 33 k) := by
  have : (fun k => if k < 0 then F 18 (10 * d + k) else F 33 k) = F 33 := by funext k; simp
  rw [this, va_up_eta]
theorem ks_step {F : Nat → Nat → Int32} {d kx : Nat} : va_up (va_up F 33 (fun k => if k < kx then F 18 (10 * d + k) else F 33 k)) 33 (upd ((va_up F 33 (fun k => if k < kx then F 18 (10 * d + k) else F 33 k)) 33) kx ((va_up F 33 (fun k => if k < kx then F 18 (10 * d + k) else F 33 k)) 18 ((10 * d) + kx))) = va_up F 33 (fun k => if k < kx + 1 then F 18 (10 * d + k) else F 33 k) := by
  rw [bx_uu]
  congr 1
  funext k
  by_cases e : k = kx
  · subst e; simp [upd, va_up]
  · by_cases q : k < kx
    · simp [upd, va_up, e, q, show k < kx + 1 by omega]
    · simp [upd, va_up, e, q, show ¬ k < kx + 1 by omega]
theorem d_Mod_keepSetting_0 : decode b_Mod_keepSetting 0 = .ok (.iconst 0, 1) := by decide +kernel
theorem d_Mod_keepSetting_1 : decode b_Mod_keepSetting 1 = .ok (.istore_n 2, 1) := by decide +kernel
theorem d_Mod_keepSetting_2 : decode b_Mod_keepSetting 2 = .ok (.iload_n 2, 1) := by decide +kernel
theorem d_Mod_keepSetting_3 : decode b_Mod_keepSetting 3 = .ok (.aload_n 0, 1) := by decide +kernel
theorem d_Mod_keepSetting_4 : decode b_Mod_keepSetting 4 = .ok (.getfield 86, 3) := by decide +kernel
theorem d_Mod_keepSetting_7 : decode b_Mod_keepSetting 7 = .ok (.if_icmp .ge 26, 3) := by decide +kernel
theorem d_Mod_keepSetting_10 : decode b_Mod_keepSetting 10 = .ok (.aload_n 0, 1) := by decide +kernel
theorem d_Mod_keepSetting_11 : decode b_Mod_keepSetting 11 = .ok (.getfield 65, 3) := by decide +kernel
theorem d_Mod_keepSetting_14 : decode b_Mod_keepSetting 14 = .ok (.iload_n 2, 1) := by decide +kernel
theorem d_Mod_keepSetting_15 : decode b_Mod_keepSetting 15 = .ok (.aload_n 0, 1) := by decide +kernel
theorem d_Mod_keepSetting_16 : decode b_Mod_keepSetting 16 = .ok (.getfield 50, 3) := by decide +kernel
theorem d_Mod_keepSetting_19 : decode b_Mod_keepSetting 19 = .ok (.bipush 10, 2) := by decide +kernel
theorem d_Mod_keepSetting_21 : decode b_Mod_keepSetting 21 = .ok (.iload_n 1, 1) := by decide +kernel
theorem d_Mod_keepSetting_22 : decode b_Mod_keepSetting 22 = .ok (.imul, 1) := by decide +kernel
theorem d_Mod_keepSetting_23 : decode b_Mod_keepSetting 23 = .ok (.iload_n 2, 1) := by decide +kernel
theorem d_Mod_keepSetting_24 : decode b_Mod_keepSetting 24 = .ok (.iadd, 1) := by decide +kernel
theorem d_Mod_keepSetting_25 : decode b_Mod_keepSetting 25 = .ok (.iaload, 1) := by decide +kernel
theorem d_Mod_keepSetting_26 : decode b_Mod_keepSetting 26 = .ok (.iastore, 1) := by decide +kernel
theorem d_Mod_keepSetting_27 : decode b_Mod_keepSetting 27 = .ok (.iinc 2 1, 3) := by decide +kernel
theorem d_Mod_keepSetting_30 : decode b_Mod_keepSetting 30 = .ok (.goto (-28), 3) := by decide +kernel
theorem d_Mod_keepSetting_33 : decode b_Mod_keepSetting 33 = .ok (.aload_n 0, 1) := by decide +kernel
theorem d_Mod_keepSetting_34 : decode b_Mod_keepSetting 34 = .ok (.aload_n 0, 1) := by decide +kernel
theorem d_Mod_keepSetting_35 : decode b_Mod_keepSetting 35 = .ok (.getfield 86, 3) := by decide +kernel
theorem d_Mod_keepSetting_38 : decode b_Mod_keepSetting 38 = .ok (.putfield 214, 3) := by decide +kernel
theorem d_Mod_keepSetting_41 : decode b_Mod_keepSetting 41 = .ok (.return_, 1) := by decide +kernel
set_option maxHeartbeats 4000000 in
set_option maxRecDepth 20000 in
theorem k_Mod_keepSetting (l : Launch) (D : va_G) (cA : Nat → ClassId) (adr : Nat → Nat) (hi : wI mN adr) (I : Nat → Int32) (F : Nat → Nat → Int32) (d nn : Nat) (xd : Int32) (hd : d < 12) (hxd : xd.toInt = (d : Int)) (hn10 : nn ≤ 10) (hn1 : (I 1).toInt = (nn : Int)) : Ct l y_Mod_keepSetting b_Mod_keepSetting 3 none 1 D cA [.ref (adr 0), .int xd] (fun H => MP D cA adr I F H) (fun r H => r = none ∧ MP D cA adr (va_up I 32 (I 1)) (va_up F 33 (fun k => if k < nn then F 18 (10 * d + k) else F 33 k)) H) (wA mN adr) := by
  refine Ct.mk (by decide) (Nat.le_of_ble_eq_true rfl) ?_
  intro p e s m args below meth c Q H locs ls hx hb hr hml hlk hown hin hK hQ hS hP hl
  have hl : lv_has ls 3 [(0, .ref (adr 0)), (1, .int xd)] := hl
  have hown : s.vm.findClass "RangeSheetModel" = some m.cls := hown
  refine lv_iconst (v := 0) hx hb d_Mod_keepSetting_0 (by decide) ?_
  refine lv_istore_n (lv' := [(2, .int (0 : Int32)), (0, .ref (adr 0)), (1, .int xd)]) hx hb d_Mod_keepSetting_1 rfl hl (by decide) rfl (fun ls hl => ?_)
  have L_1 : ∀ (n : Nat) (kx : Nat) (x2 : Int32) (F1 : Nat → Nat → Int32) (H : Heap) (locs : List Loc) (ls : Array Slot), (nn - kx) < n → (kx ≤ nn) → (x2.toInt = (kx : Int)) → (F1 = va_up F 33 (fun k => if k < kx then F 18 (10 * d + k) else F 33 k)) → MP D cA adr I F1 H → va_S (wA mN adr) s.heap H locs → lv_has ls 3 [(0, .ref (adr 0)), (1, .int xd), (2, .int x2)] → W p l e (rl 1) s m args below meth c H locs 0 0 Q (F0 m 2 ls []) := by
    intro n
    induction n with
    | zero => intro kx x2 F1 H locs ls hmu; exact absurd hmu (Nat.not_lt_zero _)
    | succ n ih_1 =>
      intro kx x2 F1 H locs ls hmu hkx h2 hF1 hP hS hl
      refine lv_iload_n hx hb d_Mod_keepSetting_2 rfl (lv_at hl 2 rfl) ?_
      refine lv_aload_n hx hb d_Mod_keepSetting_3 rfl (lv_at hl 0 rfl) ?_
      refine m_gi (v := (I 1)) hx hb hK hown hP 1 (by decide) t_738 rfl d_Mod_keepSetting_4 ?_
      refine b_icmp_ge (tgt := 33) hx hb d_Mod_keepSetting_7 (by decide) h2 hn1 (fun c_2 => ?_) (fun c_2 => ?_)
      · refine lv_aload_n hx hb d_Mod_keepSetting_33 rfl (lv_at hl 0 rfl) ?_
        refine lv_aload_n hx hb d_Mod_keepSetting_34 rfl (lv_at hl 0 rfl) ?_
        refine m_gi (v := (I 1)) hx hb hK hown hP 1 (by decide) t_738 rfl d_Mod_keepSetting_35 ?_
        refine m_pi hx hb hK hown hi hP hS wA_mem 32 (by decide) t_769 rfl rfl d_Mod_keepSetting_38 (fun H locs hP hS => ?_)
        refine e_v hx hb hr hlk hQ hS d_Mod_keepSetting_41 ?_
        refine ⟨rfl, ?_⟩
        have e9 : F1 = va_up F 33 (fun k => if k < nn then F 18 (10 * d + k) else F 33 k) := by rw [hF1]; congr 1; funext k; rw [show kx = nn by omega]
        rw [← e9]; exact hP
      · refine lv_aload_n hx hb d_Mod_keepSetting_10 rfl (lv_at hl 0 rfl) ?_
        refine m_gr hx hb hK hown hP 33 (by decide) t_770 d_Mod_keepSetting_11 ?_
        refine lv_iload_n hx hb d_Mod_keepSetting_14 rfl (lv_at hl 2 rfl) ?_
        refine lv_aload_n hx hb d_Mod_keepSetting_15 rfl (lv_at hl 0 rfl) ?_
        refine m_gr hx hb hK hown hP 18 (by decide) t_755 d_Mod_keepSetting_16 ?_
        refine lv_bipush (v := 10) hx hb d_Mod_keepSetting_19 (by decide) ?_
        refine lv_iload_n hx hb d_Mod_keepSetting_21 rfl (lv_at hl 1 rfl) ?_
        refine x_mul hx hb d_Mod_keepSetting_22 kc_10 hxd (by omega) (fun z_3 tz_3 => ?_)
        refine lv_iload_n hx hb d_Mod_keepSetting_23 rfl (lv_at hl 2 rfl) ?_
        refine x_add hx hb d_Mod_keepSetting_24 tz_3 h2 (by omega) (fun z_4 tz_4 => ?_)
        refine m_ld hx hb hK hP 18 (by decide) (((10 * d) + kx)) tz_4 (by omega) (show ((10 * d) + kx) < 120 by omega) d_Mod_keepSetting_25 (fun z_5 ez_5 => ?_)
        subst ez_5
        refine m_st hx hb hK hi hP hS wA_mem 33 (by decide) (kx) h2 (by omega) (show kx < 10 by omega) d_Mod_keepSetting_26 (fun H locs hP hS => ?_)
        refine x_iinc (k := 2) (lv' := fun v_ => [(2, .int v_), (0, .ref (adr 0)), (1, .int xd)]) hx hb d_Mod_keepSetting_27 hl rfl h2 (by decide) (by omega) (by decide) (fun v_ => rfl) (fun z_6 tz_6 ls hl => ?_)
        refine lv_goto (tgt := 2) hx hb d_Mod_keepSetting_30 (by decide) ?_
        exact ih_1 (kx + 1) z_6 (va_up F1 33 (upd (F1 33) (kx) (F1 18 ((10 * d) + kx)))) _ _ _ (by omega) (by omega) (by omega) (by rw [hF1]; exact ks_step) hP hS (lv_sub hl [1, 2, 0] rfl)
  exact L_1 (_ + 1) 0 (0 : Int32) F _ _ _ (Nat.lt_succ_self _) (by omega) kc_0 ks_init hP hS (lv_sub hl [1, 2, 0] rfl)
theorem fo_step {I : Nat → Int32} {F F1 : Nat → Nat → Int32} {d kx : Nat} (hF1 : FrD (d + 1) I I F F1) (h : ∀ j, j < kx → F1 18 (10 * d + 10 + j) = F 18 (10 * d + j) ∧ F1 19 (10 * d + 10 + j) = F 19 (10 * d + j)) (hk : kx < 10) :
    ∀ j, j < kx + 1 → (va_up (va_up F1 18 (upd (F1 18) (((10 * d) + 10) + kx) (F1 18 ((10 * d) + kx)))) 19 (upd ((va_up F1 18 (upd (F1 18) (((10 * d) + 10) + kx) (F1 18 ((10 * d) + kx)))) 19) (((10 * d) + 10) + kx) (F1 19 ((10 * d) + kx)))) 18 (10 * d + 10 + j) = F 18 (10 * d + j) ∧ (va_up (va_up F1 18 (upd (F1 18) (((10 * d) + 10) + kx) (F1 18 ((10 * d) + kx)))) 19 (upd ((va_up F1 18 (upd (F1 18) (((10 * d) + 10) + kx) (F1 18 ((10 * d) + kx)))) 19) (((10 * d) + 10) + kx) (F1 19 ((10 * d) + kx)))) 19 (10 * d + 10 + j) = F 19 (10 * d + j) := by
  intro j hj
  rcases (by omega : j < kx ∨ j = kx) with z | z
  · have z2 : j ≠ kx := by omega
    have := h j z
    simp [va_up, upd, z2, this]
  · subst z
    have := hF1.2.2 (10 * d + j) (by omega)
    simp [va_up, upd, this]
theorem fo_eq {F F1 : Nat → Nat → Int32} {d nn kq : Nat} {x : Bx} {v : Int32} (hx : Eqb nn (bl F d) (bh F d) x.1 x.2) (h : ∀ j, j < nn → F1 18 (10 * d + 10 + j) = F 18 (10 * d + j) ∧ F1 19 (10 * d + 10 + j) = F 19 (10 * d + j)) :
    Eqb nn (bl (va_up (va_up F1 18 (upd (F1 18) (((10 * d) + 10) + kq) v)) 19 (upd ((va_up F1 18 (upd (F1 18) (((10 * d) + 10) + kq) v)) 19) (((10 * d) + 10) + kq) v)) (d + 1)) (bh (va_up (va_up F1 18 (upd (F1 18) (((10 * d) + 10) + kq) v)) 19 (upd ((va_up F1 18 (upd (F1 18) (((10 * d) + 10) + kq) v)) 19) (((10 * d) + 10) + kq) v)) (d + 1)) (setB x kq v.toInt).1 (setB x kq v.toInt).2 := by
  intro j hj
  have h1 := hx j hj
  have h2 := h j hj
  have e0 : 10 * (d + 1) + j = 10 * d + 10 + j := by omega
  simp only [bl, bh, setB, e0] at *
  by_cases e : j = kq
  · subst e; simp [va_up, upd]
  · simp [va_up, upd, e, h2.1, h2.2, h1.1, h1.2]
theorem d_Mod_follow_0 : decode b_Mod_follow 0 = .ok (.iconst 0, 1) := by decide +kernel
theorem d_Mod_follow_1 : decode b_Mod_follow 1 = .ok (.istore_n 3, 1) := by decide +kernel
theorem d_Mod_follow_2 : decode b_Mod_follow 2 = .ok (.iload_n 3, 1) := by decide +kernel
theorem d_Mod_follow_3 : decode b_Mod_follow 3 = .ok (.aload_n 0, 1) := by decide +kernel
theorem d_Mod_follow_4 : decode b_Mod_follow 4 = .ok (.getfield 86, 3) := by decide +kernel
theorem d_Mod_follow_7 : decode b_Mod_follow 7 = .ok (.if_icmp .ge 59, 3) := by decide +kernel
theorem d_Mod_follow_10 : decode b_Mod_follow 10 = .ok (.aload_n 0, 1) := by decide +kernel
theorem d_Mod_follow_11 : decode b_Mod_follow 11 = .ok (.getfield 50, 3) := by decide +kernel
theorem d_Mod_follow_14 : decode b_Mod_follow 14 = .ok (.bipush 10, 2) := by decide +kernel
theorem d_Mod_follow_16 : decode b_Mod_follow 16 = .ok (.iload_n 1, 1) := by decide +kernel
theorem d_Mod_follow_17 : decode b_Mod_follow 17 = .ok (.imul, 1) := by decide +kernel
theorem d_Mod_follow_18 : decode b_Mod_follow 18 = .ok (.bipush 10, 2) := by decide +kernel
theorem d_Mod_follow_20 : decode b_Mod_follow 20 = .ok (.iadd, 1) := by decide +kernel
theorem d_Mod_follow_21 : decode b_Mod_follow 21 = .ok (.iload_n 3, 1) := by decide +kernel
theorem d_Mod_follow_22 : decode b_Mod_follow 22 = .ok (.iadd, 1) := by decide +kernel
theorem d_Mod_follow_23 : decode b_Mod_follow 23 = .ok (.aload_n 0, 1) := by decide +kernel
theorem d_Mod_follow_24 : decode b_Mod_follow 24 = .ok (.getfield 50, 3) := by decide +kernel
theorem d_Mod_follow_27 : decode b_Mod_follow 27 = .ok (.bipush 10, 2) := by decide +kernel
theorem d_Mod_follow_29 : decode b_Mod_follow 29 = .ok (.iload_n 1, 1) := by decide +kernel
theorem d_Mod_follow_30 : decode b_Mod_follow 30 = .ok (.imul, 1) := by decide +kernel
theorem d_Mod_follow_31 : decode b_Mod_follow 31 = .ok (.iload_n 3, 1) := by decide +kernel
theorem d_Mod_follow_32 : decode b_Mod_follow 32 = .ok (.iadd, 1) := by decide +kernel
theorem d_Mod_follow_33 : decode b_Mod_follow 33 = .ok (.iaload, 1) := by decide +kernel
theorem d_Mod_follow_34 : decode b_Mod_follow 34 = .ok (.iastore, 1) := by decide +kernel
theorem d_Mod_follow_35 : decode b_Mod_follow 35 = .ok (.aload_n 0, 1) := by decide +kernel
theorem d_Mod_follow_36 : decode b_Mod_follow 36 = .ok (.getfield 53, 3) := by decide +kernel
theorem d_Mod_follow_39 : decode b_Mod_follow 39 = .ok (.bipush 10, 2) := by decide +kernel
theorem d_Mod_follow_41 : decode b_Mod_follow 41 = .ok (.iload_n 1, 1) := by decide +kernel
theorem d_Mod_follow_42 : decode b_Mod_follow 42 = .ok (.imul, 1) := by decide +kernel
theorem d_Mod_follow_43 : decode b_Mod_follow 43 = .ok (.bipush 10, 2) := by decide +kernel
theorem d_Mod_follow_45 : decode b_Mod_follow 45 = .ok (.iadd, 1) := by decide +kernel
theorem d_Mod_follow_46 : decode b_Mod_follow 46 = .ok (.iload_n 3, 1) := by decide +kernel
theorem d_Mod_follow_47 : decode b_Mod_follow 47 = .ok (.iadd, 1) := by decide +kernel
theorem d_Mod_follow_48 : decode b_Mod_follow 48 = .ok (.aload_n 0, 1) := by decide +kernel
theorem d_Mod_follow_49 : decode b_Mod_follow 49 = .ok (.getfield 53, 3) := by decide +kernel
theorem d_Mod_follow_52 : decode b_Mod_follow 52 = .ok (.bipush 10, 2) := by decide +kernel
theorem d_Mod_follow_54 : decode b_Mod_follow 54 = .ok (.iload_n 1, 1) := by decide +kernel
theorem d_Mod_follow_55 : decode b_Mod_follow 55 = .ok (.imul, 1) := by decide +kernel
theorem d_Mod_follow_56 : decode b_Mod_follow 56 = .ok (.iload_n 3, 1) := by decide +kernel
theorem d_Mod_follow_57 : decode b_Mod_follow 57 = .ok (.iadd, 1) := by decide +kernel
theorem d_Mod_follow_58 : decode b_Mod_follow 58 = .ok (.iaload, 1) := by decide +kernel
theorem d_Mod_follow_59 : decode b_Mod_follow 59 = .ok (.iastore, 1) := by decide +kernel
theorem d_Mod_follow_60 : decode b_Mod_follow 60 = .ok (.iinc 3 1, 3) := by decide +kernel
theorem d_Mod_follow_63 : decode b_Mod_follow 63 = .ok (.goto (-61), 3) := by decide +kernel
theorem d_Mod_follow_66 : decode b_Mod_follow 66 = .ok (.aload_n 0, 1) := by decide +kernel
theorem d_Mod_follow_67 : decode b_Mod_follow 67 = .ok (.getfield 50, 3) := by decide +kernel
theorem d_Mod_follow_70 : decode b_Mod_follow 70 = .ok (.bipush 10, 2) := by decide +kernel
theorem d_Mod_follow_72 : decode b_Mod_follow 72 = .ok (.iload_n 1, 1) := by decide +kernel
theorem d_Mod_follow_73 : decode b_Mod_follow 73 = .ok (.imul, 1) := by decide +kernel
theorem d_Mod_follow_74 : decode b_Mod_follow 74 = .ok (.bipush 10, 2) := by decide +kernel
theorem d_Mod_follow_76 : decode b_Mod_follow 76 = .ok (.iadd, 1) := by decide +kernel
theorem d_Mod_follow_77 : decode b_Mod_follow 77 = .ok (.aload_n 0, 1) := by decide +kernel
theorem d_Mod_follow_78 : decode b_Mod_follow 78 = .ok (.getfield 68, 3) := by decide +kernel
theorem d_Mod_follow_81 : decode b_Mod_follow 81 = .ok (.iload_n 1, 1) := by decide +kernel
theorem d_Mod_follow_82 : decode b_Mod_follow 82 = .ok (.iaload, 1) := by decide +kernel
theorem d_Mod_follow_83 : decode b_Mod_follow 83 = .ok (.iadd, 1) := by decide +kernel
theorem d_Mod_follow_84 : decode b_Mod_follow 84 = .ok (.iload_n 2, 1) := by decide +kernel
theorem d_Mod_follow_85 : decode b_Mod_follow 85 = .ok (.iastore, 1) := by decide +kernel
theorem d_Mod_follow_86 : decode b_Mod_follow 86 = .ok (.aload_n 0, 1) := by decide +kernel
theorem d_Mod_follow_87 : decode b_Mod_follow 87 = .ok (.getfield 53, 3) := by decide +kernel
theorem d_Mod_follow_90 : decode b_Mod_follow 90 = .ok (.bipush 10, 2) := by decide +kernel
theorem d_Mod_follow_92 : decode b_Mod_follow 92 = .ok (.iload_n 1, 1) := by decide +kernel
theorem d_Mod_follow_93 : decode b_Mod_follow 93 = .ok (.imul, 1) := by decide +kernel
theorem d_Mod_follow_94 : decode b_Mod_follow 94 = .ok (.bipush 10, 2) := by decide +kernel
theorem d_Mod_follow_96 : decode b_Mod_follow 96 = .ok (.iadd, 1) := by decide +kernel
theorem d_Mod_follow_97 : decode b_Mod_follow 97 = .ok (.aload_n 0, 1) := by decide +kernel
theorem d_Mod_follow_98 : decode b_Mod_follow 98 = .ok (.getfield 68, 3) := by decide +kernel
theorem d_Mod_follow_101 : decode b_Mod_follow 101 = .ok (.iload_n 1, 1) := by decide +kernel
theorem d_Mod_follow_102 : decode b_Mod_follow 102 = .ok (.iaload, 1) := by decide +kernel
theorem d_Mod_follow_103 : decode b_Mod_follow 103 = .ok (.iadd, 1) := by decide +kernel
theorem d_Mod_follow_104 : decode b_Mod_follow 104 = .ok (.iload_n 2, 1) := by decide +kernel
theorem d_Mod_follow_105 : decode b_Mod_follow 105 = .ok (.iastore, 1) := by decide +kernel
theorem d_Mod_follow_106 : decode b_Mod_follow 106 = .ok (.aload_n 0, 1) := by decide +kernel
theorem d_Mod_follow_107 : decode b_Mod_follow 107 = .ok (.iload_n 1, 1) := by decide +kernel
theorem d_Mod_follow_108 : decode b_Mod_follow 108 = .ok (.iconst 1, 1) := by decide +kernel
theorem d_Mod_follow_109 : decode b_Mod_follow 109 = .ok (.iadd, 1) := by decide +kernel
theorem d_Mod_follow_110 : decode b_Mod_follow 110 = .ok (.invokevirtual 205, 3) := by decide +kernel
theorem d_Mod_follow_113 : decode b_Mod_follow 113 = .ok (.ireturn, 1) := by decide +kernel
set_option maxHeartbeats 4000000 in
set_option maxRecDepth 20000 in
theorem k_Mod_follow (l : Launch) (D : va_G) (cA : Nat → ClassId) (adr : Nat → Nat) (hi : wI mN adr) (I : Nat → Int32) (F : Nat → Nat → Int32) (d nn mm kq : Nat) (xd xv : Int32) (hd : d < 11) (hxd : xd.toInt = (d : Int)) (hW : WR I F nn mm) (xq : Bx) (hxx : Eqb nn (bl F d) (bh F d) xq.1 xq.2) (hrgx : ∀ j, j < nn → -100 ≤ xq.1 j ∧ xq.1 j ≤ xq.2 j ∧ xq.2 j ≤ 100) (hkq : (F 34 d).toInt = (kq : Int)) (hkn : kq < nn) (hxv : xq.1 kq ≤ xv.toInt ∧ xv.toInt ≤ xq.2 kq) : Ct l y_Mod_follow b_Mod_follow 4 (some .boolean) 16 D cA [.ref (adr 0), .int xd, .int xv] (fun H => MP D cA adr I F H) (fun r H => ∃ (I2 : Nat → Int32) (F2 : Nat → Nat → Int32) (q c2 : Bool), r = some (.int (bi q)) ∧ FrD (d + 1) I I2 F F2 ∧ I2 20 = bi c2 ∧ (q = true → ∃ y, stl nn (FA F mm) (setB xq kq xv.toInt) = some y ∧ Eqb nn (bl F2 (d + 1)) (bh F2 (d + 1)) y.1 y.2) ∧ (q = false → stl nn (FA F mm) (setB xq kq xv.toInt) = none) ∧ MP D cA adr I2 F2 H) (wA mN adr) := by
  refine Ct.mk (by decide) (Nat.le_of_ble_eq_true rfl) ?_
  intro p e s m args below meth c Q H locs ls hx hb hr hml hlk hown hin hK hQ hS hP hl
  have hl : lv_has ls 4 [(0, .ref (adr 0)), (1, .int xd), (2, .int xv)] := hl
  have hown : s.vm.findClass "RangeSheetModel" = some m.cls := hown
  have hn1 : (I 1).toInt = (nn : Int) := hW.2.2.1
  have hn10 := hW.1
  refine lv_iconst (v := 0) hx hb d_Mod_follow_0 (by decide) ?_
  refine lv_istore_n (lv' := [(3, .int (0 : Int32)), (0, .ref (adr 0)), (1, .int xd), (2, .int xv)]) hx hb d_Mod_follow_1 rfl hl (by decide) rfl (fun ls hl => ?_)
  have L_1 : ∀ (n : Nat) (kx : Nat) (x3 : Int32) (F1 : Nat → Nat → Int32) (H : Heap) (locs : List Loc) (ls : Array Slot), (nn - kx) < n → (kx ≤ nn) → (x3.toInt = (kx : Int)) → (FrD (d + 1) I I F F1) → (∀ j, j < kx → F1 18 (10 * d + 10 + j) = F 18 (10 * d + j) ∧ F1 19 (10 * d + 10 + j) = F 19 (10 * d + j)) → MP D cA adr I F1 H → va_S (wA mN adr) s.heap H locs → lv_has ls 4 [(0, .ref (adr 0)), (1, .int xd), (2, .int xv), (3, .int x3)] → W p l e (rl 16) s m args below meth c H locs 0 0 Q (F0 m 2 ls []) := by
    intro n
    induction n with
    | zero => intro kx x3 F1 H locs ls hmu; exact absurd hmu (Nat.not_lt_zero _)
    | succ n ih_1 =>
      intro kx x3 F1 H locs ls hmu hkx h3 hF1 hcp hP hS hl
      refine lv_iload_n hx hb d_Mod_follow_2 rfl (lv_at hl 3 rfl) ?_
      refine lv_aload_n hx hb d_Mod_follow_3 rfl (lv_at hl 0 rfl) ?_
      refine m_gi (v := (I 1)) hx hb hK hown hP 1 (by decide) t_738 rfl d_Mod_follow_4 ?_
      refine b_icmp_ge (tgt := 66) hx hb d_Mod_follow_7 (by decide) h3 hn1 (fun c_2 => ?_) (fun c_2 => ?_)
      · refine lv_aload_n hx hb d_Mod_follow_66 rfl (lv_at hl 0 rfl) ?_
        refine m_gr hx hb hK hown hP 18 (by decide) t_755 d_Mod_follow_67 ?_
        refine lv_bipush (v := 10) hx hb d_Mod_follow_70 (by decide) ?_
        refine lv_iload_n hx hb d_Mod_follow_72 rfl (lv_at hl 1 rfl) ?_
        refine x_mul hx hb d_Mod_follow_73 kc_10 hxd (by omega) (fun z_3 tz_3 => ?_)
        refine lv_bipush (v := 10) hx hb d_Mod_follow_74 (by decide) ?_
        refine x_add hx hb d_Mod_follow_76 tz_3 kc_10 (by omega) (fun z_4 tz_4 => ?_)
        refine lv_aload_n hx hb d_Mod_follow_77 rfl (lv_at hl 0 rfl) ?_
        refine m_gr hx hb hK hown hP 34 (by decide) t_771 d_Mod_follow_78 ?_
        refine lv_iload_n hx hb d_Mod_follow_81 rfl (lv_at hl 1 rfl) ?_
        refine m_ld hx hb hK hP 34 (by decide) (d) hxd (by omega) (show d < 11 by omega) d_Mod_follow_82 (fun z_5 ez_5 => ?_)
        subst ez_5
        have hk_6 : (F1 34 (d)).toInt = (kq : Int) := by have := hF1.2.1 34 (by decide) (by decide) (by decide); first | exact (by rw [this]; exact hkq) | exact (by simp only [va_up]; rw [this]; exact hkq)
        refine x_add hx hb d_Mod_follow_83 tz_4 hk_6 (by omega) (fun z_7 tz_7 => ?_)
        refine lv_iload_n hx hb d_Mod_follow_84 rfl (lv_at hl 2 rfl) ?_
        refine m_st hx hb hK hi hP hS wA_mem 18 (by decide) ((((10 * d) + 10) + kq)) tz_7 (by omega) (show (((10 * d) + 10) + kq) < 120 by omega) d_Mod_follow_85 (fun H locs hP hS => ?_)
        refine lv_aload_n hx hb d_Mod_follow_86 rfl (lv_at hl 0 rfl) ?_
        refine m_gr hx hb hK hown hP 19 (by decide) t_756 d_Mod_follow_87 ?_
        refine lv_bipush (v := 10) hx hb d_Mod_follow_90 (by decide) ?_
        refine lv_iload_n hx hb d_Mod_follow_92 rfl (lv_at hl 1 rfl) ?_
        refine x_mul hx hb d_Mod_follow_93 kc_10 hxd (by omega) (fun z_8 tz_8 => ?_)
        refine lv_bipush (v := 10) hx hb d_Mod_follow_94 (by decide) ?_
        refine x_add hx hb d_Mod_follow_96 tz_8 kc_10 (by omega) (fun z_9 tz_9 => ?_)
        refine lv_aload_n hx hb d_Mod_follow_97 rfl (lv_at hl 0 rfl) ?_
        refine m_gr hx hb hK hown hP 34 (by decide) t_771 d_Mod_follow_98 ?_
        refine lv_iload_n hx hb d_Mod_follow_101 rfl (lv_at hl 1 rfl) ?_
        refine m_ld hx hb hK hP 34 (by decide) (d) hxd (by omega) (show d < 11 by omega) d_Mod_follow_102 (fun z_10 ez_10 => ?_)
        have ez_10 : z_10 = F1 34 (d) := ez_10
        subst ez_10
        have hk_11 : (F1 34 (d)).toInt = (kq : Int) := by have := hF1.2.1 34 (by decide) (by decide) (by decide); first | exact (by rw [this]; exact hkq) | exact (by simp only [va_up]; rw [this]; exact hkq)
        refine x_add hx hb d_Mod_follow_103 tz_9 hk_11 (by omega) (fun z_12 tz_12 => ?_)
        refine lv_iload_n hx hb d_Mod_follow_104 rfl (lv_at hl 2 rfl) ?_
        refine m_st hx hb hK hi hP hS wA_mem 19 (by decide) ((((10 * d) + 10) + kq)) tz_12 (by omega) (show (((10 * d) + 10) + kq) < 120 by omega) d_Mod_follow_105 (fun H locs hP hS => ?_)
        have hF9 : FrD (d + 1) I I F (va_up (va_up F1 18 (upd (F1 18) (((10 * d) + 10) + kq) xv)) 19 (upd ((va_up F1 18 (upd (F1 18) (((10 * d) + 10) + kq) xv)) 19) (((10 * d) + 10) + kq) xv)) := cp_fr hF1 (by omega) (by omega)
        have hEq9 : Eqb nn (bl (va_up (va_up F1 18 (upd (F1 18) (((10 * d) + 10) + kq) xv)) 19 (upd ((va_up F1 18 (upd (F1 18) (((10 * d) + 10) + kq) xv)) 19) (((10 * d) + 10) + kq) xv)) (d + 1)) (bh (va_up (va_up F1 18 (upd (F1 18) (((10 * d) + 10) + kq) xv)) 19 (upd ((va_up F1 18 (upd (F1 18) (((10 * d) + 10) + kq) xv)) 19) (((10 * d) + 10) + kq) xv)) (d + 1)) (setB xq kq xv.toInt).1 (setB xq kq xv.toInt).2 := fo_eq hxx (fun j hj => hcp j (by omega))
        refine lv_aload_n hx hb d_Mod_follow_106 rfl (lv_at hl 0 rfl) ?_
        refine lv_iload_n hx hb d_Mod_follow_107 rfl (lv_at hl 1 rfl) ?_
        refine lv_iconst (v := 1) hx hb d_Mod_follow_108 (by decide) ?_
        refine x_add hx hb d_Mod_follow_109 hxd kc_1 (by omega) (fun z_13 tz_13 => ?_)
        refine x_V (As := [.int z_13]) (rest := []) hx hb hml hown hK (k_Mod_settle l D cA adr hi I (va_up (va_up F1 18 (upd (F1 18) (((10 * d) + 10) + kq) xv)) 19 (upd ((va_up F1 18 (upd (F1 18) (((10 * d) + 10) + kq) xv)) 19) (((10 * d) + 10) + kq) xv)) (d + 1) nn mm z_13 (by omega) tz_13 (hW.fr rfl rfl hF9.ft) (fun j hj => by have a1 := hEq9 j hj; have a2 := hrgx j hj; simp only [setB] at a1; by_cases e : j = kq; (subst e; simp only [if_true] at a1; omega); (simp only [if_neg e] at a1; omega)) (fun j hj => by have a1 := hEq9 j hj; have a2 := hrgx j hj; simp only [setB] at a1; by_cases e : j = kq; (subst e; simp only [if_true] at a1; omega); (simp only [if_neg e] at a1; omega))) t_920 t_4 t_917 t_919 ts_21 yk_Mod_settle ⟨Nat.le_of_ble_eq_true rfl, Nat.le_of_ble_eq_true rfl⟩ (m_rec hK hP) hP rfl hl.1 rfl (Nat.le_of_ble_eq_true rfl) d_Mod_follow_110 ⟨Nat.le_of_ble_eq_true rfl, Nat.le_of_ble_eq_true rfl⟩ hS (fun q h => h) (fun r H locs hq _ hS => ?_)
        obtain ⟨I_14, F_14, q_14, c_14, rfl, hFr_14, h20_14, hT_14, hF_14, hP⟩ := hq
        refine W.eq (g2 := F0 m 113 ls [.int (bi q_14)]) rfl ?_
        refine e_z hx hb hr hlk hQ hS d_Mod_follow_113 ?_
        refine ⟨I_14, F_14, q_14, c_14, rfl, hF9.tr hFr_14, h20_14, fun h => ?_, fun h => ?_, hP⟩
        · obtain ⟨vl, vh, e1, g1⟩ := hT_14 h
          rw [hF9.ft.fa] at g1
          exact stl_T hEq9 g1 e1
        · have g1 := hF_14 h
          rw [hF9.ft.fa] at g1
          exact stl_F hEq9 g1
      · refine lv_aload_n hx hb d_Mod_follow_10 rfl (lv_at hl 0 rfl) ?_
        refine m_gr hx hb hK hown hP 18 (by decide) t_755 d_Mod_follow_11 ?_
        refine lv_bipush (v := 10) hx hb d_Mod_follow_14 (by decide) ?_
        refine lv_iload_n hx hb d_Mod_follow_16 rfl (lv_at hl 1 rfl) ?_
        refine x_mul hx hb d_Mod_follow_17 kc_10 hxd (by omega) (fun z_15 tz_15 => ?_)
        refine lv_bipush (v := 10) hx hb d_Mod_follow_18 (by decide) ?_
        refine x_add hx hb d_Mod_follow_20 tz_15 kc_10 (by omega) (fun z_16 tz_16 => ?_)
        refine lv_iload_n hx hb d_Mod_follow_21 rfl (lv_at hl 3 rfl) ?_
        refine x_add hx hb d_Mod_follow_22 tz_16 h3 (by omega) (fun z_17 tz_17 => ?_)
        refine lv_aload_n hx hb d_Mod_follow_23 rfl (lv_at hl 0 rfl) ?_
        refine m_gr hx hb hK hown hP 18 (by decide) t_755 d_Mod_follow_24 ?_
        refine lv_bipush (v := 10) hx hb d_Mod_follow_27 (by decide) ?_
        refine lv_iload_n hx hb d_Mod_follow_29 rfl (lv_at hl 1 rfl) ?_
        refine x_mul hx hb d_Mod_follow_30 kc_10 hxd (by omega) (fun z_18 tz_18 => ?_)
        refine lv_iload_n hx hb d_Mod_follow_31 rfl (lv_at hl 3 rfl) ?_
        refine x_add hx hb d_Mod_follow_32 tz_18 h3 (by omega) (fun z_19 tz_19 => ?_)
        refine m_ld hx hb hK hP 18 (by decide) (((10 * d) + kx)) tz_19 (by omega) (show ((10 * d) + kx) < 120 by omega) d_Mod_follow_33 (fun z_20 ez_20 => ?_)
        subst ez_20
        refine m_st hx hb hK hi hP hS wA_mem 18 (by decide) ((((10 * d) + 10) + kx)) tz_17 (by omega) (show (((10 * d) + 10) + kx) < 120 by omega) d_Mod_follow_34 (fun H locs hP hS => ?_)
        refine lv_aload_n hx hb d_Mod_follow_35 rfl (lv_at hl 0 rfl) ?_
        refine m_gr hx hb hK hown hP 19 (by decide) t_756 d_Mod_follow_36 ?_
        refine lv_bipush (v := 10) hx hb d_Mod_follow_39 (by decide) ?_
        refine lv_iload_n hx hb d_Mod_follow_41 rfl (lv_at hl 1 rfl) ?_
        refine x_mul hx hb d_Mod_follow_42 kc_10 hxd (by omega) (fun z_21 tz_21 => ?_)
        refine lv_bipush (v := 10) hx hb d_Mod_follow_43 (by decide) ?_
        refine x_add hx hb d_Mod_follow_45 tz_21 kc_10 (by omega) (fun z_22 tz_22 => ?_)
        refine lv_iload_n hx hb d_Mod_follow_46 rfl (lv_at hl 3 rfl) ?_
        refine x_add hx hb d_Mod_follow_47 tz_22 h3 (by omega) (fun z_23 tz_23 => ?_)
        refine lv_aload_n hx hb d_Mod_follow_48 rfl (lv_at hl 0 rfl) ?_
        refine m_gr hx hb hK hown hP 19 (by decide) t_756 d_Mod_follow_49 ?_
        refine lv_bipush (v := 10) hx hb d_Mod_follow_52 (by decide) ?_
        refine lv_iload_n hx hb d_Mod_follow_54 rfl (lv_at hl 1 rfl) ?_
        refine x_mul hx hb d_Mod_follow_55 kc_10 hxd (by omega) (fun z_24 tz_24 => ?_)
        refine lv_iload_n hx hb d_Mod_follow_56 rfl (lv_at hl 3 rfl) ?_
        refine x_add hx hb d_Mod_follow_57 tz_24 h3 (by omega) (fun z_25 tz_25 => ?_)
        refine m_ld hx hb hK hP 19 (by decide) (((10 * d) + kx)) tz_25 (by omega) (show ((10 * d) + kx) < 120 by omega) d_Mod_follow_58 (fun z_26 ez_26 => ?_)
        have ez_26 : z_26 = F1 19 ((10 * d) + kx) := ez_26
        subst ez_26
        refine m_st hx hb hK hi hP hS wA_mem 19 (by decide) ((((10 * d) + 10) + kx)) tz_23 (by omega) (show (((10 * d) + 10) + kx) < 120 by omega) d_Mod_follow_59 (fun H locs hP hS => ?_)
        refine x_iinc (k := 3) (lv' := fun v_ => [(3, .int v_), (0, .ref (adr 0)), (1, .int xd), (2, .int xv)]) hx hb d_Mod_follow_60 hl rfl h3 (by decide) (by omega) (by decide) (fun v_ => rfl) (fun z_27 tz_27 ls hl => ?_)
        refine lv_goto (tgt := 2) hx hb d_Mod_follow_63 (by decide) ?_
        exact ih_1 (kx + 1) z_27 (va_up (va_up F1 18 (upd (F1 18) (((10 * d) + 10) + kx) (F1 18 ((10 * d) + kx)))) 19 (upd ((va_up F1 18 (upd (F1 18) (((10 * d) + 10) + kx) (F1 18 ((10 * d) + kx)))) 19) (((10 * d) + 10) + kx) (F1 19 ((10 * d) + kx)))) _ _ _ (by omega) (by omega) (by omega) (cp_fr hF1 (by omega) (by omega)) (fo_step hF1 hcp (by omega)) hP hS (lv_sub hl [1, 2, 3, 0] rfl)
  exact L_1 (_ + 1) 0 (0 : Int32) F _ _ _ (Nat.lt_succ_self _) (by omega) kc_0 FrD.rf (fun j hj => absurd hj (by omega)) hP hS (lv_sub hl [1, 2, 3, 0] rfl)
