/-- narrow -/
def J_nar (I : Nat → Int32) (o : Option Bx) : Nat → Int32 := match o with
  | none => va_up I 28 0
  | some _ => va_up I 28 (I 1)
def G_nar (F : Nat → Nat → Int32) (n : Nat) (o : Option Bx) : Nat → Nat → Int32 := match o with
  | none => F
  | some y => va_up (va_up F 29 (fun k => if k < n then Int32.ofInt (y.1 k) else F 29 k)) 30 (fun k => if k < n then Int32.ofInt (y.2 k) else F 30 k)
/-- conflict: entries that can be left out, from the last to the first -/
noncomputable def cfl (F : Nat → Nat → Int32) (n m en : Nat) (e mk : Nat) : Nat := match e with
  | 0 => mk
  | e + 1 => cfl F n m en e (if mk.testBit e = true ∧ (nw F n m en (mk ^^^ 2 ^ e)).isNone = true then mk ^^^ 2 ^ e else mk)
theorem cfl_hi {F : Nat → Nat → Int32} {n m en mk e : Nat} (h : mk < 2 ^ en) (he : en ≤ e) : cfl F n m en e mk = cfl F n m en en mk := by
  induction e with
  | zero => rw [show en = 0 by omega]
  | succ e ih =>
    by_cases q : en = e + 1
    · rw [q]
    · have hb : mk.testBit e = false := Nat.testBit_lt_two_pow (Nat.lt_of_lt_of_le h (Nat.pow_le_pow_right (by decide) (by omega)))
      rw [cfl, if_neg (by rw [hb]; simp)]
      exact ih (by omega)
noncomputable def r_cfl (F : Nat → Nat → Int32) (n m en mk : Nat) : Int := if (nw F n m en mk).isNone = true then (cfl F n m en en mk : Int) else -1000
def bnd (top : Bool) (k : Nat) (y : Bx) : Int := if top = true then y.2 k else y.1 k
/-- because -/
noncomputable def bcs (F : Nat → Nat → Int32) (n m en : Nat) (top : Bool) (k : Nat) (due : Int) (e mk : Nat) : Nat := match e with
  | 0 => mk
  | e + 1 => bcs F n m en top k due e (if mk.testBit e = true ∧ (nw F n m en (mk ^^^ 2 ^ e)).map (bnd top k) = some due then mk ^^^ 2 ^ e else mk)
theorem bcs_hi {F : Nat → Nat → Int32} {n m en mk e k : Nat} {top : Bool} {due : Int} (h : mk < 2 ^ en) (he : en ≤ e) : bcs F n m en top k due e mk = bcs F n m en top k due en mk := by
  induction e with
  | zero => rw [show en = 0 by omega]
  | succ e ih =>
    by_cases q : en = e + 1
    · rw [q]
    · have hb : mk.testBit e = false := Nat.testBit_lt_two_pow (Nat.lt_of_lt_of_le h (Nat.pow_le_pow_right (by decide) (by omega)))
      rw [bcs, if_neg (by rw [hb]; simp)]
      exact ih (by omega)
noncomputable def r_bcs (F : Nat → Nat → Int32) (n m en mk : Nat) (top : Bool) (k : Nat) : Int := match nw F n m en mk with
  | none => -1000
  | some y => (bcs F n m en top k (bnd top k y) en mk : Int)
theorem xor_lt {mk e N : Nat} (h : mk < 2 ^ N) (he : e < N) : mk ^^^ 2 ^ e < 2 ^ N := Nat.xor_lt_two_pow h (Nat.pow_lt_pow_right (by decide) he)
/-- a search's new state -/
def J_fnd (I : Nat → Int32) (r : Int × Nat × Bx) : Nat → Int32 := va_up (va_up I 31 (Int32.ofInt r.2.1)) 32 (if r.1 = 1 then I 1 else I 32)
def G_fnd (F : Nat → Nat → Int32) (n : Nat) (r : Int × Nat × Bx) : Nat → Nat → Int32 := va_up F 33 (if r.1 = 1 then (fun k => if k < n then Int32.ofInt (r.2.2.1 k) else F 33 k) else F 33)
theorem Sm.fnd {I I' : Nat → Int32} {F F' : Nat → Nat → Int32} {n lim : Nat} {r : Int × Nat × Bx} (h : FS I I' F F') (h31 : (I' 31).toInt = (r.2.1 : Int)) (h1 : r.1 = 1 → (I' 32 = I 1 ∧ F' 33 = fun k => if k < n then Int32.ofInt (r.2.2.1 k) else F 33 k)) (h0 : ¬ r.1 = 1 → I' 32 = I 32 ∧ F' 33 = F 33) : Sm (J_fnd I r) (G_fnd F n r) I' F' := by
  refine ⟨⟨h.1 1 (by omega), h.1 4 (by omega), h.1 13 (by omega), h.1 17 (by omega), h.1 28 (by omega), i32_of h31, ?_⟩, fun k a b c d e f g => ?_, fun k _ => ?_⟩
  · show I' 32 = if r.1 = 1 then I 1 else I 32
    split
    · exact (h1 (by assumption)).1
    · exact (h0 (by assumption)).1
  · by_cases q : k = 33
    · subst q
      show F' 33 = if r.1 = 1 then _ else F 33
      split
      · exact (h1 (by assumption)).2
      · exact (h0 (by assumption)).2
    · rw [G_fnd, va_up_ne _ _ q]
      exact h.2 k a b c q f g
  · exact ⟨congrFun (h.2 29 (by decide) (by decide) (by decide) (by decide) (by decide) (by decide)) k, congrFun (h.2 30 (by decide) (by decide) (by decide) (by decide) (by decide) (by decide)) k⟩
/-- narrow's two rows are copied -/
theorem nar_sm {I I1 : Nat → Int32} {F F1 F2 : Nat → Nat → Int32} {n : Nat} {y : Bx} {c : Int32} (hn : n ≤ 10) (hn1 : (I 1).toInt = n) (h : FrD 0 I I1 F F1) (h28 : c = I 1) (hE : Eqb n (bl F1 0) (bh F1 0) y.1 y.2) (h2 : ∀ k, k ≠ 29 → k ≠ 30 → F2 k = F1 k) (hc : ∀ j, j < n → F2 29 j = F1 18 j ∧ F2 30 j = F1 19 j) : Sm (J_nar I (some y)) (G_nar F n (some y)) (va_up I1 28 c) F2 := by
  refine ⟨⟨h.1 1 (by omega), h.1 4 (by omega), h.1 13 (by omega), h.1 17 (by omega), h28, h.1 31 (by omega), h.1 32 (by omega)⟩, fun k a b c d e f g => ?_, fun k hk => ?_⟩
  · show F2 k = va_up _ 30 _ k
    rw [va_up_ne _ _ e, va_up_ne _ _ d, h2 k d e]
    exact h.2.1 k a b c
  · have hk : (k : Int) < (I 1).toInt := hk
    have hk : k < n := by omega
    have a1 := hc k hk
    have a2 := hE k hk
    rw [bl_0, bh_0] at a2
    constructor
    · show F2 29 k = if k < n then _ else _
      rw [if_pos hk, a1.1]; exact i32_of a2.1
    · show F2 30 k = if k < n then _ else _
      rw [if_pos hk, a1.2]; exact i32_of a2.2
theorem d_Mod_narrow_0 : decode b_Mod_narrow 0 = .ok (.aload_n 0, 1) := by decide +kernel
theorem d_Mod_narrow_1 : decode b_Mod_narrow 1 = .ok (.iconst 0, 1) := by decide +kernel
theorem d_Mod_narrow_2 : decode b_Mod_narrow 2 = .ok (.putfield 74, 3) := by decide +kernel
theorem d_Mod_narrow_5 : decode b_Mod_narrow 5 = .ok (.aload_n 0, 1) := by decide +kernel
theorem d_Mod_narrow_6 : decode b_Mod_narrow 6 = .ok (.aload_n 0, 1) := by decide +kernel
theorem d_Mod_narrow_7 : decode b_Mod_narrow 7 = .ok (.getfield 110, 3) := by decide +kernel
theorem d_Mod_narrow_10 : decode b_Mod_narrow 10 = .ok (.invokevirtual 208, 3) := by decide +kernel
theorem d_Mod_narrow_13 : decode b_Mod_narrow 13 = .ok (.istore_n 1, 1) := by decide +kernel
theorem d_Mod_narrow_14 : decode b_Mod_narrow 14 = .ok (.aload_n 0, 1) := by decide +kernel
theorem d_Mod_narrow_15 : decode b_Mod_narrow 15 = .ok (.iload_n 1, 1) := by decide +kernel
theorem d_Mod_narrow_16 : decode b_Mod_narrow 16 = .ok (.ifCond .eq 10, 3) := by decide +kernel
theorem d_Mod_narrow_19 : decode b_Mod_narrow 19 = .ok (.aload_n 0, 1) := by decide +kernel
theorem d_Mod_narrow_20 : decode b_Mod_narrow 20 = .ok (.getfield 86, 3) := by decide +kernel
theorem d_Mod_narrow_23 : decode b_Mod_narrow 23 = .ok (.goto 4, 3) := by decide +kernel
theorem d_Mod_narrow_26 : decode b_Mod_narrow 26 = .ok (.iconst 0, 1) := by decide +kernel
theorem d_Mod_narrow_27 : decode b_Mod_narrow 27 = .ok (.putfield 211, 3) := by decide +kernel
theorem d_Mod_narrow_30 : decode b_Mod_narrow 30 = .ok (.iconst 0, 1) := by decide +kernel
theorem d_Mod_narrow_31 : decode b_Mod_narrow 31 = .ok (.istore_n 2, 1) := by decide +kernel
theorem d_Mod_narrow_32 : decode b_Mod_narrow 32 = .ok (.iload_n 2, 1) := by decide +kernel
theorem d_Mod_narrow_33 : decode b_Mod_narrow 33 = .ok (.aload_n 0, 1) := by decide +kernel
theorem d_Mod_narrow_34 : decode b_Mod_narrow 34 = .ok (.getfield 211, 3) := by decide +kernel
theorem d_Mod_narrow_37 : decode b_Mod_narrow 37 = .ok (.if_icmp .ge 33, 3) := by decide +kernel
theorem d_Mod_narrow_40 : decode b_Mod_narrow 40 = .ok (.aload_n 0, 1) := by decide +kernel
theorem d_Mod_narrow_41 : decode b_Mod_narrow 41 = .ok (.getfield 59, 3) := by decide +kernel
theorem d_Mod_narrow_44 : decode b_Mod_narrow 44 = .ok (.iload_n 2, 1) := by decide +kernel
theorem d_Mod_narrow_45 : decode b_Mod_narrow 45 = .ok (.aload_n 0, 1) := by decide +kernel
theorem d_Mod_narrow_46 : decode b_Mod_narrow 46 = .ok (.getfield 50, 3) := by decide +kernel
theorem d_Mod_narrow_49 : decode b_Mod_narrow 49 = .ok (.iload_n 2, 1) := by decide +kernel
theorem d_Mod_narrow_50 : decode b_Mod_narrow 50 = .ok (.iaload, 1) := by decide +kernel
theorem d_Mod_narrow_51 : decode b_Mod_narrow 51 = .ok (.iastore, 1) := by decide +kernel
theorem d_Mod_narrow_52 : decode b_Mod_narrow 52 = .ok (.aload_n 0, 1) := by decide +kernel
theorem d_Mod_narrow_53 : decode b_Mod_narrow 53 = .ok (.getfield 62, 3) := by decide +kernel
theorem d_Mod_narrow_56 : decode b_Mod_narrow 56 = .ok (.iload_n 2, 1) := by decide +kernel
theorem d_Mod_narrow_57 : decode b_Mod_narrow 57 = .ok (.aload_n 0, 1) := by decide +kernel
theorem d_Mod_narrow_58 : decode b_Mod_narrow 58 = .ok (.getfield 53, 3) := by decide +kernel
theorem d_Mod_narrow_61 : decode b_Mod_narrow 61 = .ok (.iload_n 2, 1) := by decide +kernel
theorem d_Mod_narrow_62 : decode b_Mod_narrow 62 = .ok (.iaload, 1) := by decide +kernel
theorem d_Mod_narrow_63 : decode b_Mod_narrow 63 = .ok (.iastore, 1) := by decide +kernel
theorem d_Mod_narrow_64 : decode b_Mod_narrow 64 = .ok (.iinc 2 1, 3) := by decide +kernel
theorem d_Mod_narrow_67 : decode b_Mod_narrow 67 = .ok (.goto (-35), 3) := by decide +kernel
theorem d_Mod_narrow_70 : decode b_Mod_narrow 70 = .ok (.iload_n 1, 1) := by decide +kernel
theorem d_Mod_narrow_71 : decode b_Mod_narrow 71 = .ok (.ireturn, 1) := by decide +kernel
set_option maxHeartbeats 4000000 in
set_option maxRecDepth 20000 in
theorem k_Mod_narrow (l : Launch) (D : va_G) (cA : Nat → ClassId) (adr : Nat → Nat) (hi : wI mN adr) (I : Nat → Int32) (F : Nat → Nat → Int32) (nn mm en mk : Nat) (ch : Bool) (hch : I 20 = bi ch) (hWF : WF I F nn mm en mk)  : Ct l y_Mod_narrow b_Mod_narrow 3 (some .boolean) 18 D cA [.ref (adr 0)] (fun H => MP D cA adr I F H) (fun r H => r = some (.int (bi (nw F nn mm en mk).isSome)) ∧ MQ2 D cA adr 0 (J_nar I (nw F nn mm en mk)) (G_nar F nn (nw F nn mm en mk)) H) (wA mN adr) := by
  refine Ct.mk (by decide) (Nat.le_of_ble_eq_true rfl) ?_
  intro p e s m args below meth c Q H locs ls hx hb hr hml hlk hown hin hK hQ hS hP hl
  have hl : lv_has ls 3 [(0, .ref (adr 0))] := hl
  have hown : s.vm.findClass "RangeSheetModel" = some m.cls := hown
  obtain ⟨hW, hE, hen, ⟨hmk, hmke⟩, htd, hsp, hsd, hset, hgd⟩ := hWF
  have hn1 : (I 1).toInt = (nn : Int) := hW.2.2.1
  have hm1 : (I 4).toInt = (mm : Int) := hW.2.2.2.1
  have hn10 := hW.1
  have hm12 := hW.2.1
  have hen12 := hE.1
  refine lv_aload_n hx hb d_Mod_narrow_0 rfl (lv_at hl 0 rfl) ?_
  refine lv_iconst (v := 0) hx hb d_Mod_narrow_1 (by decide) ?_
  refine m_pi hx hb hK hown hi hP hS wA_mem 0 (by decide) t_737 rfl rfl d_Mod_narrow_2 (fun H locs hP hS => ?_)
  refine lv_aload_n hx hb d_Mod_narrow_5 rfl (lv_at hl 0 rfl) ?_
  refine lv_aload_n hx hb d_Mod_narrow_6 rfl (lv_at hl 0 rfl) ?_
  refine m_gi (v := (I 17)) hx hb hK hown hP 17 (by decide) t_754 rfl d_Mod_narrow_7 ?_
  refine x_V (As := [.int (I 17)]) (rest := []) hx hb hml hown hK (k_Mod_narrowWith l D cA adr hi (va_up I 0 (0 : Int32)) F nn mm en mk (I 17) ch hmk hch (hW.fr rfl rfl ⟨rfl, rfl, rfl, rfl, rfl, rfl, rfl, rfl⟩) hE hen) t_906 t_4 t_903 t_905 ts_19 yk_Mod_narrowWith ⟨Nat.le_of_ble_eq_true rfl, Nat.le_of_ble_eq_true rfl⟩ (m_rec hK hP) hP rfl hl.1 rfl (Nat.le_of_ble_eq_true rfl) d_Mod_narrow_10 ⟨Nat.le_of_ble_eq_true rfl, Nat.le_of_ble_eq_true rfl⟩ hS (fun q h => h) (fun r H locs hq _ hS => ?_)
  obtain ⟨I_1, F_1, q_1, c_1, rfl, hFr_1, h20_1, hT_1, hF_1, hP⟩ := hq
  refine W.eq (g2 := F0 m 13 ls [.int (bi q_1)]) rfl ?_
  refine lv_istore_n (lv' := [(1, .int (bi q_1)), (0, .ref (adr 0))]) hx hb d_Mod_narrow_13 rfl hl (by decide) rfl (fun ls hl => ?_)
  refine lv_aload_n hx hb d_Mod_narrow_14 rfl (lv_at hl 1 rfl) ?_
  refine lv_iload_n hx hb d_Mod_narrow_15 rfl (lv_at hl 0 rfl) ?_
  refine b_bool_eq (tgt := 26) hx hb d_Mod_narrow_16 (by decide) (fun c_2 => ?_) (fun c_2 => ?_)
  · refine lv_iconst (v := 0) hx hb d_Mod_narrow_26 (by decide) ?_
    refine m_pi hx hb hK hown hi hP hS wA_mem 28 (by decide) t_765 rfl rfl d_Mod_narrow_27 (fun H locs hP hS => ?_)
    refine lv_iconst (v := 0) hx hb d_Mod_narrow_30 (by decide) ?_
    refine lv_istore_n (lv' := [(2, .int (0 : Int32)), (1, .int (bi q_1)), (0, .ref (adr 0))]) hx hb d_Mod_narrow_31 rfl hl (by decide) rfl (fun ls hl => ?_)
    have L_3 : ∀ (n : Nat) (kx : Nat) (x2 : Int32) (F1 : Nat → Nat → Int32) (H : Heap) (locs : List Loc) (ls : Array Slot), (0 - kx) < n → (kx ≤ 0) → (x2.toInt = (kx : Int)) → (∀ n, n ≠ 29 → n ≠ 30 → F1 n = F_1 n) → (∀ j, j < kx → F1 29 j = F_1 18 j ∧ F1 30 j = F_1 19 j) → MP D cA adr (va_up I_1 28 (0 : Int32)) F1 H → va_S (wA mN adr) s.heap H locs → lv_has ls 3 [(0, .ref (adr 0)), (1, .int (bi q_1)), (2, .int x2)] → W p l e (rl 18) s m args below meth c H locs 0 0 Q (F0 m 32 ls []) := by
      intro n
      induction n with
      | zero => intro kx x2 F1 H locs ls hmu; exact absurd hmu (Nat.not_lt_zero _)
      | succ n ih_3 =>
        intro kx x2 F1 H locs ls hmu hkx h2 hF2 hcp hP hS hl
        refine lv_iload_n hx hb d_Mod_narrow_32 rfl (lv_at hl 2 rfl) ?_
        refine lv_aload_n hx hb d_Mod_narrow_33 rfl (lv_at hl 0 rfl) ?_
        refine m_gi (v := (0 : Int32)) hx hb hK hown hP 28 (by decide) t_765 rfl d_Mod_narrow_34 ?_
        refine b_icmp_ge (tgt := 70) hx hb d_Mod_narrow_37 (by decide) h2 kc_0 (fun c_4 => ?_) (fun c_4 => ?_)
        · refine lv_iload_n hx hb d_Mod_narrow_70 rfl (lv_at hl 1 rfl) ?_
          refine e_z hx hb hr hlk hQ hS d_Mod_narrow_71 ?_
          have hw := hF_1 c_2
          rw [hw]; refine ⟨by rw [c_2]; rfl, (va_up I_1 28 (0 : Int32)), F1, c_1, ?_, ?_, ?_, hP⟩
          · show I_1 0 = 0; rw [hFr_1.1 0 (by omega)]; rfl
          · exact h20_1
          · have hs := Sm.d hFr_1
            exact ⟨⟨hs.1.1, hs.1.2.1, hs.1.2.2.1, hs.1.2.2.2.1, rfl, hs.1.2.2.2.2.2.1, hs.1.2.2.2.2.2.2⟩, fun n a b c d e f g => (hF2 n d e).trans (hs.2.1 n a b c d e f g), fun k hk => absurd hk (by show ¬ (k : Int) < (0 : Int32).toInt; rw [kc_0]; omega)⟩
        · exfalso; have := kc_0; omega
    exact L_3 (_ + 1) 0 (0 : Int32) F_1 _ _ _ (Nat.lt_succ_self _) (by omega) kc_0 (fun _ _ _ => rfl) (fun j hj => absurd hj (by omega)) hP hS (lv_sub hl [2, 1, 0] rfl)
  · refine lv_aload_n hx hb d_Mod_narrow_19 rfl (lv_at hl 1 rfl) ?_
    refine m_gi (v := (I 1)) hx hb hK hown hP 1 (by decide) t_738 (hFr_1.1 1 (by omega)) d_Mod_narrow_20 ?_
    refine lv_goto (tgt := 27) hx hb d_Mod_narrow_23 (by decide) ?_
    refine m_pi hx hb hK hown hi hP hS wA_mem 28 (by decide) t_765 rfl rfl d_Mod_narrow_27 (fun H locs hP hS => ?_)
    refine lv_iconst (v := 0) hx hb d_Mod_narrow_30 (by decide) ?_
    refine lv_istore_n (lv' := [(2, .int (0 : Int32)), (1, .int (bi q_1)), (0, .ref (adr 0))]) hx hb d_Mod_narrow_31 rfl hl (by decide) rfl (fun ls hl => ?_)
    have L_5 : ∀ (n : Nat) (kx : Nat) (x2 : Int32) (F1 : Nat → Nat → Int32) (H : Heap) (locs : List Loc) (ls : Array Slot), (nn - kx) < n → (kx ≤ nn) → (x2.toInt = (kx : Int)) → (∀ n, n ≠ 29 → n ≠ 30 → F1 n = F_1 n) → (∀ j, j < kx → F1 29 j = F_1 18 j ∧ F1 30 j = F_1 19 j) → MP D cA adr (va_up I_1 28 (I 1)) F1 H → va_S (wA mN adr) s.heap H locs → lv_has ls 3 [(0, .ref (adr 0)), (1, .int (bi q_1)), (2, .int x2)] → W p l e (rl 18) s m args below meth c H locs 0 0 Q (F0 m 32 ls []) := by
      intro n
      induction n with
      | zero => intro kx x2 F1 H locs ls hmu; exact absurd hmu (Nat.not_lt_zero _)
      | succ n ih_5 =>
        intro kx x2 F1 H locs ls hmu hkx h2 hF2 hcp hP hS hl
        refine lv_iload_n hx hb d_Mod_narrow_32 rfl (lv_at hl 2 rfl) ?_
        refine lv_aload_n hx hb d_Mod_narrow_33 rfl (lv_at hl 0 rfl) ?_
        refine m_gi (v := (I 1)) hx hb hK hown hP 28 (by decide) t_765 rfl d_Mod_narrow_34 ?_
        refine b_icmp_ge (tgt := 70) hx hb d_Mod_narrow_37 (by decide) h2 hn1 (fun c_6 => ?_) (fun c_6 => ?_)
        · refine lv_iload_n hx hb d_Mod_narrow_70 rfl (lv_at hl 1 rfl) ?_
          refine e_z hx hb hr hlk hQ hS d_Mod_narrow_71 ?_
          obtain ⟨y, hw, hEy⟩ := hT_1 c_2
          rw [hw]; refine ⟨by rw [c_2]; rfl, (va_up I_1 28 (I 1)), F1, c_1, ?_, ?_, ?_, hP⟩
          · show I_1 0 = 0; rw [hFr_1.1 0 (by omega)]; rfl
          · exact h20_1
          · exact nar_sm (I := va_up I 0 0) (F := F) hn10 hn1 hFr_1 rfl hEy hF2 (fun j hj => hcp j (by omega))
        · refine lv_aload_n hx hb d_Mod_narrow_40 rfl (lv_at hl 0 rfl) ?_
          refine m_gr hx hb hK hown hP 29 (by decide) t_766 d_Mod_narrow_41 ?_
          refine lv_iload_n hx hb d_Mod_narrow_44 rfl (lv_at hl 2 rfl) ?_
          refine lv_aload_n hx hb d_Mod_narrow_45 rfl (lv_at hl 0 rfl) ?_
          refine m_gr hx hb hK hown hP 18 (by decide) t_755 d_Mod_narrow_46 ?_
          refine lv_iload_n hx hb d_Mod_narrow_49 rfl (lv_at hl 2 rfl) ?_
          refine m_ld hx hb hK hP 18 (by decide) (kx) h2 (by omega) (show kx < 120 by omega) d_Mod_narrow_50 (fun z_7 ez_7 => ?_)
          subst ez_7
          refine m_st hx hb hK hi hP hS wA_mem 29 (by decide) (kx) h2 (by omega) (show kx < 10 by omega) d_Mod_narrow_51 (fun H locs hP hS => ?_)
          refine lv_aload_n hx hb d_Mod_narrow_52 rfl (lv_at hl 0 rfl) ?_
          refine m_gr hx hb hK hown hP 30 (by decide) t_767 d_Mod_narrow_53 ?_
          refine lv_iload_n hx hb d_Mod_narrow_56 rfl (lv_at hl 2 rfl) ?_
          refine lv_aload_n hx hb d_Mod_narrow_57 rfl (lv_at hl 0 rfl) ?_
          refine m_gr hx hb hK hown hP 19 (by decide) t_756 d_Mod_narrow_58 ?_
          refine lv_iload_n hx hb d_Mod_narrow_61 rfl (lv_at hl 2 rfl) ?_
          refine m_ld hx hb hK hP 19 (by decide) (kx) h2 (by omega) (show kx < 120 by omega) d_Mod_narrow_62 (fun z_8 ez_8 => ?_)
          have ez_8 : z_8 = F1 19 (kx) := ez_8
          subst ez_8
          refine m_st hx hb hK hi hP hS wA_mem 30 (by decide) (kx) h2 (by omega) (show kx < 10 by omega) d_Mod_narrow_63 (fun H locs hP hS => ?_)
          refine x_iinc (k := 2) (lv' := fun v_ => [(2, .int v_), (0, .ref (adr 0)), (1, .int (bi q_1))]) hx hb d_Mod_narrow_64 hl rfl h2 (by decide) (by omega) (by decide) (fun v_ => rfl) (fun z_9 tz_9 ls hl => ?_)
          refine lv_goto (tgt := 32) hx hb d_Mod_narrow_67 (by decide) ?_
          exact ih_5 (kx + 1) z_9 (va_up (va_up F1 29 (upd (F1 29) (kx) (F1 18 (kx)))) 30 (upd ((va_up F1 29 (upd (F1 29) (kx) (F1 18 (kx)))) 30) (kx) (F1 19 (kx)))) _ _ _ (by omega) (by omega) (by omega) (fun n a b => by simp only [va_up, if_neg a, if_neg b]; exact hF2 n a b) (fun j hj => by have f18 := hF2 18 (by decide) (by decide); have f19 := hF2 19 (by decide) (by decide); rcases (by omega : j < kx ∨ j = kx) with z | z; (have z2 : j ≠ kx := by omega); (have := hcp j z; simp [va_up, upd, z2, this]); (subst z; simp [va_up, upd, f18, f19])) hP hS (lv_sub hl [1, 2, 0] rfl)
    exact L_5 (_ + 1) 0 (0 : Int32) F_1 _ _ _ (Nat.lt_succ_self _) (by omega) kc_0 (fun _ _ _ => rfl) (fun j hj => absurd hj (by omega)) hP hS (lv_sub hl [2, 1, 0] rfl)
theorem WE.fr {I I' : Nat → Int32} {F F' : Nat → Nat → Int32} {n en d : Nat} (h : WE F n en) (g : FrD d I I' F F') : WE F' n en := by
  have q := g.2.1
  unfold WE at *
  rw [q 2 (by decide) (by decide) (by decide), q 3 (by decide) (by decide) (by decide), q 14 (by decide) (by decide) (by decide), q 15 (by decide) (by decide) (by decide), q 16 (by decide) (by decide) (by decide)]
  exact h
theorem nw_fr {I I' : Nat → Int32} {F F' : Nat → Nat → Int32} {n m en mk d : Nat} (g : FrD d I I' F F') : nw F' n m en mk = nw F n m en mk := by
  have q := g.2.1
  unfold nw
  rw [entB_ft (q 2 (by decide) (by decide) (by decide)) (q 3 (by decide) (by decide) (by decide)) (q 14 (by decide) (by decide) (by decide)) (q 15 (by decide) (by decide) (by decide)) (q 16 (by decide) (by decide) (by decide)), g.ft.fa]
theorem d_Mod_conflict_0 : decode b_Mod_conflict 0 = .ok (.aload_n 0, 1) := by decide +kernel
theorem d_Mod_conflict_1 : decode b_Mod_conflict 1 = .ok (.iconst 0, 1) := by decide +kernel
theorem d_Mod_conflict_2 : decode b_Mod_conflict 2 = .ok (.putfield 74, 3) := by decide +kernel
theorem d_Mod_conflict_5 : decode b_Mod_conflict 5 = .ok (.aload_n 0, 1) := by decide +kernel
theorem d_Mod_conflict_6 : decode b_Mod_conflict 6 = .ok (.aload_n 0, 1) := by decide +kernel
theorem d_Mod_conflict_7 : decode b_Mod_conflict 7 = .ok (.getfield 110, 3) := by decide +kernel
theorem d_Mod_conflict_10 : decode b_Mod_conflict 10 = .ok (.invokevirtual 208, 3) := by decide +kernel
theorem d_Mod_conflict_13 : decode b_Mod_conflict 13 = .ok (.ifCond .eq 7, 3) := by decide +kernel
theorem d_Mod_conflict_16 : decode b_Mod_conflict 16 = .ok (.sipush (-1000), 3) := by decide +kernel
theorem d_Mod_conflict_19 : decode b_Mod_conflict 19 = .ok (.ireturn, 1) := by decide +kernel
theorem d_Mod_conflict_20 : decode b_Mod_conflict 20 = .ok (.aload_n 0, 1) := by decide +kernel
theorem d_Mod_conflict_21 : decode b_Mod_conflict 21 = .ok (.getfield 110, 3) := by decide +kernel
theorem d_Mod_conflict_24 : decode b_Mod_conflict 24 = .ok (.istore_n 1, 1) := by decide +kernel
theorem d_Mod_conflict_25 : decode b_Mod_conflict 25 = .ok (.bipush 11, 2) := by decide +kernel
theorem d_Mod_conflict_27 : decode b_Mod_conflict 27 = .ok (.istore_n 2, 1) := by decide +kernel
theorem d_Mod_conflict_28 : decode b_Mod_conflict 28 = .ok (.iload_n 2, 1) := by decide +kernel
theorem d_Mod_conflict_29 : decode b_Mod_conflict 29 = .ok (.ifCond .lt 35, 3) := by decide +kernel
theorem d_Mod_conflict_32 : decode b_Mod_conflict 32 = .ok (.iload_n 1, 1) := by decide +kernel
theorem d_Mod_conflict_33 : decode b_Mod_conflict 33 = .ok (.iload_n 2, 1) := by decide +kernel
theorem d_Mod_conflict_34 : decode b_Mod_conflict 34 = .ok (.invokestatic 113, 3) := by decide +kernel
theorem d_Mod_conflict_37 : decode b_Mod_conflict 37 = .ok (.ifCond .eq 21, 3) := by decide +kernel
theorem d_Mod_conflict_40 : decode b_Mod_conflict 40 = .ok (.aload_n 0, 1) := by decide +kernel
theorem d_Mod_conflict_41 : decode b_Mod_conflict 41 = .ok (.iload_n 1, 1) := by decide +kernel
theorem d_Mod_conflict_42 : decode b_Mod_conflict 42 = .ok (.iconst 1, 1) := by decide +kernel
theorem d_Mod_conflict_43 : decode b_Mod_conflict 43 = .ok (.iload_n 2, 1) := by decide +kernel
theorem d_Mod_conflict_44 : decode b_Mod_conflict 44 = .ok (.ishl, 1) := by decide +kernel
theorem d_Mod_conflict_45 : decode b_Mod_conflict 45 = .ok (.ixor, 1) := by decide +kernel
theorem d_Mod_conflict_46 : decode b_Mod_conflict 46 = .ok (.invokevirtual 208, 3) := by decide +kernel
theorem d_Mod_conflict_49 : decode b_Mod_conflict 49 = .ok (.ifCond .ne 9, 3) := by decide +kernel
theorem d_Mod_conflict_52 : decode b_Mod_conflict 52 = .ok (.iload_n 1, 1) := by decide +kernel
theorem d_Mod_conflict_53 : decode b_Mod_conflict 53 = .ok (.iconst 1, 1) := by decide +kernel
theorem d_Mod_conflict_54 : decode b_Mod_conflict 54 = .ok (.iload_n 2, 1) := by decide +kernel
theorem d_Mod_conflict_55 : decode b_Mod_conflict 55 = .ok (.ishl, 1) := by decide +kernel
theorem d_Mod_conflict_56 : decode b_Mod_conflict 56 = .ok (.ixor, 1) := by decide +kernel
theorem d_Mod_conflict_57 : decode b_Mod_conflict 57 = .ok (.istore_n 1, 1) := by decide +kernel
theorem d_Mod_conflict_58 : decode b_Mod_conflict 58 = .ok (.iinc 2 (-1), 3) := by decide +kernel
theorem d_Mod_conflict_61 : decode b_Mod_conflict 61 = .ok (.goto (-33), 3) := by decide +kernel
theorem d_Mod_conflict_64 : decode b_Mod_conflict 64 = .ok (.iload_n 1, 1) := by decide +kernel
theorem d_Mod_conflict_65 : decode b_Mod_conflict 65 = .ok (.ireturn, 1) := by decide +kernel
set_option maxHeartbeats 4000000 in
set_option maxRecDepth 20000 in
theorem k_Mod_conflict (l : Launch) (D : va_G) (cA : Nat → ClassId) (adr : Nat → Nat) (hi : wI mN adr) (I : Nat → Int32) (F : Nat → Nat → Int32) (nn mm en mk : Nat) (ch : Bool) (hch : I 20 = bi ch) (hWF : WF I F nn mm en mk)  : Ct l y_Mod_conflict b_Mod_conflict 3 (some .int) 18 D cA [.ref (adr 0)] (fun H => MP D cA adr I F H) (fun r H => ∃ z : Int32, r = some (.int z) ∧ z.toInt = r_cfl F nn mm en mk ∧ MQ2 D cA adr 0 I F H) (wA mN adr) := by
  refine Ct.mk (by decide) (Nat.le_of_ble_eq_true rfl) ?_
  intro p e s m args below meth c Q H locs ls hx hb hr hml hlk hown hin hK hQ hS hP hl
  have hl : lv_has ls 3 [(0, .ref (adr 0))] := hl
  have hown : s.vm.findClass "RangeSheetModel" = some m.cls := hown
  obtain ⟨hW, hE, hen, ⟨hmk, hmke⟩, htd, hsp, hsd, hset, hgd⟩ := hWF
  have hn1 : (I 1).toInt = (nn : Int) := hW.2.2.1
  have hm1 : (I 4).toInt = (mm : Int) := hW.2.2.2.1
  have hn10 := hW.1
  have hm12 := hW.2.1
  have hen12 := hE.1
  have hmk12 : mk < 2 ^ 12 := Nat.lt_of_lt_of_le hmke (Nat.pow_le_pow_right (by decide) hen12)
  refine lv_aload_n hx hb d_Mod_conflict_0 rfl (lv_at hl 0 rfl) ?_
  refine lv_iconst (v := 0) hx hb d_Mod_conflict_1 (by decide) ?_
  refine m_pi hx hb hK hown hi hP hS wA_mem 0 (by decide) t_737 rfl rfl d_Mod_conflict_2 (fun H locs hP hS => ?_)
  refine lv_aload_n hx hb d_Mod_conflict_5 rfl (lv_at hl 0 rfl) ?_
  refine lv_aload_n hx hb d_Mod_conflict_6 rfl (lv_at hl 0 rfl) ?_
  refine m_gi (v := (I 17)) hx hb hK hown hP 17 (by decide) t_754 rfl d_Mod_conflict_7 ?_
  refine x_V (As := [.int (I 17)]) (rest := []) hx hb hml hown hK (k_Mod_narrowWith l D cA adr hi (va_up I 0 (0 : Int32)) F nn mm en mk (I 17) ch hmk hch (hW.fr rfl rfl ⟨rfl, rfl, rfl, rfl, rfl, rfl, rfl, rfl⟩) hE hen) t_906 t_4 t_903 t_905 ts_19 yk_Mod_narrowWith ⟨Nat.le_of_ble_eq_true rfl, Nat.le_of_ble_eq_true rfl⟩ (m_rec hK hP) hP rfl hl.1 rfl (Nat.le_of_ble_eq_true rfl) d_Mod_conflict_10 ⟨Nat.le_of_ble_eq_true rfl, Nat.le_of_ble_eq_true rfl⟩ hS (fun q h => h) (fun r H locs hq _ hS => ?_)
  obtain ⟨I_1, F_1, q_1, c_1, rfl, hFr_1, h20_1, hT_1, hF_1, hP⟩ := hq
  refine W.eq (g2 := F0 m 13 ls [.int (bi q_1)]) rfl ?_
  refine b_bool_eq (tgt := 20) hx hb d_Mod_conflict_13 (by decide) (fun c_2 => ?_) (fun c_2 => ?_)
  · have hw0 := hF_1 c_2
    refine lv_aload_n hx hb d_Mod_conflict_20 rfl (lv_at hl 0 rfl) ?_
    refine m_gi (v := (I 17)) hx hb hK hown hP 17 (by decide) t_754 (hFr_1.1 17 (by omega)) d_Mod_conflict_21 ?_
    refine lv_istore_n (lv' := [(1, .int (I 17)), (0, .ref (adr 0))]) hx hb d_Mod_conflict_24 rfl hl (by decide) rfl (fun ls hl => ?_)
    refine lv_bipush (v := 11) hx hb d_Mod_conflict_25 (by decide) ?_
    refine lv_istore_n (lv' := [(2, .int (11 : Int32)), (1, .int (I 17)), (0, .ref (adr 0))]) hx hb d_Mod_conflict_27 rfl hl (by decide) rfl (fun ls hl => ?_)
    have L_3 : ∀ (n : Nat) (ex : Nat) (m2 : Nat) (x1 : Int32) (x2 : Int32) (I1 : Nat → Int32) (F1 : Nat → Nat → Int32) (c1 : Bool) (H : Heap) (locs : List Loc) (ls : Array Slot), ex < n → (ex ≤ 12) → (x1.toInt = (m2 : Int)) → (x2.toInt = (ex : Int) - 1) → (FrD 0 (va_up I 0 0) I1 F F1) → (I1 20 = bi c1) → (m2 < 2 ^ 12) → (cfl F nn mm en 12 mk = cfl F nn mm en ex m2) → MP D cA adr I1 F1 H → va_S (wA mN adr) s.heap H locs → lv_has ls 3 [(0, .ref (adr 0)), (1, .int x1), (2, .int x2)] → W p l e (rl 18) s m args below meth c H locs 0 0 Q (F0 m 28 ls []) := by
      intro n
      induction n with
      | zero => intro ex m2 x1 x2 I1 F1 c1 H locs ls hmu; exact absurd hmu (Nat.not_lt_zero _)
      | succ n ih_3 =>
        intro ex m2 x1 x2 I1 F1 c1 H locs ls hmu hex hm2 h2 hFr h20 hm212 hcf hP hS hl
        refine lv_iload_n hx hb d_Mod_conflict_28 rfl (lv_at hl 2 rfl) ?_
        refine b_if_lt (tgt := 64) hx hb d_Mod_conflict_29 (by decide) h2 (fun c_4 => ?_) (fun c_4 => ?_)
        · refine lv_iload_n hx hb d_Mod_conflict_64 rfl (lv_at hl 1 rfl) ?_
          refine e_i hx hb hr hlk hQ hS d_Mod_conflict_65 ?_
          refine ⟨_, rfl, ?_, I1, F1, c1, ?_, h20, Sm.d (I := va_up I 0 0) hFr, hP⟩
          · unfold r_cfl; rw [hw0, if_pos (show (none : Option Bx).isNone = true from rfl), ← cfl_hi hmke hen12, hcf, show ex = 0 by omega]; exact hm2
          · rw [hFr.1 0 (by omega)]; rfl
        · obtain ⟨ex0, hex0⟩ : ∃ e0, ex = e0 + 1 := ⟨ex - 1, by omega⟩
          subst hex0
          have hx2 : x2.toInt = (ex0 : Int) := by omega
          have hpx := Nat.pow_lt_pow_right (show 1 < 2 by decide) (show ex0 < 12 by omega)
          refine lv_iload_n hx hb d_Mod_conflict_32 rfl (lv_at hl 1 rfl) ?_
          refine lv_iload_n hx hb d_Mod_conflict_33 rfl (lv_at hl 2 rfl) ?_
          refine r_Mod_has hx hb hml hown hK hl.1 hS ⟨Nat.le_of_ble_eq_true rfl, Nat.le_of_ble_eq_true rfl⟩ ⟨Nat.le_of_ble_eq_true rfl, Nat.le_of_ble_eq_true rfl⟩ hm2 hx2 (by omega) (by omega) d_Mod_conflict_34 (Nat.le_of_ble_eq_true rfl) (fun locs hS => ?_)
          refine b_bool_eq (tgt := 58) hx hb d_Mod_conflict_37 (by decide) (fun c_5 => ?_) (fun c_5 => ?_)
          · refine x_iinc (k := 2) (lv' := fun v_ => [(2, .int v_), (0, .ref (adr 0)), (1, .int x1)]) hx hb d_Mod_conflict_58 hl rfl hx2 (by decide) (by omega) (by decide) (fun v_ => rfl) (fun z_6 tz_6 ls hl => ?_)
            refine lv_goto (tgt := 28) hx hb d_Mod_conflict_61 (by decide) ?_
            have hbt : m2.testBit ex0 = false := by have q := c_5; rw [hasN_nat] at q; exact q
            exact ih_3 ex0 m2 x1 z_6 I1 F1 c1 _ _ _ (by omega) (by omega) (by omega) (by omega) hFr h20 hm212 (by rw [hcf, cfl, if_neg (by rw [hbt]; simp)]) hP hS (lv_sub hl [1, 2, 0] rfl)
          · refine lv_aload_n hx hb d_Mod_conflict_40 rfl (lv_at hl 0 rfl) ?_
            refine lv_iload_n hx hb d_Mod_conflict_41 rfl (lv_at hl 1 rfl) ?_
            refine lv_iconst (v := 1) hx hb d_Mod_conflict_42 (by decide) ?_
            refine lv_iload_n hx hb d_Mod_conflict_43 rfl (lv_at hl 2 rfl) ?_
            refine x_shl1 hx hb d_Mod_conflict_44 (ex0) hx2 (by omega) (by omega) (fun z_7 tz_7 => ?_)
            refine x_xorN hx hb d_Mod_conflict_45 (m2) ((2 ^ ex0)) hm2 tz_7 (by omega) (by omega) (fun z_8 tz_8 => ?_)
            refine x_V (As := [.int z_8]) (rest := []) hx hb hml hown hK (k_Mod_narrowWith l D cA adr hi I1 F1 nn mm en (m2 ^^^ (2 ^ ex0)) z_8 c1 tz_8 h20 (hW.fr (hFr.1 1 (by omega)) (hFr.1 4 (by omega)) hFr.ft) (WE.fr hE hFr) (by rw [hFr.1 13 (by omega)]; exact hen)) t_906 t_4 t_903 t_905 ts_19 yk_Mod_narrowWith ⟨Nat.le_of_ble_eq_true rfl, Nat.le_of_ble_eq_true rfl⟩ (m_rec hK hP) hP rfl hl.1 rfl (Nat.le_of_ble_eq_true rfl) d_Mod_conflict_46 ⟨Nat.le_of_ble_eq_true rfl, Nat.le_of_ble_eq_true rfl⟩ hS (fun q h => h) (fun r H locs hq _ hS => ?_)
            obtain ⟨I_9, F_9, q_9, c_9, rfl, hFr_9, h20_9, hT_9, hF_9, hP⟩ := hq
            refine W.eq (g2 := F0 m 49 ls [.int (bi q_9)]) rfl ?_
            refine b_bool_ne (tgt := 58) hx hb d_Mod_conflict_49 (by decide) (fun c_10 => ?_) (fun c_10 => ?_)
            · refine x_iinc (k := 2) (lv' := fun v_ => [(2, .int v_), (0, .ref (adr 0)), (1, .int x1)]) hx hb d_Mod_conflict_58 hl rfl hx2 (by decide) (by omega) (by decide) (fun v_ => rfl) (fun z_11 tz_11 ls hl => ?_)
              refine lv_goto (tgt := 28) hx hb d_Mod_conflict_61 (by decide) ?_
              have hbt : m2.testBit ex0 = true := by have q := c_5; rw [hasN_nat] at q; exact q
              have hnk : nw F1 nn mm en (m2 ^^^ 2 ^ ex0) = nw F nn mm en (m2 ^^^ 2 ^ ex0) := nw_fr hFr
              obtain ⟨y, hy, _⟩ := hT_9 c_10; rw [hnk] at hy
              exact ih_3 ex0 m2 x1 z_11 I_9 F_9 c_9 _ _ _ (by omega) (by omega) (by omega) (by omega) (hFr.tr hFr_9) h20_9 hm212 (by rw [hcf, cfl, if_neg (by rw [hy]; simp)]) hP hS (lv_sub hl [1, 2, 0] rfl)
            · refine lv_iload_n hx hb d_Mod_conflict_52 rfl (lv_at hl 1 rfl) ?_
              refine lv_iconst (v := 1) hx hb d_Mod_conflict_53 (by decide) ?_
              refine lv_iload_n hx hb d_Mod_conflict_54 rfl (lv_at hl 2 rfl) ?_
              refine x_shl1 hx hb d_Mod_conflict_55 (ex0) hx2 (by omega) (by omega) (fun z_12 tz_12 => ?_)
              refine x_xorN hx hb d_Mod_conflict_56 (m2) ((2 ^ ex0)) hm2 tz_12 (by omega) (by omega) (fun z_13 tz_13 => ?_)
              refine lv_istore_n (lv' := [(1, .int z_13), (0, .ref (adr 0)), (2, .int x2)]) hx hb d_Mod_conflict_57 rfl hl (by decide) rfl (fun ls hl => ?_)
              refine x_iinc (k := 2) (lv' := fun v_ => [(2, .int v_), (1, .int z_13), (0, .ref (adr 0))]) hx hb d_Mod_conflict_58 hl rfl hx2 (by decide) (by omega) (by decide) (fun v_ => rfl) (fun z_14 tz_14 ls hl => ?_)
              refine lv_goto (tgt := 28) hx hb d_Mod_conflict_61 (by decide) ?_
              have hbt : m2.testBit ex0 = true := by have q := c_5; rw [hasN_nat] at q; exact q
              have hnk : nw F1 nn mm en (m2 ^^^ 2 ^ ex0) = nw F nn mm en (m2 ^^^ 2 ^ ex0) := nw_fr hFr
              have hy := hF_9 c_10; rw [hnk] at hy
              exact ih_3 ex0 (m2 ^^^ 2 ^ ex0) z_13 z_14 I_9 F_9 c_9 _ _ _ (by omega) (by omega) tz_13 (by omega) (hFr.tr hFr_9) h20_9 (xor_lt hm212 (by omega)) (by rw [hcf, cfl, if_pos ⟨hbt, by rw [hy]; rfl⟩]) hP hS (lv_sub hl [2, 1, 0] rfl)
    exact L_3 (_ + 1) 12 mk (I 17) (11 : Int32) I_1 F_1 c_1 _ _ _ (Nat.lt_succ_self _) (by omega) hmk (by rw [kc_11]; rfl) hFr_1 h20_1 hmk12 rfl hP hS (lv_sub hl [2, 1, 0] rfl)
  · refine lv_sipush (v := (-1000)) hx hb d_Mod_conflict_16 (by decide) ?_
    refine e_i hx hb hr hlk hQ hS d_Mod_conflict_19 ?_
    obtain ⟨y, hw, _⟩ := hT_1 c_2
    refine ⟨_, rfl, by unfold r_cfl; rw [hw]; exact kc_m1000, I_1, F_1, c_1, ?_, h20_1, Sm.d (I := va_up I 0 0) hFr_1, hP⟩
    rw [hFr_1.1 0 (by omega)]; rfl
