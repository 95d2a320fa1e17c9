section MK
variable {p : Program} {l : Launch} {e : Env} {R : Room} {s : State} {m : MethodId} {args : Array Value} {below : List Frame} {meth : Method} {c : Code} {H : Heap} {locs : List Loc} {cells slots : Nat} {Q : State → Prop}
variable {cc : ByteArray} {pc : Nat} {ls : Array Slot} {rest st : List Value} {D : va_G} {cA : Nat → ClassId} {A : Nat → Prop} {H0 : Heap} {ws : va_W} {a : Nat} {own : String} {nL : Nat}
/-- less made than may be -/
theorem W_up {c2 s2 : Nat} {g : JFrame} (h1 : cells ≤ c2) (h2 : slots ≤ s2) (k : W p l e R s m args below meth c H locs c2 s2 Q g) : W p l e R s m args below meth c H locs cells slots Q g := fun T hT X =>
  k T hT ⟨X.admits, X.cas, X.clock, X.frames, X.room, X.hears, X.method, X.code, X.here, X.tail, X.warmed, X.limits, X.bytes, X.same.weaken (fun y hy _ => hy) h1 h2⟩
theorem e_a (hexec : p.tables.exec = Jvm.exec) (hb : c.code = cc) {Post : Option Value → Heap → Prop} {q : Nat} {rt : FieldType} (hr : meth.sig.returnType = some rt) (hrt : ∃ n, rt = .object n) (hlocks : meth.locks = false) (hQ : Q = MQ below (Qc0 Post A) args s cells slots A) (hS : va_S A s.heap H locs) (hdg : decode cc pc = .ok (.areturn, 1)) (hq : Post (some (.ref q)) H) :
    W p l e R s m args below meth c H locs cells slots Q (F0 m pc ls [.ref q]) := by
  rw [hQ]
  exact W.aret hexec hb hr (Or.inl hrt) (Or.inr ⟨_, rfl⟩) (fun t ht hW => ⟨⟨_, rfl, by rw [ht]; exact hq⟩, hS.F ht⟩) hS.2.2 hdg hlocks
theorem va_P.left {cl : List vw_C} {w1 w2 : va_W} (h : va_P D cl (w1 ++ w2) H) : va_P D cl w1 H := fun k q hk => h k q (by rw [List.getElem?_append_left (List.getElem?_eq_some_iff.mp hk).1]; exact hk)
theorem join1 {cl : List vw_C} {b : Nat} {e0 e1 : va_E} {H1 : Heap} (hP : va_P D cl (ws ++ [(b, e0)]) H) (hD : va_D A (ws ++ [(b, e0)])) (hk : ∀ q : Nat, q < H.size → ¬ va_A [(b, e0)] H.size q → H1[q]? = H[q]?) (hP1 : va_P D cl [(b, e1)] H1) : va_P D cl (ws ++ [(b, e1)]) H1 ∧ va_D A (ws ++ [(b, e1)]) := by
  have hl : (ws ++ [(b, e0)])[ws.length]? = some (b, e0) := by simp
  refine ⟨va_P.app (va_P.kept hP.left (fun k q hq => ?_)) hP1, ?_⟩
  · have hlt := (List.getElem?_eq_some_iff.mp hq).1
    have hq2 : (ws ++ [(b, e0)])[k]? = some q := by rw [List.getElem?_append_left hlt]; exact hq
    refine hk q.1 (hP k q hq2).lt (fun h => ?_)
    rcases h with ⟨j, e2, h⟩ | h
    · have hj : j = 0 := by have := (List.getElem?_eq_some_iff.mp h).1; simpa using this
      subst hj
      have hb : b = q.1 := by simpa using congrArg Prod.fst (Option.some.inj h)
      have := hD.1 k ws.length q (b, e0) hq2 hl hb.symm
      omega
    · have := (hP k q hq2).lt; omega
  · have h := hD.set (e := e1) hl
    have he : (ws ++ [(b, e0)]).set ws.length (b, e1) = ws ++ [(b, e1)] := by simp
    rw [he] at h
    exact h
theorem lk_last {x : Nat × va_E} : ([ws.length].map fun i => (ws ++ [x])[i]?) = [x].map some := by simp
/-- a virtual call of a method that makes cells -/
theorem l_V {y : MethodName} {bytes : ByteArray} {maxL kc n index mc ms b : Nat} {ret : Option FieldType} {As : List Value} {wc : va_W} {C : String} {Post : Option Value → Heap → Prop} (hexec : p.tables.exec = Jvm.exec) (hb : c.code = cc) (hml : c.maxLocals = nL) (hown : s.vm.findClass own = some m.cls) (hK : KE D cA s) (hM : CtA l y bytes maxL ret kc mc ms D cA (.ref b :: As) H.size wc Post) (tc : Cond.code y bytes maxL ret ∈ TW) (tn : Cond.initialized y.cls ∈ TW) (tl : Cond.methodLink own index y ∈ TW) (ti : Cond.instanceMethod y ∈ TW) (ts : Cond.selects C y y ∈ TW) (hd : yOk y n) (hR : kc + 1 ≤ R.frames ∧ 8 + (maxL + 11) + 60 * kc ≤ R.locals)
    (hrec : ∃ cellB : Cell, H[b]? = some cellB ∧ cellB.vm.isStatics = false ∧ s.vm.findClass C = some cellB.cls) (hP : va_P D classes wc H) (hD : va_D A wc) (hS : va_S A H0 H locs) (hA : ∀ q, H0.size ≤ q → A q) (hn : As.length = n) (hsize : ls.size = nL) (hst : st = As.reverse ++ .ref b :: rest) (hW : (rest.map fun v => v.category).sum ≤ 8) (hdg : decode cc pc = .ok (.invokevirtual index, 3)) (hc : cells + mc ≤ R.cells ∧ slots + ms ≤ R.slots)
    (kk : ∀ (r : Option Value) (H1 : Heap) (locs1 : List Loc), Post r H1 → (∀ q, va_A wc H.size q → A q) → H.size ≤ H1.size → va_S A H0 H1 locs1 → W p l e R s m args below meth c H1 locs1 (cells + mc) (slots + ms) Q (F0 m (pc + 3) ls (r.toList ++ rest))) : W p l e R s m args below meth c H locs cells slots Q (F0 m pc ls st) := by
  have hFc : ∀ q, va_A wc H.size q → A q := fun q h => by
    rcases h with ⟨k, e2, h⟩ | h
    · exact hD.2 k _ h
    · exact hA q (Nat.le_trans hS.1 h)
  have hr := va_runV (Ts := []) (args := args) (rest := rest) (As := As) (b := b) (locs := locs) (cells := cells) (slots := slots) (below := below) (meth := meth) (e := e) (g := F0 m pc ls st) ⟨hexec, hb, hml, hown, fun w h => absurd h List.not_mem_nil⟩ hM ⟨c_BA hK tc tn (hK.w tl) hd hR, hK.w ti, hK.w ts⟩ ⟨c_blindA, hrec, fun U hU hW => ⟨rfl, by rw [hU], hK.warm hW, by rw [hU]; exact hP, hD.weaken (fun _ _ _ _ => trivial)⟩⟩ rfl hn hsize hst (lv_room hW) hdg hc
  intro T hT X
  obtain ⟨v, st₀, t, T', L, h0, X', hL, e1, e2, ⟨⟨r, hv, hp⟩, hz, hk⟩, stp⟩ := hr T hT X
  cases hv
  rw [h0] at hz hk
  obtain ⟨t2, a1, b1⟩ := kk v T'.heap (locs ++ L) (by rw [e1]; exact hp) hFc (by rw [e1]; exact hz)
    ⟨Nat.le_trans hS.1 (by rw [e1]; exact hz), fun q h1 h2 => by rw [e1, hk q (Nat.lt_of_lt_of_le h1 hS.1) (fun z => h2 (hFc q z))]; exact hS.2.1 q h1 h2, fun q hq => by
      rcases List.mem_append.mp hq with h | h
      · exact hS.2.2 q h
      · exact hFc _ (hL q h)⟩ T' rfl X'
  exact ⟨t2, stp t2 a1, b1⟩
end MK
/-- a new relation's cell -/
def relE (adr : Nat → Nat) (k : Int) (a b c : Int32) : va_E :=
  if k = 5 then .inr (4, [.int a, .int b, .int c, .int (bi true)]) else if k = 7 then .inr (5, [.int a, .int (bi true)]) else if k = 8 then .inr (6, [.int a, .int b, .ref (adr (47 + 3 * c.toInt.toNat)), .int (bi true)]) else
  if k = 2 then .inr (9, [.int b, .int a, .int c, .int 0, .int 0, .int 0, .int 0, .int 0, .int 0, .int (bi true)]) else .inr (kci k, [.int a, .int b, .int c, .int 0, .int 0, .int 0, .int 0, .int 0, .int 0, .int (bi true)])
theorem wl_push {N : List Nat} {adr : Nat → Nat} {cn : Nat → va_E} {n q : Nat} {e : va_E} (hn : n ∉ N) : wl N adr cn ++ [(q, e)] = wl (N ++ [n]) (va_up adr n q) (va_up cn n e) := by
  unfold wl
  rw [List.map_append]
  congr 1
  · apply List.map_congr_left
    intro k hk
    have hne : k ≠ n := fun h => hn (h ▸ hk)
    rw [va_up_ne _ _ hne, va_up_ne _ _ hne]
  · simp [va_up_self]
theorem CP.adr {cA : Nat → ClassId} {adr adr' : Nat → Nat} {cn : Nat → va_E} {I : Nat → Int32} {F : Nat → Nat → Int32} {mm n : Nat} {x : Nat → Int32} {dn : Bool} (h : CP cA adr cn I F mm x dn) (hW : WR I F n mm) (ha : ∀ k, k < 56 + mm → adr' k = adr k) : CP cA adr' cn I F mm x dn := by
  obtain ⟨⟨r0, r1, r2, r3, r4⟩, hy, ⟨a2, a3, a4, a5, a6, a7⟩, ⟨c8, b8⟩, ⟨f11, g11, c11, b11, e11⟩, hb⟩ := h
  have kB : ∀ a f g c, BP cA adr cn a f g c → a + 2 < 56 → BP cA adr' cn a f g c := fun a f g c q hq => ⟨by rw [ha (a + 1) (by omega), ha (a + 2) (by omega)]; exact q.1, q.2.1, q.2.2⟩
  refine ⟨⟨?_, ?_, r2, fun t ht => ⟨?_, (r3 t ht).2.1, (r3 t ht).2.2⟩, fun r hr => ?_⟩, hy, ⟨?_, a3, a4, a5, ?_, a7⟩, ⟨c8, kB 8 _ _ _ b8 (by omega)⟩, ⟨f11, g11, c11, kB 11 _ _ _ b11 (by omega), e11⟩, fun d hd => by obtain ⟨f0, g0, c0, b0⟩ := hb d hd; exact ⟨f0, g0, c0, kB _ _ _ _ b0 (by omega)⟩⟩
  · rw [r0]; unfold SF; rw [ha 8 (by omega), ha 1 (by omega), ha 2 (by omega), ha 3 (by omega), ha 4 (by omega), ha 5 (by omega), ha 11 (by omega), ha 6 (by omega), ha 7 (by omega)]
  · rw [r1]
    have : (fun k => if k < mm then some (adr (56 + k)) else none) = fun k => if k < mm then some (adr' (56 + k)) else none := by
      funext k
      by_cases q : k < mm
      · rw [if_pos q, if_pos q, ha _ (by omega)]
      · rw [if_neg q, if_neg q]
    rw [this]
  · rw [ha _ (by omega), ha _ (by omega)]; exact (r3 t ht).1
  · obtain ⟨b1, b2, b3, b4, b5⟩ := r4 r hr
    refine ⟨b1, b2, fun h8 => ?_, b4, b5⟩
    have hv := (hW.2.2.2.2.2 r hr).2.2.2.2.1 h8
    rw [ha _ (by omega)]
    exact b3 h8
  · rw [a2]
    have : (fun k => if k < 3 then some (adr (47 + 3 * k)) else none) = fun k => if k < 3 then some (adr' (47 + 3 * k)) else none := by
      funext k
      by_cases q : k < 3
      · rw [if_pos q, if_pos q, ha _ (by omega)]
      · rw [if_neg q, if_neg q]
    rw [this]
  · rw [a6]
    have : (fun k => if k < 11 then some (adr (14 + 3 * k)) else none) = fun k => if k < 11 then some (adr' (14 + 3 * k)) else none := by
      funext k
      by_cases q : k < 11
      · rw [if_pos q, if_pos q, ha _ (by omega)]
      · rw [if_neg q, if_neg q]
    rw [this]
/-- a relation more -/
theorem CP.rel {cA : Nat → ClassId} {adr : Nat → Nat} {cn cn' : Nat → va_E} {I : Nat → Int32} {F : Nat → Nat → Int32} {mm : Nat} {x : Nat → Int32} {dn : Bool} {k a b c v : Int32} (h : CP cA adr cn I F mm x dn) (hv : v.toInt = (mm : Int) + 1) (h0 : cn' 0 = .inr (1, SF adr (va_up x 3 v) dn)) (h1 : cn' 1 = .inl (cA 3, 12, .inr (.inr (.inr (.inr (va_up (fun k => if k < mm then some (adr (56 + k)) else none) mm (some (adr (56 + mm))))))))) (hr : cn' (56 + mm) = relE adr k.toInt a b c) (hk8 : 0 ≤ k.toInt ∧ k.toInt ≤ 8) (hk : ∀ j, j ≠ 0 → j ≠ 1 → j ≠ 56 + mm → cn' j = cn j) : CP cA adr cn' (va_up I 4 v) (G_rel F mm k a b c) (mm + 1) (va_up x 3 v) dn := by
  obtain ⟨⟨r0, r1, r2, r3, r4⟩, ⟨y1, y2, y3, y4, y5, y6, y7⟩, ⟨a2, a3, a4, a5, a6, a7⟩, ⟨c8, b8⟩, ⟨f11, g11, c11, b11, e11⟩, hb⟩ := h
  have kB : ∀ a f g c, BP cA adr cn a f g c → 8 ≤ a → a + 2 < 56 → BP cA adr cn' a f g c := fun a f g c q h8 hq => ⟨(hk a (by omega) (by omega) (by omega)).trans q.1, (hk (a + 1) (by omega) (by omega) (by omega)).trans q.2.1, (hk (a + 2) (by omega) (by omega) (by omega)).trans q.2.2⟩
  refine ⟨⟨h0, ?_, ?_, r3.fr (fun j h1 h2 => hk j (by omega) (by omega) (by omega)), fun r hr9 => ?_⟩, ⟨y1, rfl, y3, y4, y5, y6, y7⟩, ⟨(hk 2 (by omega) (by omega) (by omega)).trans a2, (hk 3 (by omega) (by omega) (by omega)).trans a3, (hk 4 (by omega) (by omega) (by omega)).trans a4, (hk 5 (by omega) (by omega) (by omega)).trans a5, (hk 6 (by omega) (by omega) (by omega)).trans a6, (hk 7 (by omega) (by omega) (by omega)).trans a7⟩, ⟨c8, kB 8 _ _ _ b8 (by omega) (by omega)⟩, ⟨f11, g11, c11, kB 11 _ _ _ b11 (by omega) (by omega), e11⟩, fun d hd => by obtain ⟨f0, g0, c0, b0⟩ := hb d hd; exact ⟨f0, g0, c0, kB _ _ _ _ b0 (by omega) (by omega)⟩⟩
  · rw [h1]
    have : (va_up (fun k => if k < mm then some (adr (56 + k)) else none) mm (some (adr (56 + mm)))) = fun k => if k < mm + 1 then some (adr (56 + k)) else none := by
      funext j
      by_cases q : j = mm
      · subst q; rw [va_up_self, if_pos (by omega)]
      · rw [va_up_ne _ _ q]
        by_cases z : j < mm
        · rw [if_pos z, if_pos (by omega)]
        · rw [if_neg z, if_neg (by omega)]
    rw [this]
  · show v.toInt = _; rw [hv]; omega
  · by_cases q : r = mm
    · subst q
      have g5 : (G_rel F r k a b c) 5 r = k := by simp [G_rel, va_up, upd]
      have g6 : (G_rel F r k a b c) 6 r = a := by simp [G_rel, va_up, upd]
      have g7 : (G_rel F r k a b c) 7 r = b := by simp [G_rel, va_up, upd]
      have g8 : (G_rel F r k a b c) 8 r = c := by simp [G_rel, va_up, upd]
      have g9 : gB (G_rel F r k a b c) r = true := by unfold gB; rw [show (G_rel F r k a b c) 9 r = bi true by simp [G_rel, va_up, upd]]; decide
      unfold RelAt
      rw [g5, g6, g7, g8, g9, hr]
      unfold relE
      refine ⟨fun z => by rw [if_pos z], fun z => by rw [if_neg (by omega), if_pos z], fun z => by rw [if_neg (by omega), if_neg (by omega), if_pos z], fun z => ⟨fun _ => 0, by unfold TP; rw [hr]; unfold relE; rw [if_neg (by omega), if_neg (by omega), if_neg (by omega), if_pos z]⟩, fun z1 z2 z3 z4 => ⟨fun _ => 0, by unfold TP; rw [hr]; unfold relE; rw [if_neg z2, if_neg z3, if_neg z4, if_neg z1]⟩⟩
    · have hrm : r < mm := by omega
      have := (r4 r hrm).fr (cn' := cn') (hk _ (by omega) (by omega) (by omega))
      have g5 : (G_rel F mm k a b c) 5 r = F 5 r := by simp [G_rel, va_up, upd, q]
      have g6 : (G_rel F mm k a b c) 6 r = F 6 r := by simp [G_rel, va_up, upd, q]
      have g7 : (G_rel F mm k a b c) 7 r = F 7 r := by simp [G_rel, va_up, upd, q]
      have g8 : (G_rel F mm k a b c) 8 r = F 8 r := by simp [G_rel, va_up, upd, q]
      have g9 : (G_rel F mm k a b c) 9 r = F 9 r := by simp [G_rel, va_up, upd, q]
      unfold RelAt gB at *
      rw [g5, g6, g7, g8, g9]
      exact this
theorem d_Sht_make_0 : decode b_Sht_make 0 = .ok (.iload_n 1, 1) := by decide +kernel
theorem d_Sht_make_1 : decode b_Sht_make 1 = .ok (.tableswitch 140 0 7 #[47, 59, 71, 83, 95, 107, 119, 131], 47) := by decide +kernel
theorem d_Sht_make_48 : decode b_Sht_make 48 = .ok (.new 90, 3) := by decide +kernel
theorem d_Sht_make_51 : decode b_Sht_make 51 = .ok (.dup, 1) := by decide +kernel
theorem d_Sht_make_52 : decode b_Sht_make 52 = .ok (.iload_n 2, 1) := by decide +kernel
theorem d_Sht_make_53 : decode b_Sht_make 53 = .ok (.iload_n 3, 1) := by decide +kernel
theorem d_Sht_make_54 : decode b_Sht_make 54 = .ok (.iload 4, 2) := by decide +kernel
theorem d_Sht_make_56 : decode b_Sht_make 56 = .ok (.invokespecial 92, 3) := by decide +kernel
theorem d_Sht_make_59 : decode b_Sht_make 59 = .ok (.areturn, 1) := by decide +kernel
theorem d_Sht_make_60 : decode b_Sht_make 60 = .ok (.new 95, 3) := by decide +kernel
theorem d_Sht_make_63 : decode b_Sht_make 63 = .ok (.dup, 1) := by decide +kernel
theorem d_Sht_make_64 : decode b_Sht_make 64 = .ok (.iload_n 2, 1) := by decide +kernel
theorem d_Sht_make_65 : decode b_Sht_make 65 = .ok (.iload_n 3, 1) := by decide +kernel
theorem d_Sht_make_66 : decode b_Sht_make 66 = .ok (.iload 4, 2) := by decide +kernel
theorem d_Sht_make_68 : decode b_Sht_make 68 = .ok (.invokespecial 97, 3) := by decide +kernel
theorem d_Sht_make_71 : decode b_Sht_make 71 = .ok (.areturn, 1) := by decide +kernel
theorem d_Sht_make_72 : decode b_Sht_make 72 = .ok (.new 98, 3) := by decide +kernel
theorem d_Sht_make_75 : decode b_Sht_make 75 = .ok (.dup, 1) := by decide +kernel
theorem d_Sht_make_76 : decode b_Sht_make 76 = .ok (.iload_n 2, 1) := by decide +kernel
theorem d_Sht_make_77 : decode b_Sht_make 77 = .ok (.iload_n 3, 1) := by decide +kernel
theorem d_Sht_make_78 : decode b_Sht_make 78 = .ok (.iload 4, 2) := by decide +kernel
theorem d_Sht_make_80 : decode b_Sht_make 80 = .ok (.invokespecial 100, 3) := by decide +kernel
theorem d_Sht_make_83 : decode b_Sht_make 83 = .ok (.areturn, 1) := by decide +kernel
theorem d_Sht_make_84 : decode b_Sht_make 84 = .ok (.new 101, 3) := by decide +kernel
theorem d_Sht_make_87 : decode b_Sht_make 87 = .ok (.dup, 1) := by decide +kernel
theorem d_Sht_make_88 : decode b_Sht_make 88 = .ok (.iload_n 2, 1) := by decide +kernel
theorem d_Sht_make_89 : decode b_Sht_make 89 = .ok (.iload_n 3, 1) := by decide +kernel
theorem d_Sht_make_90 : decode b_Sht_make 90 = .ok (.iload 4, 2) := by decide +kernel
theorem d_Sht_make_92 : decode b_Sht_make 92 = .ok (.invokespecial 103, 3) := by decide +kernel
theorem d_Sht_make_95 : decode b_Sht_make 95 = .ok (.areturn, 1) := by decide +kernel
theorem d_Sht_make_96 : decode b_Sht_make 96 = .ok (.new 104, 3) := by decide +kernel
theorem d_Sht_make_99 : decode b_Sht_make 99 = .ok (.dup, 1) := by decide +kernel
theorem d_Sht_make_100 : decode b_Sht_make 100 = .ok (.iload_n 2, 1) := by decide +kernel
theorem d_Sht_make_101 : decode b_Sht_make 101 = .ok (.iload_n 3, 1) := by decide +kernel
theorem d_Sht_make_102 : decode b_Sht_make 102 = .ok (.iload 4, 2) := by decide +kernel
theorem d_Sht_make_104 : decode b_Sht_make 104 = .ok (.invokespecial 106, 3) := by decide +kernel
theorem d_Sht_make_107 : decode b_Sht_make 107 = .ok (.areturn, 1) := by decide +kernel
theorem d_Sht_make_108 : decode b_Sht_make 108 = .ok (.new 107, 3) := by decide +kernel
theorem d_Sht_make_111 : decode b_Sht_make 111 = .ok (.dup, 1) := by decide +kernel
theorem d_Sht_make_112 : decode b_Sht_make 112 = .ok (.iload_n 2, 1) := by decide +kernel
theorem d_Sht_make_113 : decode b_Sht_make 113 = .ok (.iload_n 3, 1) := by decide +kernel
theorem d_Sht_make_114 : decode b_Sht_make 114 = .ok (.iload 4, 2) := by decide +kernel
theorem d_Sht_make_116 : decode b_Sht_make 116 = .ok (.invokespecial 109, 3) := by decide +kernel
theorem d_Sht_make_119 : decode b_Sht_make 119 = .ok (.areturn, 1) := by decide +kernel
theorem d_Sht_make_120 : decode b_Sht_make 120 = .ok (.new 110, 3) := by decide +kernel
theorem d_Sht_make_123 : decode b_Sht_make 123 = .ok (.dup, 1) := by decide +kernel
theorem d_Sht_make_124 : decode b_Sht_make 124 = .ok (.iload_n 2, 1) := by decide +kernel
theorem d_Sht_make_125 : decode b_Sht_make 125 = .ok (.iload_n 3, 1) := by decide +kernel
theorem d_Sht_make_126 : decode b_Sht_make 126 = .ok (.iload 4, 2) := by decide +kernel
theorem d_Sht_make_128 : decode b_Sht_make 128 = .ok (.invokespecial 112, 3) := by decide +kernel
theorem d_Sht_make_131 : decode b_Sht_make 131 = .ok (.areturn, 1) := by decide +kernel
theorem d_Sht_make_132 : decode b_Sht_make 132 = .ok (.new 113, 3) := by decide +kernel
theorem d_Sht_make_135 : decode b_Sht_make 135 = .ok (.dup, 1) := by decide +kernel
theorem d_Sht_make_136 : decode b_Sht_make 136 = .ok (.iload_n 2, 1) := by decide +kernel
theorem d_Sht_make_137 : decode b_Sht_make 137 = .ok (.invokespecial 115, 3) := by decide +kernel
theorem d_Sht_make_140 : decode b_Sht_make 140 = .ok (.areturn, 1) := by decide +kernel
theorem d_Sht_make_141 : decode b_Sht_make 141 = .ok (.new 118, 3) := by decide +kernel
theorem d_Sht_make_144 : decode b_Sht_make 144 = .ok (.dup, 1) := by decide +kernel
theorem d_Sht_make_145 : decode b_Sht_make 145 = .ok (.iload_n 2, 1) := by decide +kernel
theorem d_Sht_make_146 : decode b_Sht_make 146 = .ok (.iload_n 3, 1) := by decide +kernel
theorem d_Sht_make_147 : decode b_Sht_make 147 = .ok (.aload_n 0, 1) := by decide +kernel
theorem d_Sht_make_148 : decode b_Sht_make 148 = .ok (.getfield 31, 3) := by decide +kernel
theorem d_Sht_make_151 : decode b_Sht_make 151 = .ok (.iload 4, 2) := by decide +kernel
theorem d_Sht_make_153 : decode b_Sht_make 153 = .ok (.aaload, 1) := by decide +kernel
theorem d_Sht_make_154 : decode b_Sht_make 154 = .ok (.invokespecial 120, 3) := by decide +kernel
theorem d_Sht_make_157 : decode b_Sht_make 157 = .ok (.areturn, 1) := by decide +kernel
set_option maxHeartbeats 4000000 in
set_option maxRecDepth 20000 in
theorem k_Sht_make (l : Launch) (D : va_G) (cA : Nat → ClassId) (sz : Nat) (adr : Nat → Nat) (N : List Nat) (cn : Nat → va_E) (x : Nat → Int32) (dn : Bool) (h00 : cn 0 = .inr (1, SF adr x dn)) (hN0 : 0 ∈ N) (hc2 : cn 2 = .inl (cA 4, 3, .inr (.inr (.inr (.inr (fun k => if k < 3 then some (adr (47 + 3 * k)) else none)))))) (hN2 : 2 ∈ N) (xk xa xb xc : Int32) (hk8 : 0 ≤ xk.toInt ∧ xk.toInt ≤ 8) (hc8 : xk.toInt = 8 → 0 ≤ xc.toInt ∧ xc.toInt < 3) : CtA l y_Sht_make b_Sht_make 5 (some (.object "RangeSheet$Relation")) 8 1 10 D cA [.ref (adr 0), .int xk, .int xa, .int xb, .int xc] sz (wl N adr cn) (fun r H => ∃ q : Nat, r = some (.ref q) ∧ va_P D classes (wl N adr cn ++ [(q, relE adr xk.toInt xa xb xc)]) H ∧ va_D (va_A (wl N adr cn) sz) (wl N adr cn ++ [(q, relE adr xk.toInt xa xb xc)])) := by
  refine CtA.mk (by decide) (Nat.le_of_ble_eq_true rfl) ?_
  intro p e s m args below meth c Q A H locs ls hx hb hr hml hlk hown hin hK hQ hAe hA hsz hP hD hS hl
  have hl : lv_has ls 5 [(0, .ref (adr 0)), (1, .int xk), (2, .int xa), (3, .int xb), (4, .int xc)] := hl
  have hown : s.vm.findClass "RangeSheet" = some m.cls := hown
  refine lv_iload_n hx hb d_Sht_make_0 rfl (lv_at hl 1 rfl) ?_
  by_cases c_1 : xk.toInt = 0
  · have e_1 : xk.toInt = 0 := (rfl).trans c_1
    refine lv_tableIn (off := 47) (tgt := 48) hx hb d_Sht_make_1 (by rw [e_1]; decide) (by rw [e_1]; decide) (by rw [e_1]; rfl) (by decide) ?_
    refine l_new (ci := 7) (fs := [.int 0, .int 0, .int 0, .int 0, .int 0, .int 0, .int 0, .int 0, .int 0, .int (bi false)]) hx hb hK i_Sum t_Sum t_Sum_ok hown t_499 t_500 t_12 hP hD hS hA rfl (fun j hj => by rcases (show j = 0 ∨ j = 1 ∨ j = 2 ∨ j = 3 ∨ j = 4 ∨ j = 5 ∨ j = 6 ∨ j = 7 ∨ j = 8 ∨ j = 9 by omega) with rfl | rfl | rfl | rfl | rfl | rfl | rfl | rfl | rfl | rfl <;> rfl) (Nat.le_of_ble_eq_true rfl) (Nat.le_of_ble_eq_true rfl) d_Sht_make_48 (fun q H hPx hDx hS => ?_)
    have hP := hPx.left
    refine lv_dup hx hb d_Sht_make_51 rfl ?_
    refine lv_iload_n hx hb d_Sht_make_52 rfl (lv_at hl 2 rfl) ?_
    refine lv_iload_n hx hb d_Sht_make_53 rfl (lv_at hl 3 rfl) ?_
    refine lv_iload hx hb d_Sht_make_54 (lv_at hl 4 rfl) ?_
    refine l_I (As := [.int xa, .int xb, .int xc]) (rest := [.ref q]) (wc := [(q, .inr (7, [.int 0, .int 0, .int 0, .int 0, .int 0, .int 0, .int 0, .int 0, .int 0, .int (bi false)]))]) hx hb hml hown hK (k_Sum_init l D cA H.size q xa xb xc) t_503 t_12 t_501 t_502 yk_Sum_init rfl ⟨Nat.le_of_ble_eq_true rfl, Nat.le_of_ble_eq_true rfl⟩ hPx hDx hS hA [(wl N adr cn).length] (by rfl) lk_last rfl hl.1 rfl (Nat.le_of_ble_eq_true rfl) d_Sht_make_56 ⟨Nat.le_of_ble_eq_true rfl, Nat.le_of_ble_eq_true rfl⟩ (fun r H locs hq hk1 hFc hS => ?_)
    obtain ⟨rfl, hP1, _⟩ := hq
    obtain ⟨hPx, hDx⟩ := join1 hPx hDx hk1 hP1
    refine W.eq (g2 := F0 m 59 ls [.ref q]) rfl ?_
    refine W_up (c2 := 1) (s2 := 10) (Nat.le_of_ble_eq_true rfl) (Nat.le_of_ble_eq_true rfl) ?_
    refine e_a hx hb hr ⟨_, rfl⟩ hlk hQ hS d_Sht_make_59 ?_
    have eR : relE adr xk.toInt xa xb xc = .inr (7, [.int xa, .int xb, .int xc, .int 0, .int 0, .int 0, .int 0, .int 0, .int 0, .int (bi true)]) := by unfold relE; rw [if_neg (by omega), if_neg (by omega), if_neg (by omega), if_neg (by omega), show kci xk.toInt = 7 from by rw [show xk.toInt = 0 by omega]; rfl]
    rw [eR, ← hAe]; exact ⟨q, rfl, hPx, hDx⟩
  by_cases c_2 : xk.toInt = 1
  · have e_2 : xk.toInt = 1 := (rfl).trans c_2
    refine lv_tableIn (off := 59) (tgt := 60) hx hb d_Sht_make_1 (by rw [e_2]; decide) (by rw [e_2]; decide) (by rw [e_2]; rfl) (by decide) ?_
    refine l_new (ci := 8) (fs := [.int 0, .int 0, .int 0, .int 0, .int 0, .int 0, .int 0, .int 0, .int 0, .int (bi false)]) hx hb hK i_Product t_Product t_Product_ok hown t_543 t_544 t_13 hP hD hS hA rfl (fun j hj => by rcases (show j = 0 ∨ j = 1 ∨ j = 2 ∨ j = 3 ∨ j = 4 ∨ j = 5 ∨ j = 6 ∨ j = 7 ∨ j = 8 ∨ j = 9 by omega) with rfl | rfl | rfl | rfl | rfl | rfl | rfl | rfl | rfl | rfl <;> rfl) (Nat.le_of_ble_eq_true rfl) (Nat.le_of_ble_eq_true rfl) d_Sht_make_60 (fun q H hPx hDx hS => ?_)
    have hP := hPx.left
    refine lv_dup hx hb d_Sht_make_63 rfl ?_
    refine lv_iload_n hx hb d_Sht_make_64 rfl (lv_at hl 2 rfl) ?_
    refine lv_iload_n hx hb d_Sht_make_65 rfl (lv_at hl 3 rfl) ?_
    refine lv_iload hx hb d_Sht_make_66 (lv_at hl 4 rfl) ?_
    refine l_I (As := [.int xa, .int xb, .int xc]) (rest := [.ref q]) (wc := [(q, .inr (8, [.int 0, .int 0, .int 0, .int 0, .int 0, .int 0, .int 0, .int 0, .int 0, .int (bi false)]))]) hx hb hml hown hK (k_Product_init l D cA H.size q xa xb xc) t_547 t_13 t_545 t_546 yk_Product_init rfl ⟨Nat.le_of_ble_eq_true rfl, Nat.le_of_ble_eq_true rfl⟩ hPx hDx hS hA [(wl N adr cn).length] (by rfl) lk_last rfl hl.1 rfl (Nat.le_of_ble_eq_true rfl) d_Sht_make_68 ⟨Nat.le_of_ble_eq_true rfl, Nat.le_of_ble_eq_true rfl⟩ (fun r H locs hq hk1 hFc hS => ?_)
    obtain ⟨rfl, hP1, _⟩ := hq
    obtain ⟨hPx, hDx⟩ := join1 hPx hDx hk1 hP1
    refine W.eq (g2 := F0 m 71 ls [.ref q]) rfl ?_
    refine W_up (c2 := 1) (s2 := 10) (Nat.le_of_ble_eq_true rfl) (Nat.le_of_ble_eq_true rfl) ?_
    refine e_a hx hb hr ⟨_, rfl⟩ hlk hQ hS d_Sht_make_71 ?_
    have eR : relE adr xk.toInt xa xb xc = .inr (8, [.int xa, .int xb, .int xc, .int 0, .int 0, .int 0, .int 0, .int 0, .int 0, .int (bi true)]) := by unfold relE; rw [if_neg (by omega), if_neg (by omega), if_neg (by omega), if_neg (by omega), show kci xk.toInt = 8 from by rw [show xk.toInt = 1 by omega]; rfl]
    rw [eR, ← hAe]; exact ⟨q, rfl, hPx, hDx⟩
  by_cases c_3 : xk.toInt = 2
  · have e_3 : xk.toInt = 2 := (rfl).trans c_3
    refine lv_tableIn (off := 71) (tgt := 72) hx hb d_Sht_make_1 (by rw [e_3]; decide) (by rw [e_3]; decide) (by rw [e_3]; rfl) (by decide) ?_
    refine l_new (ci := 9) (fs := [.int 0, .int 0, .int 0, .int 0, .int 0, .int 0, .int 0, .int 0, .int 0, .int (bi false)]) hx hb hK i_Quotient t_Quotient t_Quotient_ok hown t_560 t_561 t_14 hP hD hS hA rfl (fun j hj => by rcases (show j = 0 ∨ j = 1 ∨ j = 2 ∨ j = 3 ∨ j = 4 ∨ j = 5 ∨ j = 6 ∨ j = 7 ∨ j = 8 ∨ j = 9 by omega) with rfl | rfl | rfl | rfl | rfl | rfl | rfl | rfl | rfl | rfl <;> rfl) (Nat.le_of_ble_eq_true rfl) (Nat.le_of_ble_eq_true rfl) d_Sht_make_72 (fun q H hPx hDx hS => ?_)
    have hP := hPx.left
    refine lv_dup hx hb d_Sht_make_75 rfl ?_
    refine lv_iload_n hx hb d_Sht_make_76 rfl (lv_at hl 2 rfl) ?_
    refine lv_iload_n hx hb d_Sht_make_77 rfl (lv_at hl 3 rfl) ?_
    refine lv_iload hx hb d_Sht_make_78 (lv_at hl 4 rfl) ?_
    refine l_I (As := [.int xa, .int xb, .int xc]) (rest := [.ref q]) (wc := [(q, .inr (9, [.int 0, .int 0, .int 0, .int 0, .int 0, .int 0, .int 0, .int 0, .int 0, .int (bi false)]))]) hx hb hml hown hK (k_Quotient_init l D cA H.size q xa xb xc) t_564 t_14 t_562 t_563 yk_Quotient_init rfl ⟨Nat.le_of_ble_eq_true rfl, Nat.le_of_ble_eq_true rfl⟩ hPx hDx hS hA [(wl N adr cn).length] (by rfl) lk_last rfl hl.1 rfl (Nat.le_of_ble_eq_true rfl) d_Sht_make_80 ⟨Nat.le_of_ble_eq_true rfl, Nat.le_of_ble_eq_true rfl⟩ (fun r H locs hq hk1 hFc hS => ?_)
    obtain ⟨rfl, hP1, _⟩ := hq
    obtain ⟨hPx, hDx⟩ := join1 hPx hDx hk1 hP1
    refine W.eq (g2 := F0 m 83 ls [.ref q]) rfl ?_
    refine W_up (c2 := 1) (s2 := 10) (Nat.le_of_ble_eq_true rfl) (Nat.le_of_ble_eq_true rfl) ?_
    refine e_a hx hb hr ⟨_, rfl⟩ hlk hQ hS d_Sht_make_83 ?_
    have eR : relE adr xk.toInt xa xb xc = .inr (9, [.int xb, .int xa, .int xc, .int 0, .int 0, .int 0, .int 0, .int 0, .int 0, .int (bi true)]) := by unfold relE; rw [if_neg (by omega), if_neg (by omega), if_neg (by omega), if_pos (by omega)]
    rw [eR, ← hAe]; exact ⟨q, rfl, hPx, hDx⟩
  by_cases c_4 : xk.toInt = 3
  · have e_4 : xk.toInt = 3 := (rfl).trans c_4
    refine lv_tableIn (off := 83) (tgt := 84) hx hb d_Sht_make_1 (by rw [e_4]; decide) (by rw [e_4]; decide) (by rw [e_4]; rfl) (by decide) ?_
    refine l_new (ci := 10) (fs := [.int 0, .int 0, .int 0, .int 0, .int 0, .int 0, .int 0, .int 0, .int 0, .int (bi false)]) hx hb hK i_Lesser t_Lesser t_Lesser_ok hown t_577 t_578 t_15 hP hD hS hA rfl (fun j hj => by rcases (show j = 0 ∨ j = 1 ∨ j = 2 ∨ j = 3 ∨ j = 4 ∨ j = 5 ∨ j = 6 ∨ j = 7 ∨ j = 8 ∨ j = 9 by omega) with rfl | rfl | rfl | rfl | rfl | rfl | rfl | rfl | rfl | rfl <;> rfl) (Nat.le_of_ble_eq_true rfl) (Nat.le_of_ble_eq_true rfl) d_Sht_make_84 (fun q H hPx hDx hS => ?_)
    have hP := hPx.left
    refine lv_dup hx hb d_Sht_make_87 rfl ?_
    refine lv_iload_n hx hb d_Sht_make_88 rfl (lv_at hl 2 rfl) ?_
    refine lv_iload_n hx hb d_Sht_make_89 rfl (lv_at hl 3 rfl) ?_
    refine lv_iload hx hb d_Sht_make_90 (lv_at hl 4 rfl) ?_
    refine l_I (As := [.int xa, .int xb, .int xc]) (rest := [.ref q]) (wc := [(q, .inr (10, [.int 0, .int 0, .int 0, .int 0, .int 0, .int 0, .int 0, .int 0, .int 0, .int (bi false)]))]) hx hb hml hown hK (k_Lesser_init l D cA H.size q xa xb xc) t_581 t_15 t_579 t_580 yk_Lesser_init rfl ⟨Nat.le_of_ble_eq_true rfl, Nat.le_of_ble_eq_true rfl⟩ hPx hDx hS hA [(wl N adr cn).length] (by rfl) lk_last rfl hl.1 rfl (Nat.le_of_ble_eq_true rfl) d_Sht_make_92 ⟨Nat.le_of_ble_eq_true rfl, Nat.le_of_ble_eq_true rfl⟩ (fun r H locs hq hk1 hFc hS => ?_)
    obtain ⟨rfl, hP1, _⟩ := hq
    obtain ⟨hPx, hDx⟩ := join1 hPx hDx hk1 hP1
    refine W.eq (g2 := F0 m 95 ls [.ref q]) rfl ?_
    refine W_up (c2 := 1) (s2 := 10) (Nat.le_of_ble_eq_true rfl) (Nat.le_of_ble_eq_true rfl) ?_
    refine e_a hx hb hr ⟨_, rfl⟩ hlk hQ hS d_Sht_make_95 ?_
    have eR : relE adr xk.toInt xa xb xc = .inr (10, [.int xa, .int xb, .int xc, .int 0, .int 0, .int 0, .int 0, .int 0, .int 0, .int (bi true)]) := by unfold relE; rw [if_neg (by omega), if_neg (by omega), if_neg (by omega), if_neg (by omega), show kci xk.toInt = 10 from by rw [show xk.toInt = 3 by omega]; rfl]
    rw [eR, ← hAe]; exact ⟨q, rfl, hPx, hDx⟩
  by_cases c_5 : xk.toInt = 4
  · have e_5 : xk.toInt = 4 := (rfl).trans c_5
    refine lv_tableIn (off := 95) (tgt := 96) hx hb d_Sht_make_1 (by rw [e_5]; decide) (by rw [e_5]; decide) (by rw [e_5]; rfl) (by decide) ?_
    refine l_new (ci := 11) (fs := [.int 0, .int 0, .int 0, .int 0, .int 0, .int 0, .int 0, .int 0, .int 0, .int (bi false)]) hx hb hK i_Greater t_Greater t_Greater_ok hown t_594 t_595 t_16 hP hD hS hA rfl (fun j hj => by rcases (show j = 0 ∨ j = 1 ∨ j = 2 ∨ j = 3 ∨ j = 4 ∨ j = 5 ∨ j = 6 ∨ j = 7 ∨ j = 8 ∨ j = 9 by omega) with rfl | rfl | rfl | rfl | rfl | rfl | rfl | rfl | rfl | rfl <;> rfl) (Nat.le_of_ble_eq_true rfl) (Nat.le_of_ble_eq_true rfl) d_Sht_make_96 (fun q H hPx hDx hS => ?_)
    have hP := hPx.left
    refine lv_dup hx hb d_Sht_make_99 rfl ?_
    refine lv_iload_n hx hb d_Sht_make_100 rfl (lv_at hl 2 rfl) ?_
    refine lv_iload_n hx hb d_Sht_make_101 rfl (lv_at hl 3 rfl) ?_
    refine lv_iload hx hb d_Sht_make_102 (lv_at hl 4 rfl) ?_
    refine l_I (As := [.int xa, .int xb, .int xc]) (rest := [.ref q]) (wc := [(q, .inr (11, [.int 0, .int 0, .int 0, .int 0, .int 0, .int 0, .int 0, .int 0, .int 0, .int (bi false)]))]) hx hb hml hown hK (k_Greater_init l D cA H.size q xa xb xc) t_598 t_16 t_596 t_597 yk_Greater_init rfl ⟨Nat.le_of_ble_eq_true rfl, Nat.le_of_ble_eq_true rfl⟩ hPx hDx hS hA [(wl N adr cn).length] (by rfl) lk_last rfl hl.1 rfl (Nat.le_of_ble_eq_true rfl) d_Sht_make_104 ⟨Nat.le_of_ble_eq_true rfl, Nat.le_of_ble_eq_true rfl⟩ (fun r H locs hq hk1 hFc hS => ?_)
    obtain ⟨rfl, hP1, _⟩ := hq
    obtain ⟨hPx, hDx⟩ := join1 hPx hDx hk1 hP1
    refine W.eq (g2 := F0 m 107 ls [.ref q]) rfl ?_
    refine W_up (c2 := 1) (s2 := 10) (Nat.le_of_ble_eq_true rfl) (Nat.le_of_ble_eq_true rfl) ?_
    refine e_a hx hb hr ⟨_, rfl⟩ hlk hQ hS d_Sht_make_107 ?_
    have eR : relE adr xk.toInt xa xb xc = .inr (11, [.int xa, .int xb, .int xc, .int 0, .int 0, .int 0, .int 0, .int 0, .int 0, .int (bi true)]) := by unfold relE; rw [if_neg (by omega), if_neg (by omega), if_neg (by omega), if_neg (by omega), show kci xk.toInt = 11 from by rw [show xk.toInt = 4 by omega]; rfl]
    rw [eR, ← hAe]; exact ⟨q, rfl, hPx, hDx⟩
  by_cases c_6 : xk.toInt = 5
  · have e_6 : xk.toInt = 5 := (rfl).trans c_6
    refine lv_tableIn (off := 107) (tgt := 108) hx hb d_Sht_make_1 (by rw [e_6]; decide) (by rw [e_6]; decide) (by rw [e_6]; rfl) (by decide) ?_
    refine l_new (ci := 4) (fs := [.int 0, .int 0, .int 0, .int (bi false)]) hx hb hK i_AtMost t_AtMost t_AtMost_ok hown t_611 t_612 t_17 hP hD hS hA rfl (fun j hj => by rcases (show j = 0 ∨ j = 1 ∨ j = 2 ∨ j = 3 by omega) with rfl | rfl | rfl | rfl <;> rfl) (Nat.le_of_ble_eq_true rfl) (Nat.le_of_ble_eq_true rfl) d_Sht_make_108 (fun q H hPx hDx hS => ?_)
    have hP := hPx.left
    refine lv_dup hx hb d_Sht_make_111 rfl ?_
    refine lv_iload_n hx hb d_Sht_make_112 rfl (lv_at hl 2 rfl) ?_
    refine lv_iload_n hx hb d_Sht_make_113 rfl (lv_at hl 3 rfl) ?_
    refine lv_iload hx hb d_Sht_make_114 (lv_at hl 4 rfl) ?_
    refine l_I (As := [.int xa, .int xb, .int xc]) (rest := [.ref q]) (wc := [(q, .inr (4, [.int 0, .int 0, .int 0, .int (bi false)]))]) hx hb hml hown hK (k_AtMost_init l D cA H.size q xa xb xc) t_615 t_17 t_613 t_614 yk_AtMost_init rfl ⟨Nat.le_of_ble_eq_true rfl, Nat.le_of_ble_eq_true rfl⟩ hPx hDx hS hA [(wl N adr cn).length] (by rfl) lk_last rfl hl.1 rfl (Nat.le_of_ble_eq_true rfl) d_Sht_make_116 ⟨Nat.le_of_ble_eq_true rfl, Nat.le_of_ble_eq_true rfl⟩ (fun r H locs hq hk1 hFc hS => ?_)
    obtain ⟨rfl, hP1, _⟩ := hq
    obtain ⟨hPx, hDx⟩ := join1 hPx hDx hk1 hP1
    refine W.eq (g2 := F0 m 119 ls [.ref q]) rfl ?_
    refine W_up (c2 := 1) (s2 := 10) (Nat.le_of_ble_eq_true rfl) (Nat.le_of_ble_eq_true rfl) ?_
    refine e_a hx hb hr ⟨_, rfl⟩ hlk hQ hS d_Sht_make_119 ?_
    have eR : relE adr xk.toInt xa xb xc = .inr (4, [.int xa, .int xb, .int xc, .int (bi true)]) := by unfold relE; rw [if_pos (by omega)]
    rw [eR, ← hAe]; exact ⟨q, rfl, hPx, hDx⟩
  by_cases c_7 : xk.toInt = 6
  · have e_7 : xk.toInt = 6 := (rfl).trans c_7
    refine lv_tableIn (off := 119) (tgt := 120) hx hb d_Sht_make_1 (by rw [e_7]; decide) (by rw [e_7]; decide) (by rw [e_7]; rfl) (by decide) ?_
    refine l_new (ci := 12) (fs := [.int 0, .int 0, .int 0, .int 0, .int 0, .int 0, .int 0, .int 0, .int 0, .int (bi false)]) hx hb hK i_If t_If t_If_ok hown t_628 t_629 t_18 hP hD hS hA rfl (fun j hj => by rcases (show j = 0 ∨ j = 1 ∨ j = 2 ∨ j = 3 ∨ j = 4 ∨ j = 5 ∨ j = 6 ∨ j = 7 ∨ j = 8 ∨ j = 9 by omega) with rfl | rfl | rfl | rfl | rfl | rfl | rfl | rfl | rfl | rfl <;> rfl) (Nat.le_of_ble_eq_true rfl) (Nat.le_of_ble_eq_true rfl) d_Sht_make_120 (fun q H hPx hDx hS => ?_)
    have hP := hPx.left
    refine lv_dup hx hb d_Sht_make_123 rfl ?_
    refine lv_iload_n hx hb d_Sht_make_124 rfl (lv_at hl 2 rfl) ?_
    refine lv_iload_n hx hb d_Sht_make_125 rfl (lv_at hl 3 rfl) ?_
    refine lv_iload hx hb d_Sht_make_126 (lv_at hl 4 rfl) ?_
    refine l_I (As := [.int xa, .int xb, .int xc]) (rest := [.ref q]) (wc := [(q, .inr (12, [.int 0, .int 0, .int 0, .int 0, .int 0, .int 0, .int 0, .int 0, .int 0, .int (bi false)]))]) hx hb hml hown hK (k_If_init l D cA H.size q xa xb xc) t_632 t_18 t_630 t_631 yk_If_init rfl ⟨Nat.le_of_ble_eq_true rfl, Nat.le_of_ble_eq_true rfl⟩ hPx hDx hS hA [(wl N adr cn).length] (by rfl) lk_last rfl hl.1 rfl (Nat.le_of_ble_eq_true rfl) d_Sht_make_128 ⟨Nat.le_of_ble_eq_true rfl, Nat.le_of_ble_eq_true rfl⟩ (fun r H locs hq hk1 hFc hS => ?_)
    obtain ⟨rfl, hP1, _⟩ := hq
    obtain ⟨hPx, hDx⟩ := join1 hPx hDx hk1 hP1
    refine W.eq (g2 := F0 m 131 ls [.ref q]) rfl ?_
    refine W_up (c2 := 1) (s2 := 10) (Nat.le_of_ble_eq_true rfl) (Nat.le_of_ble_eq_true rfl) ?_
    refine e_a hx hb hr ⟨_, rfl⟩ hlk hQ hS d_Sht_make_131 ?_
    have eR : relE adr xk.toInt xa xb xc = .inr (12, [.int xa, .int xb, .int xc, .int 0, .int 0, .int 0, .int 0, .int 0, .int 0, .int (bi true)]) := by unfold relE; rw [if_neg (by omega), if_neg (by omega), if_neg (by omega), if_neg (by omega), show kci xk.toInt = 12 from by rw [show xk.toInt = 6 by omega]; rfl]
    rw [eR, ← hAe]; exact ⟨q, rfl, hPx, hDx⟩
  by_cases c_8 : xk.toInt = 7
  · have e_8 : xk.toInt = 7 := (rfl).trans c_8
    refine lv_tableIn (off := 131) (tgt := 132) hx hb d_Sht_make_1 (by rw [e_8]; decide) (by rw [e_8]; decide) (by rw [e_8]; rfl) (by decide) ?_
    refine l_new (ci := 5) (fs := [.int 0, .int (bi false)]) hx hb hK i_Different t_Different t_Different_ok hown t_645 t_200 t_19 hP hD hS hA rfl (fun j hj => by rcases (show j = 0 ∨ j = 1 by omega) with rfl | rfl <;> rfl) (Nat.le_of_ble_eq_true rfl) (Nat.le_of_ble_eq_true rfl) d_Sht_make_132 (fun q H hPx hDx hS => ?_)
    have hP := hPx.left
    refine lv_dup hx hb d_Sht_make_135 rfl ?_
    refine lv_iload_n hx hb d_Sht_make_136 rfl (lv_at hl 2 rfl) ?_
    refine l_I (As := [.int xa]) (rest := [.ref q]) (wc := [(q, .inr (5, [.int 0, .int (bi false)]))]) hx hb hml hown hK (k_Different_init l D cA H.size q xa) t_648 t_19 t_646 t_647 yk_Different_init rfl ⟨Nat.le_of_ble_eq_true rfl, Nat.le_of_ble_eq_true rfl⟩ hPx hDx hS hA [(wl N adr cn).length] (by rfl) lk_last rfl hl.1 rfl (Nat.le_of_ble_eq_true rfl) d_Sht_make_137 ⟨Nat.le_of_ble_eq_true rfl, Nat.le_of_ble_eq_true rfl⟩ (fun r H locs hq hk1 hFc hS => ?_)
    obtain ⟨rfl, hP1, _⟩ := hq
    obtain ⟨hPx, hDx⟩ := join1 hPx hDx hk1 hP1
    refine W.eq (g2 := F0 m 140 ls [.ref q]) rfl ?_
    refine W_up (c2 := 1) (s2 := 10) (Nat.le_of_ble_eq_true rfl) (Nat.le_of_ble_eq_true rfl) ?_
    refine e_a hx hb hr ⟨_, rfl⟩ hlk hQ hS d_Sht_make_140 ?_
    have eR : relE adr xk.toInt xa xb xc = .inr (5, [.int xa, .int (bi true)]) := by unfold relE; rw [if_neg (by omega), if_pos (by omega)]
    rw [eR, ← hAe]; exact ⟨q, rfl, hPx, hDx⟩
  have e_sw : xk.toInt = xk.toInt := rfl
  refine lv_tableOut (tgt := 141) hx hb d_Sht_make_1 (by rw [e_sw]; omega) (by decide) ?_
  refine l_new (ci := 6) (fs := [.int 0, .int 0, .null, .int (bi false)]) hx hb hK i_Lookup t_Lookup t_Lookup_ok hown t_655 t_291 t_20 hP hD hS hA rfl (fun j hj => by rcases (show j = 0 ∨ j = 1 ∨ j = 2 ∨ j = 3 by omega) with rfl | rfl | rfl | rfl <;> rfl) (Nat.le_of_ble_eq_true rfl) (Nat.le_of_ble_eq_true rfl) d_Sht_make_141 (fun q H hPx hDx hS => ?_)
  have hP := hPx.left
  refine lv_dup hx hb d_Sht_make_144 rfl ?_
  refine lv_iload_n hx hb d_Sht_make_145 rfl (lv_at hl 2 rfl) ?_
  refine lv_iload_n hx hb d_Sht_make_146 rfl (lv_at hl 3 rfl) ?_
  refine lv_aload_n hx hb d_Sht_make_147 rfl (lv_at hl 0 rfl) ?_
  refine w_gf hx hb hK i_Sht hown hP hN0 h00 rfl 4 (by decide) t_89 rfl rfl d_Sht_make_148 ?_
  refine lv_iload hx hb d_Sht_make_151 (lv_at hl 4 rfl) ?_
  have hcc := hc8 (by omega); have hcn : xc.toInt = (xc.toInt.toNat : Int) := by omega
  refine w_ald hx hb hK hP hN2 hc2 rfl xc.toInt.toNat hcn rfl (by omega) (if_pos (by omega)) d_Sht_make_153 ?_
  refine l_I (As := [.int xa, .int xb, .ref (adr (47 + 3 * xc.toInt.toNat))]) (rest := [.ref q]) (wc := [(q, .inr (6, [.int 0, .int 0, .null, .int (bi false)]))]) hx hb hml hown hK (k_Lookup_init l D cA H.size q xa xb (adr (47 + 3 * xc.toInt.toNat))) t_658 t_20 t_656 t_657 yk_Lookup_init rfl ⟨Nat.le_of_ble_eq_true rfl, Nat.le_of_ble_eq_true rfl⟩ hPx hDx hS hA [(wl N adr cn).length] (by rfl) lk_last rfl hl.1 rfl (Nat.le_of_ble_eq_true rfl) d_Sht_make_154 ⟨Nat.le_of_ble_eq_true rfl, Nat.le_of_ble_eq_true rfl⟩ (fun r H locs hq hk1 hFc hS => ?_)
  obtain ⟨rfl, hP1, _⟩ := hq
  obtain ⟨hPx, hDx⟩ := join1 hPx hDx hk1 hP1
  refine W.eq (g2 := F0 m 157 ls [.ref q]) rfl ?_
  refine W_up (c2 := 1) (s2 := 10) (Nat.le_of_ble_eq_true rfl) (Nat.le_of_ble_eq_true rfl) ?_
  refine e_a hx hb hr ⟨_, rfl⟩ hlk hQ hS d_Sht_make_157 ?_
  have eR : relE adr xk.toInt xa xb xc = .inr (6, [.int xa, .int xb, .ref (adr (47 + 3 * xc.toInt.toNat)), .int (bi true)]) := by unfold relE; rw [if_neg (by omega), if_neg (by omega), if_pos (by omega)]
  rw [eR, ← hAe]; exact ⟨q, rfl, hPx, hDx⟩
