/-! all different: counting cells inside intervals -/
def cnt (m : Nat) (U : Nat → Bool) (lo hi : Nat → Int) (p q : Int) : Int := match m with
  | 0 => 0
  | m + 1 => cnt m U lo hi p q + (if U m = true ∧ p ≤ lo m ∧ hi m ≤ q then 1 else 0)
def cu (m : Nat) (U : Nat → Bool) : Int := match m with
  | 0 => 0
  | m + 1 => cu m U + (if U m = true then 1 else 0)
def slots (p q v : Int) : Int := max 0 (q - p + 1) - (if p ≤ v ∧ v ≤ q then 1 else 0)
theorem cnt_nn {m : Nat} {U : Nat → Bool} {lo hi : Nat → Int} {p q : Int} : 0 ≤ cnt m U lo hi p q := by
  induction m with
  | zero => simp [cnt]
  | succ m ih => simp only [cnt]; split <;> omega
theorem cnt_mono {m : Nat} {U V : Nat → Bool} {lo hi lo' hi' : Nat → Int} {p q p' q' : Int} (h : ∀ j, j < m → U j = true → p ≤ lo j → hi j ≤ q → V j = true ∧ p' ≤ lo' j ∧ hi' j ≤ q') : cnt m U lo hi p q ≤ cnt m V lo' hi' p' q' := by
  induction m with
  | zero => simp [cnt]
  | succ m ih =>
    have h1 := ih (fun j hj => h j (by omega))
    simp only [cnt]
    by_cases e : U m = true ∧ p ≤ lo m ∧ hi m ≤ q
    · have h2 := h m (by omega) e.1 e.2.1 e.2.2
      rw [if_pos e, if_pos h2]; omega
    · rw [if_neg e]; split <;> omega
theorem cnt_del {m : Nat} {U : Nat → Bool} {lo hi : Nat → Int} {p q : Int} {k : Nat} (hk : k < m) : cnt m U lo hi p q = cnt m (fun j => U j && (j != k)) lo hi p q + (if U k = true ∧ p ≤ lo k ∧ hi k ≤ q then 1 else 0) := by
  induction m with
  | zero => omega
  | succ m ih =>
    simp only [cnt]
    by_cases e : k = m
    · subst e
      have h1 : cnt k (fun j => U j && (j != k)) lo hi p q = cnt k U lo hi p q := by
        apply Int.le_antisymm
        · exact cnt_mono (fun j hj h1 h2 h3 => by simp at h1; exact ⟨h1.1, h2, h3⟩)
        · exact cnt_mono (fun j hj h1 h2 h3 => ⟨by simp [h1]; omega, h2, h3⟩)
      rw [h1]
      simp
    · have h1 := ih (by omega)
      rw [h1]
      have h2 : (U m && (m != k)) = U m := by
        have : (m != k) = true := by simp; omega
        rw [this, Bool.and_true]
      simp only [h2]; omega
theorem cnt_0 {m : Nat} {U : Nat → Bool} {lo hi : Nat → Int} {p q : Int} (h : ∀ j, j < m → ¬ (U j = true ∧ p ≤ lo j ∧ hi j ≤ q)) : cnt m U lo hi p q = 0 := by
  induction m with
  | zero => rfl
  | succ m ih => simp only [cnt]; rw [if_neg (h m (by omega)), ih (fun j hj => h j (by omega))]; rfl
theorem cnt_1 {m : Nat} {U : Nat → Bool} {lo hi : Nat → Int} {p q : Int} {k : Nat} (hk : k < m) (h : U k = true ∧ p ≤ lo k ∧ hi k ≤ q) : 1 ≤ cnt m U lo hi p q := by
  rw [cnt_del hk, if_pos h]
  have := cnt_nn (m := m) (U := fun j => U j && (j != k)) (lo := lo) (hi := hi) (p := p) (q := q)
  omega
theorem cnt_ex {m : Nat} {U : Nat → Bool} {lo hi : Nat → Int} {p q : Int} (h : 0 < cnt m U lo hi p q) : ∃ k, k < m ∧ U k = true ∧ p ≤ lo k ∧ hi k ≤ q := by
  apply Classical.byContradiction
  intro hn
  have := cnt_0 (m := m) (U := U) (lo := lo) (hi := hi) (p := p) (q := q) (fun j hj hc => hn ⟨j, hj, hc⟩)
  omega
theorem cu_nn {m : Nat} {U : Nat → Bool} : 0 ≤ cu m U ∧ cu m U ≤ m := by
  induction m with
  | zero => simp [cu]
  | succ m ih => simp only [cu]; split <;> omega
theorem cu_0 {m : Nat} {U : Nat → Bool} (h : cu m U ≤ 0) : ∀ j, j < m → U j = false := by
  induction m with
  | zero => intro j hj; omega
  | succ m ih =>
    simp only [cu] at h
    have h1 := (cu_nn (m := m) (U := U)).1
    by_cases e : U m = true
    · rw [if_pos e] at h; omega
    · rw [if_neg e] at h
      intro j hj
      rcases (by omega : j < m ∨ j = m) with q | q
      · exact ih (by omega) j q
      · rw [q]; simpa using e
theorem cu_ex {m : Nat} {U : Nat → Bool} (h : 0 < cu m U) : ∃ j, j < m ∧ U j = true := by
  apply Classical.byContradiction
  intro hn
  have h0 : ∀ n, n ≤ m → cu n U = 0 := by
    intro n
    induction n with
    | zero => intro _; rfl
    | succ n ih =>
      intro hm
      simp only [cu]
      rw [ih (by omega), if_neg (fun e => hn ⟨n, by omega, e⟩)]; rfl
  have := h0 m (Nat.le_refl _)
  omega
theorem cu_del {m : Nat} {U : Nat → Bool} {k : Nat} (hk : k < m) (h : U k = true) : cu m U = cu m (fun j => U j && (j != k)) + 1 := by
  induction m with
  | zero => omega
  | succ m ih =>
    simp only [cu]
    by_cases e : k = m
    · subst e
      have h1 : ∀ n, n ≤ k → cu n (fun j => U j && (j != k)) = cu n U := by
        intro n
        induction n with
        | zero => intro _; rfl
        | succ n ih =>
          intro hn
          simp only [cu]
          rw [ih (by omega)]
          have : (U n && (n != k)) = U n := by
            have : (n != k) = true := by simp; omega
            rw [this, Bool.and_true]
          simp only [this]
      rw [h1 k (Nat.le_refl _)]
      simp [h]
    · rw [ih (by omega)]
      have h2 : (U m && (m != k)) = U m := by
        have : (m != k) = true := by simp; omega
        rw [this, Bool.and_true]
      simp only [h2]; omega
/-- from t on, with v taken, there is room for all cells of U -/
def CC (U : Nat → Bool) (lo hi : Nat → Int) (t v : Int) : Prop := ∀ p q, cnt 10 U lo hi p q ≤ slots (max p t) q v
theorem CC.empty {U : Nat → Bool} {lo hi : Nat → Int} {t v : Int} (h : ∀ j, j < 10 → U j = false) : CC U lo hi t v := by
  intro p q
  rw [cnt_0 (fun j hj hc => by rw [h j hj] at hc; exact absurd hc.1 (by decide))]
  unfold slots; split <;> omega
theorem CC.late {U : Nat → Bool} {lo hi : Nat → Int} {t v : Int} {j : Nat} (hj : j < 10) (hu : U j = true) (hl : hi j < t) : ¬ CC U lo hi t v := by
  intro h
  have h1 := h (lo j) (hi j)
  have h2 := cnt_1 (p := lo j) (q := hi j) (lo := lo) (hi := hi) hj ⟨hu, Int.le_refl _, Int.le_refl _⟩
  unfold slots at h1
  split at h1 <;> omega
theorem CC.skip {U : Nat → Bool} {lo hi : Nat → Int} {v : Int} : CC U lo hi v v ↔ CC U lo hi (v + 1) v := by
  have e : ∀ p q, slots (max p v) q v = slots (max p (v + 1)) q v := by
    intro p q
    unfold slots
    repeat' split
    all_goals omega
  constructor
  · intro h p q; rw [← e]; exact h p q
  · intro h p q; rw [e]; exact h p q
theorem CC.jump {U : Nat → Bool} {lo hi : Nat → Int} {t w v : Int} (htw : t ≤ w) (hl : ∀ j, j < 10 → U j = true → w ≤ lo j) : CC U lo hi t v ↔ CC U lo hi w v := by
  constructor
  · intro h p q
    have h1 := h (max p w) q
    have h2 : cnt 10 U lo hi p q ≤ cnt 10 U lo hi (max p w) q := cnt_mono (fun j hj a b c => ⟨a, by have := hl j hj a; omega, c⟩)
    rw [show max (max p w) t = max p w by omega] at h1
    omega
  · intro h p q
    have h1 := h p q
    have h2 : slots (max p w) q v ≤ slots (max p t) q v := by
      unfold slots
      repeat' split
      all_goals omega
    omega
theorem CC.take {U : Nat → Bool} {lo hi : Nat → Int} {t v : Int} {b : Nat} (hb : b < 10) (hu : U b = true) (hlo : lo b ≤ t) (hhi : t ≤ hi b) (hv : t ≠ v) (hleast : ∀ j, j < 10 → U j = true → lo j ≤ t → hi b ≤ hi j) (hlive : ∀ j, j < 10 → U j = true → t ≤ hi j) :
    CC U lo hi t v ↔ CC (fun j => U j && (j != b)) lo hi (t + 1) v := by
  constructor
  · intro h p q
    by_cases hp : t < p
    · have h1 := h p q
      have h2 := cnt_mono (m := 10) (U := fun j => U j && (j != b)) (V := U) (lo := lo) (hi := hi) (lo' := lo) (hi' := hi) (p := p) (q := q) (p' := p) (q' := q) (fun j hj a b c => ⟨by simp at a; exact a.1, b, c⟩)
      rw [show max p (t + 1) = max p t by omega]
      omega
    · by_cases hq : hi b ≤ q
      · have h1 := h (min p (lo b)) q
        have h3 := cnt_del (m := 10) (U := U) (lo := lo) (hi := hi) (p := min p (lo b)) (q := q) hb
        rw [if_pos ⟨hu, by omega, hq⟩] at h3
        have h4 : cnt 10 (fun j => U j && (j != b)) lo hi p q ≤ cnt 10 (fun j => U j && (j != b)) lo hi (min p (lo b)) q := cnt_mono (fun j hj a b c => ⟨a, by omega, c⟩)
        rw [show max (min p (lo b)) t = t by omega] at h1
        rw [show max p (t + 1) = t + 1 by omega]
        have h5 : slots t q v = slots (t + 1) q v + 1 := by
          unfold slots
          repeat' split
          all_goals omega
        omega
      · have h1 := h (t + 1) q
        have h4 : cnt 10 (fun j => U j && (j != b)) lo hi p q ≤ cnt 10 U lo hi (t + 1) q := cnt_mono (fun j hj a b' c => by
          simp at a
          refine ⟨a.1, ?_, c⟩
          by_cases e : lo j ≤ t
          · have := hleast j hj a.1 e; omega
          · omega)
        rw [show max (t + 1) t = t + 1 by omega] at h1
        rw [show max p (t + 1) = t + 1 by omega]
        omega
  · intro h p q
    have h3 := cnt_del (m := 10) (U := U) (lo := lo) (hi := hi) (p := p) (q := q) hb
    have h1 := h p q
    by_cases hp : t < p
    · rw [if_neg (by omega)] at h3
      rw [show max p (t + 1) = max p t by omega] at h1
      omega
    · rw [show max p (t + 1) = t + 1 by omega] at h1
      rw [show max p t = t by omega]
      by_cases hq : t ≤ q
      · have h5 : slots t q v = slots (t + 1) q v + 1 := by
          unfold slots
          repeat' split
          all_goals omega
        split at h3 <;> omega
      · rw [if_neg (by omega)] at h3
        have h5 : slots (t + 1) q v ≤ slots t q v := by
          unfold slots
          repeat' split
          all_goals omega
        omega
/-- the cells of a mask find places of their own, cell k being at v -/
def SE (mb : Nat → Bool) (k : Nat) (v : Int) (lo hi : Nat → Int) : Prop := CC (fun j => mb j && (j != k)) lo hi (-100) v
/-- every interval has room for the cells that lie in it; a full one keeps the ends of all others out -/
def Fx7 (mb : Nat → Bool) (lo hi : Nat → Int) : Prop := ∀ p q : Int, p ≤ q → cnt 10 mb lo hi p q ≤ q - p + 1 ∧ (cnt 10 mb lo hi p q = q - p + 1 → ∀ j, j < 10 → mb j = true → ¬ (p ≤ lo j ∧ hi j ≤ q) → ¬ (p ≤ lo j ∧ lo j ≤ q) ∧ ¬ (p ≤ hi j ∧ hi j ≤ q))
theorem Fx7.seat {mb : Nat → Bool} {bl bh xl xh : Nat → Int} {k : Nat} {v : Int} (hf : Fx7 mb bl bh) (hs : ∀ j, j < 10 → mb j = true → xl j ≤ bl j ∧ bl j ≤ bh j ∧ bh j ≤ xh j ∧ -100 ≤ xl j) (hk : k < 10) (hm : mb k = true) (hv : v = bl k ∨ v = bh k) : SE mb k v xl xh := by
  intro p q
  have h1 : cnt 10 (fun j => mb j && (j != k)) xl xh p q ≤ cnt 10 (fun j => mb j && (j != k)) bl bh (max p (-100)) q := cnt_mono (fun j hj a b c => by
    have a' := a
    simp at a'
    have := hs j hj a'.1
    exact ⟨a, by omega, by omega⟩)
  have hd := cnt_del (m := 10) (U := mb) (lo := bl) (hi := bh) (p := max p (-100)) (q := q) hk
  have hkb := hs k hk hm
  by_cases hpq : max p (-100) ≤ q
  · obtain ⟨f1, f2⟩ := hf (max p (-100)) q hpq
    have hsl : slots (max p (-100)) q v = (q - max p (-100) + 1) - (if max p (-100) ≤ v ∧ v ≤ q then 1 else 0) := by unfold slots; rw [show max 0 (q - max p (-100) + 1) = q - max p (-100) + 1 by omega]
    rw [hsl]
    by_cases hin : max p (-100) ≤ v ∧ v ≤ q
    · rw [if_pos hin]
      by_cases hw : max p (-100) ≤ bl k ∧ bh k ≤ q
      · rw [if_pos ⟨hm, hw.1, hw.2⟩] at hd
        omega
      · rw [if_neg (fun h => hw h.2)] at hd
        have : cnt 10 mb bl bh (max p (-100)) q ≠ q - max p (-100) + 1 := fun e => by
          have := f2 e k hk hm hw
          rcases hv with rfl | rfl
          · exact this.1 hin
          · exact this.2 hin
        omega
    · rw [if_neg hin]
      split at hd <;> omega
  · have h2 : cnt 10 (fun j => mb j && (j != k)) bl bh (max p (-100)) q = 0 := cnt_0 (fun j hj hc => by
      have a := hc.1
      simp at a
      have := hs j hj a.1
      omega)
    have h3 : 0 ≤ slots (max p (-100)) q v := by unfold slots; split <;> omega
    omega
theorem Fx7.of {mb : Nat → Bool} {xl xh : Nat → Int} (hs : ∀ j, j < 10 → mb j = true → xl j ≤ xh j ∧ -100 ≤ xl j) (h : ∀ k, k < 10 → mb k = true → SE mb k (xl k) xl xh ∧ SE mb k (xh k) xl xh) : Fx7 mb xl xh := by
  intro p q hpq
  refine ⟨?_, fun he j hj hm hw => ?_⟩
  · by_cases h0 : 0 < cnt 10 mb xl xh p q
    · obtain ⟨k, hk, hm, h1, h2⟩ := cnt_ex h0
      have hd := cnt_del (m := 10) (U := mb) (lo := xl) (hi := xh) (p := p) (q := q) hk
      rw [if_pos ⟨hm, h1, h2⟩] at hd
      have h3 := (h k hk hm).1 p q
      have h4 := hs k hk hm
      unfold slots at h3
      rw [if_pos (by omega)] at h3
      omega
    · omega
  · have hd := cnt_del (m := 10) (U := mb) (lo := xl) (hi := xh) (p := p) (q := q) hj
    rw [if_neg (fun h => hw h.2)] at hd
    have h4 := hs j hj hm
    constructor
    · intro hin
      have h3 := (h j hj hm).1 p q
      unfold slots at h3
      rw [if_pos (by omega)] at h3
      omega
    · intro hin
      have h3 := (h j hj hm).2 p q
      unfold slots at h3
      rw [if_pos (by omega)] at h3
      omega
