section
/-! the sums of ways, as up-sets -/
/-- (x, y) is at least the sum of some way from i to j whose inner places are below k, over the lines E -/
def fw_U (E : Nat → Nat → Nat → Nat → Prop) : Nat → Nat → Nat → Nat → Nat → Prop
  | 0 => fun i j x y => i = j ∨ ∃ p q, E i j p q ∧ p ≤ x ∧ q ≤ y
  | k + 1 => fun i j x y => fw_U E k i j x y ∨ ∃ x1 y1 x2 y2, fw_U E k i k x1 y1 ∧ fw_U E k k j x2 y2 ∧ x1 + x2 ≤ x ∧ y1 + y2 ≤ y
theorem fw_U_up {E : Nat → Nat → Nat → Nat → Prop} (k : Nat) : ∀ {i j x y x' y' : Nat}, fw_U E k i j x y → x ≤ x' → y ≤ y' → fw_U E k i j x' y' := by
  induction k with
  | zero =>
    intro i j x y x' y' h hx hy
    rcases h with h | ⟨p, q, h, hp, hq⟩
    · exact Or.inl h
    · exact Or.inr ⟨p, q, h, by omega, by omega⟩
  | succ k ih =>
    intro i j x y x' y' h hx hy
    rcases h with h | ⟨x1, y1, x2, y2, h1, h2, h3, h4⟩
    · exact Or.inl (ih h hx hy)
    · exact Or.inr ⟨x1, y1, x2, y2, h1, h2, by omega, by omega⟩
theorem fw_U_self {E : Nat → Nat → Nat → Nat → Prop} (k : Nat) {i x y : Nat} : fw_U E k i i x y := by
  induction k with
  | zero => exact Or.inl rfl
  | succ k ih => exact Or.inl ih
theorem fw_U_mono {E E' : Nat → Nat → Nat → Nat → Prop} (hE : ∀ i j p q, E i j p q → E' i j p q) (k : Nat) : ∀ {i j x y : Nat}, fw_U E k i j x y → fw_U E' k i j x y := by
  induction k with
  | zero =>
    intro i j x y h
    rcases h with h | ⟨p, q, h, hp, hq⟩
    · exact Or.inl h
    · exact Or.inr ⟨p, q, hE _ _ _ _ h, hp, hq⟩
  | succ k ih =>
    intro i j x y h
    rcases h with h | ⟨x1, y1, x2, y2, h1, h2, h3, h4⟩
    · exact Or.inl (ih h)
    · exact Or.inr ⟨x1, y1, x2, y2, ih h1, ih h2, h3, h4⟩
theorem fw_U_le {E : Nat → Nat → Nat → Nat → Prop} {k i j x y : Nat} (h : fw_U E k i j x y) : fw_U E (k + 1) i j x y := Or.inl h
theorem fw_U_step {E : Nat → Nat → Nat → Nat → Prop} {k i j x1 y1 x2 y2 : Nat} (h1 : fw_U E k i k x1 y1) (h2 : fw_U E k k j x2 y2) : fw_U E (k + 1) i j (x1 + x2) (y1 + y2) := Or.inr ⟨x1, y1, x2, y2, h1, h2, Nat.le_refl _, Nat.le_refl _⟩
theorem fw_U_skip {E : Nat → Nat → Nat → Nat → Prop} {k i j x y : Nat} (hs : i = k ∨ j = k ∨ i = j) : fw_U E (k + 1) i j x y ↔ fw_U E k i j x y := by
  constructor
  · intro h
    rcases h with h | ⟨x1, y1, x2, y2, h1, h2, h3, h4⟩
    · exact h
    · rcases hs with e | e | e
      · rw [e]; exact fw_U_up k h2 (by omega) (by omega)
      · rw [e]; exact fw_U_up k h1 (by omega) (by omega)
      · rw [e]; exact fw_U_self k
  · exact fw_U_le
theorem fw_U_mid {E : Nat → Nat → Nat → Nat → Prop} (k : Nat) : ∀ {c i j x1 y1 x2 y2 : Nat}, c < k → fw_U E k i c x1 y1 → fw_U E k c j x2 y2 → fw_U E k i j (x1 + x2) (y1 + y2) := by
  induction k with
  | zero => intro c i j x1 y1 x2 y2 hc; exact absurd hc (by omega)
  | succ k ih =>
    intro c i j x1 y1 x2 y2 hc h1 h2
    by_cases e : c = k
    · subst e
      exact fw_U_step ((fw_U_skip (Or.inr (Or.inl rfl))).mp h1) ((fw_U_skip (Or.inl rfl)).mp h2)
    · have hk : c < k := by omega
      rcases h1 with h1 | ⟨u1, v1, u2, v2, a1, a2, a3, a4⟩
      · rcases h2 with h2 | ⟨s1, t1, s2, t2, b1, b2, b3, b4⟩
        · exact fw_U_le (ih hk h1 h2)
        · exact fw_U_up (k + 1) (fw_U_step (ih hk h1 b1) b2) (by omega) (by omega)
      · rcases h2 with h2 | ⟨s1, t1, s2, t2, b1, b2, b3, b4⟩
        · exact fw_U_up (k + 1) (fw_U_step a1 (ih hk a2 h2)) (by omega) (by omega)
        · exact fw_U_up (k + 1) (fw_U_step a1 b2) (by omega) (by omega)
/-! sets of places, by their seven truths -/
def fw_cn (s : Nat → Bool) : Nat := (s 0).toNat + (s 1).toNat + (s 2).toNat + (s 3).toNat + (s 4).toNat + (s 5).toNat + (s 6).toNat
theorem fw_bt (a : Bool) : a.toNat ≤ 1 := by cases a <;> decide
theorem fw_bp (a b c : Bool) (h : a = true → b = false) (h1 : c = true → a = false) (h2 : c = true → b = false) : (a || b || c).toNat = a.toNat + b.toNat + c.toNat := by
  cases a <;> cases b <;> cases c <;> simp_all
theorem fw_cn7 (s : Nat → Bool) : fw_cn s ≤ 7 := by
  have h0 := fw_bt (s 0)
  have h1 := fw_bt (s 1)
  have h2 := fw_bt (s 2)
  have h3 := fw_bt (s 3)
  have h4 := fw_bt (s 4)
  have h5 := fw_bt (s 5)
  have h6 := fw_bt (s 6)
  unfold fw_cn
  omega
theorem fw_cnk : ∀ k, k < 7 → fw_cn (fun c => decide (c = k)) = 1 := by decide
theorem fw_cnU (s1 s2 : Nat → Bool) (k : Nat) (hk : k < 7) (h : ∀ c, s1 c = true → s2 c = false) (h1 : s1 k = false) (h2 : s2 k = false) : fw_cn (fun c => s1 c || s2 c || decide (c = k)) = fw_cn s1 + fw_cn s2 + 1 := by
  have e : ∀ c, (s1 c || s2 c || decide (c = k)).toNat = (s1 c).toNat + (s2 c).toNat + (decide (c = k)).toNat := by
    intro c
    refine fw_bp _ _ _ (h c) (fun z => ?_) (fun z => ?_)
    · rw [of_decide_eq_true z]; exact h1
    · rw [of_decide_eq_true z]; exact h2
  have e1 := fw_cnk k hk
  unfold fw_cn at e1 ⊢
  have e0 := e 0
  have e1' := e 1
  have e2 := e 2
  have e3 := e 3
  have e4 := e 4
  have e5 := e 5
  have e6 := e 6
  dsimp only at e1 ⊢
  omega
theorem fw_cn5 (s : Nat → Bool) (i j : Nat) (hi : i < 7) (hj : j < 7) (n : i ≠ j) (h1 : s i = false) (h2 : s j = false) : fw_cn s ≤ 5 := by
  have a := fw_cnU s (fun _ => false) i hi (fun _ _ => rfl) h1 rfl
  have b := fw_cnU (fun c => s c || false || decide (c = i)) (fun _ => false) j hj (fun _ _ => rfl) (by simp [h2]; omega) rfl
  have z : fw_cn (fun _ => false) = 0 := rfl
  have c := fw_cn7 (fun c => (s c || false || decide (c = i)) || false || decide (c = j))
  omega
/-- (p, q) is at least the sum of a way without rings, its inner places the set s -/
def fw_W (E : Nat → Nat → Nat → Nat → Prop) (k i j p q : Nat) : Prop := ∃ s : Nat → Bool, p ≤ 3 * (fw_cn s + 1) ∧ q ≤ 3 * (fw_cn s + 1) ∧ ∀ c, s c = true → c < k ∧ c ≠ i ∧ c ≠ j ∧ ∃ x1 y1 x2 y2, fw_U E k i c x1 y1 ∧ fw_U E k c j x2 y2 ∧ x1 + x2 ≤ p ∧ y1 + y2 ≤ q
theorem fw_W_le {E : Nat → Nat → Nat → Nat → Prop} {k i j p q : Nat} (h : fw_W E k i j p q) : fw_W E (k + 1) i j p q := by
  obtain ⟨s, h1, h2, h3⟩ := h
  refine ⟨s, h1, h2, fun c hc => ?_⟩
  obtain ⟨a, b, d, x1, y1, x2, y2, e, f, g, g'⟩ := h3 c hc
  exact ⟨by omega, b, d, x1, y1, x2, y2, fw_U_le e, fw_U_le f, g, g'⟩
theorem fw_W18 {E : Nat → Nat → Nat → Nat → Prop} {k i j p q : Nat} (hi : i < 7) (hj : j < 7) (n : i ≠ j) (h : fw_W E k i j p q) : p ≤ 18 ∧ q ≤ 18 := by
  obtain ⟨s, h1, h2, h3⟩ := h
  have a : s i = false := by
    cases e : s i with
    | false => rfl
    | true => exact absurd rfl (h3 i e).2.1
  have b : s j = false := by
    cases e : s j with
    | false => rfl
    | true => exact absurd rfl (h3 j e).2.2.1
  have c := fw_cn5 s i j hi hj n a b
  omega
theorem fw_WJ {E : Nat → Nat → Nat → Nat → Prop} {k i j p1 q1 p2 q2 : Nat} (hk : k < 7) (hik : i ≠ k) (hjk : j ≠ k) (w1 : fw_W E k i k p1 q1) (w2 : fw_W E k k j p2 q2) (u1 : fw_U E k i k p1 q1) (u2 : fw_U E k k j p2 q2) :
    fw_U E k i j (p1 + p2) (q1 + q2) ∨ fw_W E (k + 1) i j (p1 + p2) (q1 + q2) := by
  obtain ⟨s1, a1, a2, a3⟩ := w1
  obtain ⟨s2, b1, b2, b3⟩ := w2
  by_cases hc : ∃ c, s1 c = true ∧ s2 c = true
  · obtain ⟨c, c1, c2⟩ := hc
    obtain ⟨d1, _, _, x1, y1, x2, y2, e1, e2, e3, e4⟩ := a3 c c1
    obtain ⟨_, _, _, x3, y3, x4, y4, f1, f2, f3, f4⟩ := b3 c c2
    exact Or.inl (fw_U_up k (fw_U_mid k d1 e1 f2) (by omega) (by omega))
  by_cases hj : s1 j = true
  · obtain ⟨d1, _, _, x1, y1, x2, y2, e1, e2, e3, e4⟩ := a3 j hj
    exact Or.inl (fw_U_up k e1 (by omega) (by omega))
  by_cases hi : s2 i = true
  · obtain ⟨_, _, _, x3, y3, x4, y4, f1, f2, f3, f4⟩ := b3 i hi
    exact Or.inl (fw_U_up k f2 (by omega) (by omega))
  have k1 : s1 k = false := by
    cases e : s1 k with
    | false => rfl
    | true => exact absurd (a3 k e).1 (by omega)
  have k2 : s2 k = false := by
    cases e : s2 k with
    | false => rfl
    | true => exact absurd (b3 k e).1 (by omega)
  have n := fw_cnU s1 s2 k hk (fun c z => by
    cases e : s2 c with
    | false => rfl
    | true => exact absurd ⟨c, z, e⟩ hc) k1 k2
  refine Or.inr ⟨fun c => s1 c || s2 c || decide (c = k), by omega, by omega, fun c z => ?_⟩
  have z' : (s1 c = true ∨ s2 c = true) ∨ c = k := by
    have z0 : (s1 c || s2 c || decide (c = k)) = true := z
    rw [Bool.or_eq_true, Bool.or_eq_true, decide_eq_true_eq] at z0
    exact z0
  rcases z' with (z1 | z2) | e
  · obtain ⟨d1, d2, d3, x1, y1, x2, y2, e1, e2, e3, e4⟩ := a3 c z1
    exact ⟨by omega, d2, fun t => hj (t ▸ z1), x1, y1, x2 + p2, y2 + q2, fw_U_le e1, fw_U_step e2 u2, by omega, by omega⟩
  · obtain ⟨d1, d2, d3, x3, y3, x4, y4, f1, f2, f3, f4⟩ := b3 c z2
    exact ⟨by omega, fun t => hi (t ▸ z2), d3, p1 + x3, q1 + y3, x4, y4, fw_U_step u1 f1, fw_U_le f2, by omega, by omega⟩
  · subst e
    exact ⟨by omega, fun t => hik t.symm, fun t => hjk t.symm, p1, q1, p2, q2, fw_U_le u1, fw_U_le u2, Nat.le_refl _, Nat.le_refl _⟩
theorem fw_wit {E : Nat → Nat → Nat → Nat → Prop} (hE : ∀ i j p q, E i j p q → p ≤ 3 ∧ q ≤ 3) (k : Nat) : k ≤ 7 → ∀ {i j x y : Nat}, i ≠ j → fw_U E k i j x y → ∃ p q, p ≤ x ∧ q ≤ y ∧ fw_U E k i j p q ∧ fw_W E k i j p q := by
  induction k with
  | zero =>
    intro _ i j x y n h
    rcases h with h | ⟨p, q, h, hp, hq⟩
    · exact absurd h n
    · have b := hE _ _ _ _ h
      refine ⟨p, q, hp, hq, Or.inr ⟨p, q, h, Nat.le_refl _, Nat.le_refl _⟩, fun _ => false, ?_, ?_, fun c z => Bool.noConfusion z⟩
      · have : fw_cn (fun _ => false) = 0 := rfl
        omega
      · have : fw_cn (fun _ => false) = 0 := rfl
        omega
  | succ k ih =>
    intro hk i j x y n h
    have up : ∀ x' y', x' ≤ x → y' ≤ y → fw_U E k i j x' y' → ∃ p q, p ≤ x ∧ q ≤ y ∧ fw_U E (k + 1) i j p q ∧ fw_W E (k + 1) i j p q := by
      intro x' y' hx hy h'
      obtain ⟨p, q, a, b, c, d⟩ := ih (by omega) n h'
      exact ⟨p, q, by omega, by omega, fw_U_le c, fw_W_le d⟩
    by_cases hs : i = k ∨ j = k
    · exact up x y (Nat.le_refl _) (Nat.le_refl _) ((fw_U_skip (by omega)).mp h)
    rcases h with h | ⟨x1, y1, x2, y2, h1, h2, h3, h4⟩
    · exact up x y (Nat.le_refl _) (Nat.le_refl _) h
    · have hik : i ≠ k := fun e => hs (Or.inl e)
      have hjk : j ≠ k := fun e => hs (Or.inr e)
      obtain ⟨p1, q1, a1, a2, a3, a4⟩ := ih (by omega) hik h1
      obtain ⟨p2, q2, b1, b2, b3, b4⟩ := ih (by omega) (fun e => hjk e.symm) h2
      rcases fw_WJ (by omega) hik hjk a4 b4 a3 b3 with z | z
      · exact up _ _ (by omega) (by omega) z
      · exact ⟨p1 + p2, q1 + q2, by omega, by omega, fw_U_step a3 b3, z⟩
/-! least elements -/
def fw_Min (V : Nat → Nat → Prop) (x y : Nat) : Prop := V x y ∧ ∀ x' y', x' ≤ x → y' ≤ y → V x' y' → x' = x ∧ y' = y
theorem fw_minW {E : Nat → Nat → Nat → Nat → Prop} (hE : ∀ i j p q, E i j p q → p ≤ 3 ∧ q ≤ 3) {k i j x y : Nat} (hk : k ≤ 7) (n : i ≠ j) (h : fw_Min (fw_U E k i j) x y) : fw_W E k i j x y := by
  obtain ⟨p, q, a, b, c, d⟩ := fw_wit hE k hk n h.1
  obtain ⟨e, f⟩ := h.2 p q a b c
  rw [← e, ← f]
  exact d
theorem fw_join {E : Nat → Nat → Nat → Nat → Prop} (hE : ∀ i j p q, E i j p q → p ≤ 3 ∧ q ≤ 3) {k i j x1 y1 x2 y2 : Nat} (hk : k < 7) (hi : i < 7) (hj : j < 7) (hik : i ≠ k) (hjk : j ≠ k) (n : i ≠ j) (h1 : fw_Min (fw_U E k i k) x1 y1) (h2 : fw_Min (fw_U E k k j) x2 y2) : fw_U E k i j (x1 + x2) (y1 + y2) ∨ (x1 + x2 ≤ 18 ∧ y1 + y2 ≤ 18) := by
  have w1 := fw_minW hE (by omega) hik h1
  have w2 := fw_minW hE (by omega) (fun e => hjk e.symm) h2
  rcases fw_WJ hk hik hjk w1 w2 h1.1 h2.1 with z | z
  · exact Or.inl z
  · exact Or.inr (fw_W18 hi hj n z)
end
section
/-! a row: n sums, the first number rising, the second falling; V its up-set -/
def fw_L (n : Nat) (P Q : Nat → Nat) (V : Nat → Nat → Prop) : Prop := n ≤ 19 ∧ (∀ i, i < n → P i ≤ 18 ∧ Q i ≤ 18) ∧ (∀ i j, i < j → j < n → P i < P j ∧ Q j < Q i) ∧ ∀ x y, V x y ↔ ∃ i, i < n ∧ P i ≤ x ∧ Q i ≤ y
theorem fw_L_min {n : Nat} {P Q : Nat → Nat} {V : Nat → Nat → Prop} (h : fw_L n P Q V) {x y : Nat} : fw_Min V x y ↔ ∃ i, i < n ∧ P i = x ∧ Q i = y := by
  obtain ⟨_, _, hs, hV⟩ := h
  constructor
  · intro ⟨a, b⟩
    obtain ⟨i, hi, h1, h2⟩ := (hV x y).mp a
    obtain ⟨e, f⟩ := b (P i) (Q i) h1 h2 ((hV _ _).mpr ⟨i, hi, Nat.le_refl _, Nat.le_refl _⟩)
    exact ⟨i, hi, e, f⟩
  · intro ⟨i, hi, e, f⟩
    refine ⟨(hV _ _).mpr ⟨i, hi, by omega, by omega⟩, fun x' y' hx hy h' => ?_⟩
    obtain ⟨j, hj, h1, h2⟩ := (hV _ _).mp h'
    rcases Nat.lt_trichotomy i j with z | z | z
    · have := hs i j z hj
      omega
    · subst z
      omega
    · have := hs j i z hi
      omega
theorem fw_L_half {n n' : Nat} {P Q P' Q' : Nat → Nat} {V : Nat → Nat → Prop} (h : fw_L n P Q V) (h' : fw_L n' P' Q' V) : n ≤ n' := by
  have hx : ∀ i, i < n → ∃ j, j < n' ∧ P' j = P i := by
    intro i hi
    obtain ⟨j, hj, e, _⟩ := (fw_L_min h').mp ((fw_L_min h).mpr ⟨i, hi, rfl, rfl⟩)
    exact ⟨j, hj, e⟩
  have hy : ∀ i, i < n → ∃ j, j < n' ∧ P' j = P i ∧ i ≤ j := by
    intro i
    induction i with
    | zero =>
      intro hi
      obtain ⟨j, a, b⟩ := hx 0 hi
      exact ⟨j, a, b, Nat.zero_le _⟩
    | succ i ih =>
      intro hi
      obtain ⟨j, a, b, c⟩ := ih (by omega)
      obtain ⟨j2, a2, b2⟩ := hx (i + 1) hi
      refine ⟨j2, a2, b2, ?_⟩
      have lt := (h.2.2.1 i (i + 1) (by omega) hi).1
      rcases Nat.lt_or_ge j j2 with z | z
      · omega
      · rcases Nat.eq_or_lt_of_le z with e | e
        · subst e
          omega
        · have := (h'.2.2.1 j2 j e a).1
          omega
  by_cases z : n = 0
  · omega
  · obtain ⟨j, a, _, c⟩ := hy (n - 1) (by omega)
    omega
theorem fw_L_uni {n n' : Nat} {P Q P' Q' : Nat → Nat} {V : Nat → Nat → Prop} (h : fw_L n P Q V) (h' : fw_L n' P' Q' V) : n = n' := Nat.le_antisymm (fw_L_half h h') (fw_L_half h' h)
/-- the row r of the arrays holds the least elements of V -/
def fw_R (a7 a8 : Nat → Int32) (r : Nat) (V : Nat → Nat → Prop) : Prop := ∃ (n : Nat) (P Q : Nat → Nat), fw_L n P Q V ∧ a7 r = nI n ∧ ∀ i, i < n → a8 (19 * r + i) = nI (64 * P i + Q i)
theorem fw_R_congr {a7 a8 : Nat → Int32} {r : Nat} {V V' : Nat → Nat → Prop} (hV : ∀ x y, V' x y ↔ V x y) (h : fw_R a7 a8 r V) : fw_R a7 a8 r V' := by
  obtain ⟨n, P, Q, ⟨h1, h2, h3, h4⟩, h5, h6⟩ := h
  exact ⟨n, P, Q, ⟨h1, h2, h3, fun x y => (hV x y).trans (h4 x y)⟩, h5, h6⟩
theorem fw_R_frame {a7 a8 a7' a8' : Nat → Int32} {r : Nat} {V : Nat → Nat → Prop} (e7 : a7' r = a7 r) (e8 : ∀ k, 19 * r ≤ k → k < 19 * r + 19 → a8' k = a8 k) (h : fw_R a7 a8 r V) : fw_R a7' a8' r V := by
  obtain ⟨n, P, Q, h0, h5, h6⟩ := h
  have hn := h0.1
  exact ⟨n, P, Q, h0, e7.trans h5, fun i hi => (e8 _ (by omega) (by omega)).trans (h6 i hi)⟩
theorem fw_R_cnt {a7 a8 b7 b8 : Nat → Int32} {r : Nat} {V : Nat → Nat → Prop} (h : fw_R a7 a8 r V) (h' : fw_R b7 b8 r V) : a7 r = b7 r := by
  obtain ⟨n, P, Q, h0, h5, _⟩ := h
  obtain ⟨n', P', Q', h0', h5', _⟩ := h'
  rw [h5, h5', fw_L_uni h0 h0']
/-! a list that grows at its end -/
def fw_x (A : Nat → Nat) (g v : Nat) : Nat → Nat := fun j => if j = g then v else A j
theorem fw_xs (A : Nat → Nat) (g v : Nat) : fw_x A g v g = v := if_pos rfl
theorem fw_xn {A : Nat → Nat} {g v j : Nat} (h : j ≠ g) : fw_x A g v j = A j := if_neg h
theorem fw_app1 {A B : Nat → Nat} {g v w : Nat} {a9 : Nat → Int32} (a : ∀ j, j < g → a9 j = nI (64 * A j + B j)) : ∀ j, j < g + 1 → upd a9 g (nI (64 * v + w)) j = nI (64 * fw_x A g v j + fw_x B g w j) := by
  intro j hj
  by_cases e : j = g
  · subst e
    rw [pk_us, fw_xs, fw_xs]
  · rw [pk_un e, fw_xn e, fw_xn e]
    exact a j (by omega)
theorem fw_app2 {A B : Nat → Nat} {g v w : Nat} (b : ∀ j j', j < j' → j' < g → A j < A j' ∧ B j' < B j) (l : ∀ j, j < g → A j < v ∧ w < B j) : ∀ j j', j < j' → j' < g + 1 → fw_x A g v j < fw_x A g v j' ∧ fw_x B g w j' < fw_x B g w j := by
  intro j j' h1 h2
  by_cases e : j' = g
  · subst e
    rw [fw_xs, fw_xs, fw_xn (by omega), fw_xn (by omega)]
    exact l j h1
  · rw [fw_xn e, fw_xn e, fw_xn (show j ≠ g by omega), fw_xn (show j ≠ g by omega)]
    exact b j j' h1 (by omega)
/-- addSum's loop at the row's element i: pl: the sum is placed; g elements are gathered -/
def fw_G (n : Nat) (P Q : Nat → Nat) (sp sq : Nat) (i pl g : Nat) (a9 : Nat → Int32) : Prop :=
  pl ≤ 1 ∧ g ≤ i + pl ∧ (∀ j, j < i → ¬ (P j ≤ sp ∧ Q j ≤ sq)) ∧ (pl = 0 → ∀ j, j < i → P j ≤ sp) ∧ (pl = 1 → ∀ j, i ≤ j → j < n → sp < P j) ∧
  ∃ A B : Nat → Nat, (∀ j, j < g → a9 j = nI (64 * A j + B j)) ∧ (∀ j j', j < j' → j' < g → A j < A j' ∧ B j' < B j) ∧
    (∀ j, j < g → (pl = 1 ∧ A j = sp ∧ B j = sq) ∨ ∃ i', i' < i ∧ A j = P i' ∧ B j = Q i' ∧ ¬ (sp ≤ P i' ∧ sq ≤ Q i')) ∧
    (∀ i', i' < i → (sp ≤ P i' ∧ sq ≤ Q i') ∨ ∃ j, j < g ∧ A j = P i' ∧ B j = Q i') ∧
    (pl = 1 → ∃ j, j < g ∧ A j = sp ∧ B j = sq)
theorem fw_G_0 {n : Nat} {P Q : Nat → Nat} {sp sq : Nat} {a9 : Nat → Int32} : fw_G n P Q sp sq 0 0 0 a9 :=
  ⟨by omega, by omega, fun j h => absurd h (by omega), fun _ j h => absurd h (by omega), fun h => absurd h (by omega), fun _ => 0, fun _ => 0, fun j h => absurd h (by omega), fun j j' _ h => absurd h (by omega), fun j h => absurd h (by omega), fun j h => absurd h (by omega), fun h => absurd h (by omega)⟩
theorem fw_G_place {n : Nat} {P Q : Nat → Nat} {sp sq i g : Nat} {a9 : Nat → Int32} (hs : ∀ i j, i < j → j < n → P i < P j ∧ Q j < Q i) (h : fw_G n P Q sp sq i 0 g a9) (hi : i < n → sp < P i) : fw_G n P Q sp sq i 1 (g + 1) (upd a9 g (nI (64 * sp + sq))) := by
  obtain ⟨_, h2, h3, h4, _, A, B, a, b, c, d, _⟩ := h
  have cc : ∀ j, j < g → A j < sp ∧ sq < B j := by
    intro j hj
    rcases c j hj with z | ⟨i', z1, z2, z3, z4⟩
    · exact absurd z.1 (by omega)
    · have t1 := h3 i' z1
      have t2 := h4 rfl i' z1
      omega
  refine ⟨by omega, by omega, h3, fun z => absurd z (by omega), fun _ j j1 j2 => ?_, fw_x A g sp, fw_x B g sq, fw_app1 a, fw_app2 b cc, fun j hj => ?_, fun i' hi' => ?_, fun _ => ⟨g, by omega, fw_xs _ _ _, fw_xs _ _ _⟩⟩
  · by_cases e : j = i
    · subst e
      exact hi j2
    · have t := (hs i j (by omega) j2).1
      have t' := hi (by omega)
      omega
  · by_cases e : j = g
    · subst e
      exact Or.inl ⟨rfl, fw_xs _ _ _, fw_xs _ _ _⟩
    · rw [fw_xn e, fw_xn e]
      rcases c j (by omega) with z | z
      · exact absurd z.1 (by omega)
      · exact Or.inr z
  · rcases d i' hi' with z | ⟨j, z1, z2, z3⟩
    · exact Or.inl z
    · exact Or.inr ⟨j, by omega, (fw_xn (by omega)).trans z2, (fw_xn (by omega)).trans z3⟩
theorem fw_G_keep {n : Nat} {P Q : Nat → Nat} {sp sq i pl g : Nat} {a9 : Nat → Int32} (hs : ∀ i j, i < j → j < n → P i < P j ∧ Q j < Q i) (h : fw_G n P Q sp sq i pl g a9) (hi : i < n) (nr : ¬ (P i ≤ sp ∧ Q i ≤ sq)) (hp : pl = 0 → P i ≤ sp) (nb : ¬ (sp ≤ P i ∧ sq ≤ Q i)) : fw_G n P Q sp sq (i + 1) pl (g + 1) (upd a9 g (nI (64 * P i + Q i))) := by
  obtain ⟨h1, h2, h3, h4, h5, A, B, a, b, c, d, e⟩ := h
  have cc : ∀ j, j < g → A j < P i ∧ Q i < B j := by
    intro j hj
    rcases c j hj with ⟨z1, z2, z3⟩ | ⟨i', z1, z2, z3, z4⟩
    · have t := h5 z1 i (Nat.le_refl _) hi
      omega
    · have t := hs i' i z1 hi
      omega
  refine ⟨h1, by omega, fun j hj => ?_, fun z j hj => ?_, fun z j j1 j2 => h5 z j (by omega) j2, fw_x A g (P i), fw_x B g (Q i), fw_app1 a, fw_app2 b cc, fun j hj => ?_, fun i' hi' => ?_, fun z => ?_⟩
  · by_cases t : j = i
    · subst t
      exact nr
    · exact h3 j (by omega)
  · by_cases t : j = i
    · subst t
      exact hp z
    · exact h4 z j (by omega)
  · by_cases t : j = g
    · subst t
      exact Or.inr ⟨i, by omega, fw_xs _ _ _, fw_xs _ _ _, nb⟩
    · rw [fw_xn t, fw_xn t]
      rcases c j (by omega) with z | ⟨i', z1, z2⟩
      · exact Or.inl z
      · exact Or.inr ⟨i', by omega, z2⟩
  · by_cases t : i' = i
    · subst t
      exact Or.inr ⟨g, by omega, fw_xs _ _ _, fw_xs _ _ _⟩
    · rcases d i' (by omega) with z | ⟨j, z1, z2, z3⟩
      · exact Or.inl z
      · exact Or.inr ⟨j, by omega, (fw_xn (by omega)).trans z2, (fw_xn (by omega)).trans z3⟩
  · obtain ⟨j, z1, z2, z3⟩ := e z
    exact ⟨j, by omega, (fw_xn (by omega)).trans z2, (fw_xn (by omega)).trans z3⟩
theorem fw_G_drop {n : Nat} {P Q : Nat → Nat} {sp sq i pl g : Nat} {a9 : Nat → Int32} (h : fw_G n P Q sp sq i pl g a9) (nr : ¬ (P i ≤ sp ∧ Q i ≤ sq)) (hp : pl = 0 → P i ≤ sp) (nb : sp ≤ P i ∧ sq ≤ Q i) : fw_G n P Q sp sq (i + 1) pl g a9 := by
  obtain ⟨h1, h2, h3, h4, h5, A, B, a, b, c, d, e⟩ := h
  refine ⟨h1, by omega, fun j hj => ?_, fun z j hj => ?_, fun z j j1 j2 => h5 z j (by omega) j2, A, B, a, b, fun j hj => ?_, fun i' hi' => ?_, e⟩
  · by_cases t : j = i
    · subst t
      exact nr
    · exact h3 j (by omega)
  · by_cases t : j = i
    · subst t
      exact hp z
    · exact h4 z j (by omega)
  · rcases c j hj with z | ⟨i', z1, z2⟩
    · exact Or.inl z
    · exact Or.inr ⟨i', by omega, z2⟩
  · by_cases t : i' = i
    · subst t
      exact Or.inl nb
    · exact d i' (by omega)
theorem fw_G_end {n : Nat} {P Q : Nat → Nat} {V : Nat → Nat → Prop} {sp sq g : Nat} {a9 : Nat → Int32} (hL : fw_L n P Q V) (h : fw_G n P Q sp sq n 1 g a9) (hb : V sp sq ∨ (sp ≤ 18 ∧ sq ≤ 18)) : ∃ A B : Nat → Nat, fw_L g A B (fun x y => V x y ∨ (sp ≤ x ∧ sq ≤ y)) ∧ ∀ j, j < g → a9 j = nI (64 * A j + B j) := by
  obtain ⟨l1, l2, l3, l4⟩ := hL
  obtain ⟨h1, h2, h3, h4, h5, A, B, a, b, c, d, e⟩ := h
  have hb' : sp ≤ 18 ∧ sq ≤ 18 := by
    rcases hb with z | z
    · obtain ⟨i, z1, z2, z3⟩ := (l4 _ _).mp z
      exact absurd ⟨z2, z3⟩ (h3 i z1)
    · exact z
  have hA : ∀ j, j < g → A j ≤ 18 ∧ B j ≤ 18 := by
    intro j hj
    rcases c j hj with ⟨_, z2, z3⟩ | ⟨i', z1, z2, z3, _⟩
    · omega
    · have := l2 i' z1
      omega
  have hg : ∀ j, j < g → j ≤ A j := by
    intro j
    induction j with
    | zero => intro _; exact Nat.zero_le _
    | succ j ih =>
      intro hj
      have t1 := ih (by omega)
      have t2 := (b j (j + 1) (by omega) hj).1
      omega
  refine ⟨A, B, ⟨?_, hA, b, fun x y => ⟨fun z => ?_, fun z => ?_⟩⟩, a⟩
  · by_cases z : g ≤ 19
    · exact z
    · have t1 := hg 19 (by omega)
      have t2 := (hA 19 (by omega)).1
      omega
  · obtain ⟨j0, s1, s2, s3⟩ := e rfl
    rcases z with z | z
    · obtain ⟨i, z1, z2, z3⟩ := (l4 _ _).mp z
      rcases d i z1 with t | ⟨j, t1, t2, t3⟩
      · exact ⟨j0, s1, by omega, by omega⟩
      · exact ⟨j, t1, by omega, by omega⟩
    · exact ⟨j0, s1, by omega, by omega⟩
  · obtain ⟨j, z1, z2, z3⟩ := z
    rcases c j z1 with ⟨_, t2, t3⟩ | ⟨i', t1, t2, t3, _⟩
    · exact Or.inr ⟨by omega, by omega⟩
    · exact Or.inl ((l4 _ _).mpr ⟨i', t1, by omega, by omega⟩)
end
section
/-! addSum -/
theorem fw_sh {p q : Nat} (hp : p < 1000) (hq : q < 64) : nI (64 * p + q) >>> ((6 : Int32) &&& 31) = nI p := by
  rw [pk_shrN (by omega) _ 6 (by decide), show (64 * p + q) / 2 ^ 6 = p by omega]
theorem fw_an {p q : Nat} (hp : p < 1000) (hq : q < 64) : nI (64 * p + q) &&& 63 = nI q := by
  rw [pk_andN (by omega) 6 (by decide), show (64 * p + q) % 2 ^ 6 = q by omega]
theorem fw_as215 {post : St1 → Prop} {f0 f1 : Int32} {a1 a2 a3 a4 a5 a6 a7 a8 a9 a10 : Nat → Int32} {r g : Nat} (hr : r < 49) (hg : g ≤ 19)
    (H : ∀ b8 : Nat → Int32, (∀ j, j < g → b8 (19 * r + j) = a9 j) → (∀ k, k < 19 * r ∨ 19 * r + 19 ≤ k → b8 k = a8 k) → post (f0, f1, nI g, a1, a2, a3, a4, a5, a6, upd a7 r (nI g), b8, a9, a10)) :
    ∃ n, wX_addSum_215 post (nI r) (nI (19 * r)) f0 f1 (nI g) n 0 a1 a2 a3 a4 a5 a6 a7 a8 a9 a10 := by
  refine pk_loop (fun n i s => wX_addSum_215 post (nI r) (nI (19 * r)) f0 f1 (nI g) n (nI i) a1 a2 a3 a4 a5 a6 a7 s a9 a10) (fun i s => (∀ j, j < i → s (19 * r + j) = a9 j) ∧ ∀ k, k < 19 * r ∨ 19 * r + 19 ≤ k → s k = a8 k) g 0 a8 (by omega) ⟨fun j hj => absurd hj (by omega), fun _ _ => rfl⟩ ?_ ?_
  · intro n s h
    exact pk_le g g (fun _ => ⟨pk_in r 49 hr, nm_r (by rw [nI_clamp (by omega)]) (H s h.1 h.2)⟩) (fun z => absurd z (by omega))
  · intro n i s hi h hw
    refine pk_le g i (fun z => absurd z (by omega)) (fun _ => ⟨pk_in i 40 (by omega), pk_in (19 * r + i) 931 (by omega) (nI_add _ _), nm_r (e' := upd s (19 * r + i) (a9 i)) (by rw [nI_add, nI_clamp (by omega), nI_clamp (by omega)]) (nm_r (nI_1 i) (hw _ ⟨fun j hj => ?_, fun k hk => ?_⟩))⟩)
    · by_cases e : j = i
      · subst e
        exact pk_us
      · rw [pk_un (by omega)]
        exact h.1 j (by omega)
    · rw [pk_un (by omega)]
      exact h.2 k hk
theorem fw_addSum {post : St1 → Prop} {f0 f1 f2 x y : Int32} {a1 a2 a3 a4 a5 a6 a7 a8 a9 a10 : Nat → Int32} {r sp sq : Nat} {V : Nat → Nat → Prop} (hr : r < 49) (hR : fw_R a7 a8 r V) (hp : sp < 64) (hq : sq < 64) (hb : V sp sq ∨ (sp ≤ 18 ∧ sq ≤ 18))
    (H : ∀ (g : Int32) (b7 b8 b9 : Nat → Int32), (∀ k, k ≠ r → b7 k = a7 k) → (∀ k, k < 19 * r ∨ 19 * r + 19 ≤ k → b8 k = a8 k) → fw_R b7 b8 r (fun x y => V x y ∨ (sp ≤ x ∧ sq ≤ y)) → post (f0, f1, g, a1, a2, a3, a4, a5, a6, b7, b8, b9, a10)) (hx : x = nI r) (hy : y = nI (64 * sp + sq)) :
    wpX_addSum post (f0, f1, f2, a1, a2, a3, a4, a5, a6, a7, a8, a9, a10) x y := by
  subst hx hy
  obtain ⟨n, P, Q, hL, h7, h8⟩ := hR
  have hn := hL.1
  have hd := hL.2.1
  have hs := hL.2.2.1
  have sh := fw_sh (p := sp) (q := sq) (by omega) hq
  have an := fw_an (p := sp) (q := sq) (by omega) hq
  have e7 : nI (19 * r) + a7 (nI r).toNatClampNeg = nI (19 * r + n) := by rw [nI_clamp (by omega), h7, nI_add]
  have fin : ∀ g b9, fw_G n P Q sp sq n 1 g b9 → ∃ k, wX_addSum_215 post (nI r) (nI (19 * r)) f0 f1 (nI g) k 0 a1 a2 a3 a4 a5 a6 a7 a8 b9 a10 := by
    intro g b9 hG
    obtain ⟨A, B, hL', hA⟩ := fw_G_end hL hG hb
    exact fw_as215 hr hL'.1 (fun b8 e1 e2 => H _ _ _ _ (fun k hk => pk_un hk) e2 ⟨g, A, B, hL', pk_us, fun i hi => (e1 i hi).trans (hA i hi)⟩)
  unfold wpX_addSum
  refine nm_r (pk_mul 19 r) ?_
  refine pk_loop (fun m i (s : Nat × Nat × (Nat → Int32)) => wX_addSum_16 post (nI r) (nI (64 * sp + sq)) (nI (19 * r)) f0 f1 m (nI s.1) (nI (19 * r + i)) (nI s.2.1) a1 a2 a3 a4 a5 a6 a7 a8 s.2.2 a10) (fun i s => fw_G n P Q sp sq i s.1 s.2.1 s.2.2) n 0 (0, 0, a9) (by omega) fw_G_0 ?_ ?_
  · intro m s h
    obtain ⟨pl, g, b9⟩ := s
    dsimp only
    have h' : fw_G n P Q sp sq n pl g b9 := h
    have hg := h'.2.1
    have hpl := h'.1
    refine ⟨pk_in r 49 hr, pk_le (19 * r + n) (19 * r + n) (fun _ => ?_) (fun z => absurd z (by omega)) e7⟩
    refine pk_eq pl 0 (fun e => ?_) (fun e => ?_)
    · subst e
      exact ⟨pk_in g 40 (by omega), nm_r (e' := upd b9 g (nI (64 * sp + sq))) (by rw [nI_clamp (by omega)]) (nm_r (nI_1 g) (fin _ _ (fw_G_place hs h' (fun z => absurd z (by omega)))))⟩
    · have e1 : pl = 1 := by omega
      subst e1
      exact fin _ _ h'
  · intro m i s hi h hw
    obtain ⟨pl, g, b9⟩ := s
    dsimp only
    have h' : fw_G n P Q sp sq i pl g b9 := h
    have hg := h'.2.1
    have hpl := h'.1
    have hdi := hd i hi
    have hw' : ∀ pl' g' b', fw_G n P Q sp sq (i + 1) pl' g' b' → wX_addSum_16 post (nI r) (nI (64 * sp + sq)) (nI (19 * r)) f0 f1 m (nI pl') (nI (19 * r + i + 1)) (nI g') a1 a2 a3 a4 a5 a6 a7 a8 b' a10 := fun pl' g' b' z => hw (pl', g', b') z
    have e8 : a8 (nI (19 * r + i)).toNatClampNeg = nI (64 * P i + Q i) := by
      rw [nI_clamp (by omega)]
      exact h8 i hi
    have s8 : a8 (nI (19 * r + i)).toNatClampNeg >>> ((6 : Int32) &&& 31) = nI (P i) := by rw [e8, fw_sh (by omega) (by omega)]
    have n8 : a8 (nI (19 * r + i)).toNatClampNeg &&& 63 = nI (Q i) := by rw [e8, fw_an (by omega) (by omega)]
    have key : ∀ pl g b9, g ≤ 30 → fw_G n P Q sp sq i pl g b9 → ¬ (P i ≤ sp ∧ Q i ≤ sq) → (pl = 0 → P i ≤ sp) → wX_addSum_109 post (wX_addSum_16 post (nI r) (nI (64 * sp + sq)) (nI (19 * r)) f0 f1 m) (nI r) (nI (64 * sp + sq)) (nI (19 * r)) (nI pl) (nI (19 * r + i)) f0 f1 (nI g) a1 a2 a3 a4 a5 a6 a7 a8 b9 a10 := by
      intro pl g b9 hg hG nr hpl
      have keep : ¬ (sp ≤ P i ∧ sq ≤ Q i) → wX_addSum_147 post (wX_addSum_16 post (nI r) (nI (64 * sp + sq)) (nI (19 * r)) f0 f1 m) (nI r) (nI (64 * sp + sq)) (nI (19 * r)) (nI pl) (nI (19 * r + i)) f0 f1 (nI g) a1 a2 a3 a4 a5 a6 a7 a8 b9 a10 := by
        intro nb
        refine br_t (c := (0 : Int32) = 0) rfl ⟨pk_in (19 * r + i) 931 (by omega), pk_in g 40 (by omega), nm_r (e' := upd b9 g (nI (64 * P i + Q i))) (by rw [e8, nI_clamp (by omega)]) (nm_r (nI_1 g) (nm_r (nI_1 (19 * r + i)) (hw' _ _ _ (fw_G_keep hs hG hi nr hpl nb))))⟩
      refine ⟨pk_in (19 * r + i) 931 (by omega), pk_lt (P i) sp (fun z => keep (by omega)) (fun z => ⟨pk_in (19 * r + i) 931 (by omega), pk_lt (Q i) sq (fun z' => keep (by omega)) (fun z' => ?_) n8 an⟩) s8 sh⟩
      exact br_f (c := (1 : Int32) = 0) (by decide) (nm_r (nI_1 (19 * r + i)) (hw' _ _ _ (fw_G_drop hG nr hpl ⟨z, z'⟩)))
    refine ⟨pk_in r 49 hr, pk_le (19 * r + n) (19 * r + i) (fun z => absurd z (by omega)) (fun _ => ⟨pk_in (19 * r + i) 931 (by omega), ?_⟩) e7⟩
    refine pk_lt sp (P i) (fun z => ?_) (fun z => ?_) sh s8
    · refine br_t (c := (0 : Int32) = 0) rfl (br_t (c := (0 : Int32) = 0) rfl ?_)
      refine pk_eq pl 0 (fun e => ?_) (fun e => ?_)
      · subst e
        exact ⟨pk_in g 40 (by omega), nm_r (e' := upd b9 g (nI (64 * sp + sq))) (by rw [nI_clamp (by omega)]) (nm_r (nI_1 g) (key 1 (g + 1) _ (by omega) (fw_G_place hs h' (fun _ => z)) (by omega) (fun t => absurd t (by omega))))⟩
      · exact key pl g b9 (by omega) h' (by omega) (fun t => absurd t e)
    · refine br_f (c := (1 : Int32) = 0) (by decide) ⟨pk_in (19 * r + i) 931 (by omega), pk_lt sq (Q i) (fun z' => ?_) (fun z' => ?_) an n8⟩
      · exact br_f (c := (1 : Int32) = 0) (by decide) (key pl g b9 (by omega) h' (by omega) (fun _ => z))
      · refine H (nI g) a7 a8 b9 (fun _ _ => rfl) (fun _ _ => rfl) (fw_R_congr (V := V) (fun x y => ⟨fun t => ?_, fun t => Or.inl t⟩) ⟨n, P, Q, hL, h7, h8⟩)
        rcases t with t | t
        · exact t
        · exact (hL.2.2.2 x y).mpr ⟨i, hi, by omega, by omega⟩
end
section
/-! count: the marks that a token makes -/
/-- with the time w (16 * a + b) at its start and the up-set V of sums: the time (a, b) is made -/
def fw_hit (V : Nat → Nat → Prop) (w a b : Nat) : Prop := ∃ x y, fw_Min V x y ∧ w / 16 + x = a ∧ w % 16 + y = b
/-- b10 is a10 with d added at the places of T -/
def fw_C (a10 b10 : Nat → Int32) (d : Int32) (T : Nat → Nat → Nat → Prop) : Prop := ∀ m a b, m < 7 → a < 16 → b < 16 → (T m a b → b10 (256 * m + 16 * a + b) = a10 (256 * m + 16 * a + b) + d) ∧ (¬ T m a b → b10 (256 * m + 16 * a + b) = a10 (256 * m + 16 * a + b))
theorem fw_C_congr {a10 b10 : Nat → Int32} {d : Int32} {T T' : Nat → Nat → Nat → Prop} (e : ∀ m a b, m < 7 → a < 16 → b < 16 → (T' m a b ↔ T m a b)) (h : fw_C a10 b10 d T) : fw_C a10 b10 d T' := by
  intro m a b hm ha hb
  rw [e m a b hm ha hb]
  exact h m a b hm ha hb
theorem fw_C_0 {a10 : Nat → Int32} {d : Int32} {T : Nat → Nat → Nat → Prop} (e : ∀ m a b, ¬ T m a b) : fw_C a10 a10 d T := fun m a b _ _ _ => ⟨fun z => absurd z (e m a b), fun _ => rfl⟩
theorem fw_C_step {a10 s : Nat → Int32} {d : Int32} {T T' : Nat → Nat → Nat → Prop} {m0 a0 b0 : Nat} (hm : m0 < 7) (ha : a0 < 16) (hb : b0 < 16) (h : fw_C a10 s d T) (hn : ¬ T m0 a0 b0) (e : ∀ m a b, m < 7 → a < 16 → b < 16 → (T' m a b ↔ T m a b ∨ (m = m0 ∧ a = a0 ∧ b = b0))) : fw_C a10 (upd s (256 * m0 + 16 * a0 + b0) (s (256 * m0 + 16 * a0 + b0) + d)) d T' := by
  intro m a b hm' ha' hb'
  rw [e m a b hm' ha' hb']
  by_cases z : m = m0 ∧ a = a0 ∧ b = b0
  · obtain ⟨z1, z2, z3⟩ := z
    subst z1 z2 z3
    refine ⟨fun _ => ?_, fun t => absurd (Or.inr ⟨rfl, rfl, rfl⟩) t⟩
    rw [pk_us, (h m a b hm' ha' hb').2 hn]
  · have ne : 256 * m + 16 * a + b ≠ 256 * m0 + 16 * a0 + b0 := by omega
    rw [pk_un ne]
    refine ⟨fun t => (h m a b hm' ha' hb').1 ?_, fun t => (h m a b hm' ha' hb').2 (fun t' => t (Or.inl t'))⟩
    rcases t with t | t
    · exact t
    · exact absurd t z
theorem fw_exs {p : Nat → Prop} {i : Nat} : (∃ i', i' < i + 1 ∧ p i') ↔ (∃ i', i' < i ∧ p i') ∨ p i := by
  constructor
  · intro ⟨i', h1, h2⟩
    by_cases e : i' = i
    · subst e
      exact Or.inr h2
    · exact Or.inl ⟨i', by omega, h2⟩
  · intro h
    rcases h with ⟨i', h1, h2⟩ | h
    · exact ⟨i', by omega, h2⟩
    · exact ⟨i, by omega, h⟩
theorem fw_l7 (a b : Nat) : (7 : Int32) * nI a + nI b = nI (7 * a + b) := by
  show nI 7 * nI a + nI b = _
  rw [pk_mul, nI_add]
theorem fw_l19 (a b : Nat) : (19 : Int32) * nI a + nI b = nI (19 * a + b) := by
  show nI 19 * nI a + nI b = _
  rw [pk_mul, nI_add]
theorem fw_l16 (a b : Nat) : (16 : Int32) * nI a + nI b = nI (16 * a + b) := by
  show nI 16 * nI a + nI b = _
  rw [pk_mul, nI_add]
theorem fw_l64 (a b : Nat) : (64 : Int32) * nI a + nI b = nI (64 * a + b) := by
  show nI 64 * nI a + nI b = _
  rw [pk_mul, nI_add]
theorem fw_ix (m a b : Nat) : (256 : Int32) * nI m + 16 * nI a + nI b = nI (256 * m + 16 * a + b) := by
  show nI 256 * nI m + nI 16 * nI a + nI b = _
  rw [pk_mul, pk_mul, nI_add, nI_add]
theorem fw_t4 {w : Nat} (hw : w < 256) : nI w >>> ((4 : Int32) &&& 31) = nI (w / 16) := by
  rw [pk_shrN (by omega) _ 4 (by decide)]
theorem fw_t15 {w : Nat} (hw : w < 256) : nI w &&& 15 = nI (w % 16) := by
  rw [pk_andN (by omega) 4 (by decide)]
theorem fw_count {post : St1 → Prop} {f0 f1 f2 x y : Int32} {a1 a2 a3 a4 a5 a6 a7 a8 a9 a10 : Nat → Int32} {pl w : Nat} {d : Int32} {V : Nat → Nat → Nat → Prop} (hpl : pl < 7) (hw : w < 256) (hR : ∀ m, m < 7 → fw_R a7 a8 (7 * pl + m) (V m))
    (H : ∀ b10 : Nat → Int32, fw_C a10 b10 d (fun m a b => fw_hit (V m) w a b) → post (f0, f1, f2, a1, a2, a3, a4, a5, a6, a7, a8, a9, b10)) (hx : x = nI pl) (hy : y = nI w) :
    wpX_count post (f0, f1, f2, a1, a2, a3, a4, a5, a6, a7, a8, a9, a10) x y d := by
  subst hx hy
  unfold wpX_count
  refine pk_loop (fun n m s => wX_count_3 post (nI pl) (nI w) d f0 f1 f2 n (nI m) a1 a2 a3 a4 a5 a6 a7 a8 a9 s) (fun m s => fw_C a10 s d (fun m' a b => m' < m ∧ fw_hit (V m') w a b)) 7 0 a10 (by omega) (fw_C_0 (fun m a b z => absurd z.1 (by omega))) ?_ ?_
  · intro n s h
    exact pk_le 7 7 (fun _ => H s (fw_C_congr (fun m a b hm _ _ => ⟨fun z => ⟨hm, z⟩, fun z => z.2⟩) h)) (fun z => absurd z (by omega))
  · intro n m s hm h hw'
    obtain ⟨N, P, Q, hL, h7, h8⟩ := hR m hm
    have hN := hL.1
    have e7 : (19 : Int32) * nI (7 * pl + m) + a7 (nI (7 * pl + m)).toNatClampNeg = nI (19 * (7 * pl + m) + N) := by rw [nI_clamp (by omega), h7, fw_l19]
    refine pk_le 7 m (fun z => absurd z (by omega)) (fun _ => nm_r (fw_l7 pl m) (nm_r (pk_mul 19 (7 * pl + m)) ?_))
    refine pk_loop (fun k i t => wX_count_26 post (wX_count_3 post (nI pl) (nI w) d f0 f1 f2 n) (nI pl) (nI w) d (nI m) (nI (7 * pl + m)) f0 f1 f2 k (nI (19 * (7 * pl + m) + i)) a1 a2 a3 a4 a5 a6 a7 a8 a9 t) (fun i t => fw_C a10 t d (fun m' a b => (m' < m ∧ fw_hit (V m') w a b) ∨ (m' = m ∧ ∃ i', i' < i ∧ w / 16 + P i' = a ∧ w % 16 + Q i' = b))) N 0 s (by omega) ?_ ?_ ?_
    · refine fw_C_congr (fun m' a b _ _ _ => ⟨fun z => ?_, fun z => Or.inl z⟩) h
      rcases z with z | ⟨_, i', z, _⟩
      · exact z
      · exact absurd z (by omega)
    · intro k t ht
      refine ⟨pk_in (7 * pl + m) 49 (by omega), pk_le (19 * (7 * pl + m) + N) (19 * (7 * pl + m) + N) (fun _ => nm_r (nI_1 m) (hw' t (fw_C_congr (fun m' a b _ _ _ => ?_) ht))) (fun z => absurd z (by omega)) e7⟩
      constructor
      · intro ⟨z1, z2⟩
        by_cases e : m' = m
        · subst e
          obtain ⟨x, y, z3, z4, z5⟩ := z2
          obtain ⟨i', z6, z7, z8⟩ := (fw_L_min hL).mp z3
          exact Or.inr ⟨rfl, i', z6, by omega, by omega⟩
        · exact Or.inl ⟨by omega, z2⟩
      · intro z
        rcases z with ⟨z1, z2⟩ | ⟨z1, i', z2, z3, z4⟩
        · exact ⟨by omega, z2⟩
        · subst z1
          exact ⟨by omega, P i', Q i', (fw_L_min hL).mpr ⟨i', z2, rfl, rfl⟩, z3, z4⟩
    · intro k i t hi ht hk
      have hd := hL.2.1 i hi
      have e8 : a8 (nI (19 * (7 * pl + m) + i)).toNatClampNeg = nI (64 * P i + Q i) := by
        rw [nI_clamp (by omega)]
        exact h8 i hi
      have s8 : nI w >>> ((4 : Int32) &&& 31) + a8 (nI (19 * (7 * pl + m) + i)).toNatClampNeg >>> ((6 : Int32) &&& 31) = nI (w / 16 + P i) := by rw [e8, fw_sh (by omega) (by omega), fw_t4 hw, nI_add]
      have n8 : (nI w &&& 15) + (a8 (nI (19 * (7 * pl + m) + i)).toNatClampNeg &&& 63) = nI (w % 16 + Q i) := by rw [e8, fw_an (by omega) (by omega), fw_t15 hw, nI_add]
      have ne : ∀ i', i' < i → P i' ≠ P i := fun i' z => by
        have := (hL.2.2.1 i' i z hi).1
        omega
      have out : ¬ (w / 16 + P i < 16 ∧ w % 16 + Q i < 16) → fw_C a10 t d (fun m' a b => (m' < m ∧ fw_hit (V m') w a b) ∨ (m' = m ∧ ∃ i', i' < i + 1 ∧ w / 16 + P i' = a ∧ w % 16 + Q i' = b)) := by
        intro z
        refine fw_C_congr (fun m' a b _ ha hb => ?_) ht
        rw [fw_exs]
        constructor
        · intro q
          rcases q with q | ⟨q, q' | q'⟩
          · exact Or.inl q
          · exact Or.inr ⟨q, q'⟩
          · exact absurd ⟨by omega, by omega⟩ z
        · intro q
          rcases q with q | ⟨q, q'⟩
          · exact Or.inl q
          · exact Or.inr ⟨q, Or.inl q'⟩
      refine ⟨pk_in (7 * pl + m) 49 (by omega), pk_le (19 * (7 * pl + m) + N) (19 * (7 * pl + m) + i) (fun z => absurd z (by omega)) (fun _ => ⟨pk_in (19 * (7 * pl + m) + i) 931 (by omega), nm_r s8 ⟨pk_in (19 * (7 * pl + m) + i) 931 (by omega), nm_r n8 ?_⟩⟩) e7⟩
      refine pk_lt 15 (w / 16 + P i) (fun z => nm_r (nI_1 _) (hk t (out (by omega)))) (fun z => ?_)
      refine pk_lt 15 (w % 16 + Q i) (fun z' => nm_r (nI_1 _) (hk t (out (by omega)))) (fun z' => ?_)
      refine ⟨pk_in (256 * m + 16 * (w / 16 + P i) + (w % 16 + Q i)) 1792 (by omega) (fw_ix _ _ _), pk_in (256 * m + 16 * (w / 16 + P i) + (w % 16 + Q i)) 1792 (by omega) (fw_ix _ _ _), nm_r (e' := upd t (256 * m + 16 * (w / 16 + P i) + (w % 16 + Q i)) (t (256 * m + 16 * (w / 16 + P i) + (w % 16 + Q i)) + d)) (by rw [fw_ix, nI_clamp (by omega)]) (nm_r (nI_1 _) (hk _ (fw_C_step hm (by omega) (by omega) ht ?_ ?_)))⟩
      · intro q
        rcases q with q | ⟨_, i', q1, q2, q3⟩
        · exact absurd q.1 (by omega)
        · exact ne i' q1 (by omega)
      · intro m' a b _ _ _
        rw [fw_exs]
        constructor
        · intro q
          rcases q with q | ⟨q, q' | q'⟩
          · exact Or.inl (Or.inl q)
          · exact Or.inl (Or.inr ⟨q, q'⟩)
          · exact Or.inr ⟨q, by omega, by omega⟩
        · intro q
          rcases q with (q | ⟨q, q'⟩) | ⟨q1, q2, q3⟩
          · exact Or.inl q
          · exact Or.inr ⟨q, Or.inl q'⟩
          · exact Or.inr ⟨q1, Or.inr ⟨by omega, by omega⟩⟩
end
section
/-! joinOver -/
/-- what joinOver's loops keep: the rows but r stand, the row r holds V -/
def fw_K (a7 a8 : Nat → Int32) (r : Nat) (V : Nat → Nat → Prop) (b7 b8 : Nat → Int32) : Prop := (∀ k, k ≠ r → b7 k = a7 k) ∧ (∀ k, k < 19 * r ∨ 19 * r + 19 ≤ k → b8 k = a8 k) ∧ fw_R b7 b8 r V
theorem fw_K_congr {a7 a8 b7 b8 : Nat → Int32} {r : Nat} {V V' : Nat → Nat → Prop} (e : ∀ x y, V' x y ↔ V x y) (h : fw_K a7 a8 r V b7 b8) : fw_K a7 a8 r V' b7 b8 := ⟨h.1, h.2.1, fw_R_congr e h.2.2⟩
theorem fw_joinOver {E : Nat → Nat → Nat → Nat → Prop} (hE : ∀ i j p q, E i j p q → p ≤ 3 ∧ q ≤ 3) {post : St1 → Prop} {f0 f1 f2 x y : Int32} {a1 a2 a3 a4 a5 a6 a7 a8 a9 a10 : Nat → Int32} {i j k : Nat} (hi : i < 7) (hj : j < 7) (hk : k < 7)
    (hR1 : fw_R a7 a8 (7 * i + k) (fw_U E k i k)) (hR2 : fw_R a7 a8 (7 * k + j) (fw_U E k k j)) (hR : fw_R a7 a8 (7 * i + j) (fw_U E k i j))
    (H : ∀ (g : Int32) (b7 b8 b9 : Nat → Int32), fw_K a7 a8 (7 * i + j) (fw_U E (k + 1) i j) b7 b8 → post (f0, f1, g, a1, a2, a3, a4, a5, a6, b7, b8, b9, a10)) (hx : x = nI (7 * i + j)) (hy : y = nI k) :
    wpX_joinOver post (f0, f1, f2, a1, a2, a3, a4, a5, a6, a7, a8, a9, a10) x y := by
  subst hx hy
  have d7 : nI (7 * i + j) / 7 = nI i := by
    have t := pk_div (a := 7 * i + j) (d := 7) (by omega) (by omega) (by omega)
    rw [show (7 * i + j) / 7 = i by omega] at t
    exact t
  have r7 : nI (7 * i + j) - nI (7 * i + j) / 7 * 7 = nI j := by
    have t := pk_rem (a := 7 * i + j) (d := 7) (by omega) (by omega) (by omega)
    rw [show (7 * i + j) % 7 = j by omega] at t
    exact t
  have r8 : nI (7 * i + j) - nI (7 * i + j) / 8 * 8 = nI ((7 * i + j) % 8) := pk_rem (a := 7 * i + j) (d := 8) (by omega) (by omega) (by omega)
  have skip : (i = k ∨ j = k ∨ i = j) → post (f0, f1, f2, a1, a2, a3, a4, a5, a6, a7, a8, a9, a10) := fun z => H f2 a7 a8 a9 ⟨fun _ _ => rfl, fun _ _ => rfl, fw_R_congr (fun x y => fw_U_skip z) hR⟩
  unfold wpX_joinOver
  refine ⟨by decide, nm_r (e' := nI (7 * i + k)) (by rw [d7, fw_l7]) ⟨by decide, nm_r (e' := nI (7 * k + j)) (by rw [r7, fw_l7]) ⟨by decide, ?_⟩⟩⟩
  refine pk_eq i k (fun z => skip (Or.inl z)) (fun nik => ⟨by decide, ?_⟩) d7
  refine pk_eq j k (fun z => skip (Or.inr (Or.inl z))) (fun njk => ⟨by decide, ?_⟩) r7
  refine pk_eq ((7 * i + j) % 8) 0 (fun z => skip (Or.inr (Or.inr (by omega)))) (fun nij => ?_) r8
  have nij' : i ≠ j := by omega
  obtain ⟨n1, P1, Q1, hL1, h71, h81⟩ := hR1
  obtain ⟨n2, P2, Q2, hL2, h72, h82⟩ := hR2
  have hn1 := hL1.1
  have hn2 := hL2.1
  refine pk_loop (fun n e (s : Int32 × (Nat → Int32) × (Nat → Int32) × (Nat → Int32)) => wX_joinOver_48 post (nI (7 * i + j)) (nI (7 * i + k)) (nI (7 * k + j)) n (nI e) f0 f1 s.1 a1 a2 a3 a4 a5 a6 s.2.1 s.2.2.1 s.2.2.2 a10)
    (fun e s => fw_K a7 a8 (7 * i + j) (fun x y => fw_U E k i j x y ∨ ∃ u v, u < e ∧ v < n2 ∧ P1 u + P2 v ≤ x ∧ Q1 u + Q2 v ≤ y) s.2.1 s.2.2.1) n1 0 (f2, a7, a8, a9) (by omega) ?_ ?_ ?_
  · refine ⟨fun _ _ => rfl, fun _ _ => rfl, fw_R_congr (fun x y => ⟨fun z => ?_, fun z => Or.inl z⟩) hR⟩
    rcases z with z | ⟨u, v, z, _⟩
    · exact z
    · exact absurd z (by omega)
  · intro n s h
    obtain ⟨g, b7, b8, b9⟩ := s
    have h' : fw_K a7 a8 (7 * i + j) (fun x y => fw_U E k i j x y ∨ ∃ u v, u < n1 ∧ v < n2 ∧ P1 u + P2 v ≤ x ∧ Q1 u + Q2 v ≤ y) b7 b8 := h
    refine ⟨pk_in (7 * i + k) 49 (by omega), pk_le n1 n1 (fun _ => H g b7 b8 b9 (fw_K_congr (fun x y => ?_) h')) (fun z => absurd z (by omega)) (show b7 (nI (7 * i + k)).toNatClampNeg = nI n1 by rw [nI_clamp (by omega), h'.1 _ (by omega), h71])⟩
    constructor
    · intro z
      rcases z with z | ⟨x1, y1, x2, y2, z1, z2, z3, z4⟩
      · exact Or.inl z
      · obtain ⟨u, u1, u2, u3⟩ := (hL1.2.2.2 _ _).mp z1
        obtain ⟨v, v1, v2, v3⟩ := (hL2.2.2.2 _ _).mp z2
        exact Or.inr ⟨u, v, u1, v1, by omega, by omega⟩
    · intro z
      rcases z with z | ⟨u, v, z1, z2, z3, z4⟩
      · exact Or.inl z
      · exact Or.inr ⟨P1 u, Q1 u, P2 v, Q2 v, (hL1.2.2.2 _ _).mpr ⟨u, z1, Nat.le_refl _, Nat.le_refl _⟩, (hL2.2.2.2 _ _).mpr ⟨v, z2, Nat.le_refl _, Nat.le_refl _⟩, z3, z4⟩
  · intro n e s he h hw
    obtain ⟨g, b7, b8, b9⟩ := s
    have h' : fw_K a7 a8 (7 * i + j) (fun x y => fw_U E k i j x y ∨ ∃ u v, u < e ∧ v < n2 ∧ P1 u + P2 v ≤ x ∧ Q1 u + Q2 v ≤ y) b7 b8 := h
    have hde := hL1.2.1 e he
    refine ⟨pk_in (7 * i + k) 49 (by omega), pk_le n1 e (fun z => absurd z (by omega)) (fun _ => ?_) (show b7 (nI (7 * i + k)).toNatClampNeg = nI n1 by rw [nI_clamp (by omega), h'.1 _ (by omega), h71])⟩
    refine pk_loop (fun m c (s : Int32 × (Nat → Int32) × (Nat → Int32) × (Nat → Int32)) => wX_joinOver_62 post (wX_joinOver_48 post (nI (7 * i + j)) (nI (7 * i + k)) (nI (7 * k + j)) n) (nI (7 * i + j)) (nI (7 * i + k)) (nI (7 * k + j)) (nI e) m (nI c) f0 f1 s.1 a1 a2 a3 a4 a5 a6 s.2.1 s.2.2.1 s.2.2.2 a10)
      (fun c s => fw_K a7 a8 (7 * i + j) (fun x y => (fw_U E k i j x y ∨ ∃ u v, u < e ∧ v < n2 ∧ P1 u + P2 v ≤ x ∧ Q1 u + Q2 v ≤ y) ∨ ∃ v, v < c ∧ P1 e + P2 v ≤ x ∧ Q1 e + Q2 v ≤ y) s.2.1 s.2.2.1) n2 0 (g, b7, b8, b9) (by omega) ?_ ?_ ?_
    · refine fw_K_congr (fun x y => ⟨fun z => ?_, fun z => Or.inl z⟩) h'
      rcases z with z | ⟨v, z, _⟩
      · exact z
      · exact absurd z (by omega)
    · intro m s h2
      obtain ⟨g2, c7, c8, c9⟩ := s
      have h2' : fw_K a7 a8 (7 * i + j) (fun x y => (fw_U E k i j x y ∨ ∃ u v, u < e ∧ v < n2 ∧ P1 u + P2 v ≤ x ∧ Q1 u + Q2 v ≤ y) ∨ ∃ v, v < n2 ∧ P1 e + P2 v ≤ x ∧ Q1 e + Q2 v ≤ y) c7 c8 := h2
      refine ⟨pk_in (7 * k + j) 49 (by omega), pk_le n2 n2 (fun _ => nm_r (nI_1 e) (hw (g2, c7, c8, c9) (fw_K_congr (fun x y => ?_) h2'))) (fun z => absurd z (by omega)) (show c7 (nI (7 * k + j)).toNatClampNeg = nI n2 by rw [nI_clamp (by omega), h2'.1 _ (by omega), h72])⟩
      constructor
      · intro z
        rcases z with z | ⟨u, v, z1, z2⟩
        · exact Or.inl (Or.inl z)
        · by_cases q : u = e
          · subst q
            exact Or.inr ⟨v, z2⟩
          · exact Or.inl (Or.inr ⟨u, v, by omega, z2⟩)
      · intro z
        rcases z with (z | ⟨u, v, z1, z2⟩) | ⟨v, z2⟩
        · exact Or.inl z
        · exact Or.inr ⟨u, v, by omega, z2⟩
        · exact Or.inr ⟨e, v, by omega, z2⟩
    · intro m c s hc h2 hw2
      obtain ⟨g2, c7, c8, c9⟩ := s
      have h2' : fw_K a7 a8 (7 * i + j) (fun x y => (fw_U E k i j x y ∨ ∃ u v, u < e ∧ v < n2 ∧ P1 u + P2 v ≤ x ∧ Q1 u + Q2 v ≤ y) ∨ ∃ v, v < c ∧ P1 e + P2 v ≤ x ∧ Q1 e + Q2 v ≤ y) c7 c8 := h2
      have hdc := hL2.2.1 c hc
      have m1 : fw_Min (fw_U E k i k) (P1 e) (Q1 e) := (fw_L_min hL1).mpr ⟨e, he, rfl, rfl⟩
      have m2 : fw_Min (fw_U E k k j) (P2 c) (Q2 c) := (fw_L_min hL2).mpr ⟨c, hc, rfl, rfl⟩
      have hb := fw_join hE hk hi hj nik njk nij' m1 m2
      have e1 : c8 ((19 : Int32) * nI (7 * i + k) + nI e).toNatClampNeg = nI (64 * P1 e + Q1 e) := by
        rw [fw_l19, nI_clamp (by omega), h2'.2.1 _ (by omega)]
        exact h81 e he
      have e2 : c8 ((19 : Int32) * nI (7 * k + j) + nI c).toNatClampNeg = nI (64 * P2 c + Q2 c) := by
        rw [fw_l19, nI_clamp (by omega), h2'.2.1 _ (by omega)]
        exact h82 c hc
      refine ⟨pk_in (7 * k + j) 49 (by omega), pk_le n2 c (fun z => absurd z (by omega)) (fun _ => ⟨pk_in (19 * (7 * i + k) + e) 931 (by omega) (fw_l19 _ _), pk_in (19 * (7 * k + j) + c) 931 (by omega) (fw_l19 _ _), ?_⟩) (show c7 (nI (7 * k + j)).toNatClampNeg = nI n2 by rw [nI_clamp (by omega), h2'.1 _ (by omega), h72])⟩
      refine fw_addSum (r := 7 * i + j) (sp := P1 e + P2 c) (sq := Q1 e + Q2 c) (by omega) h2'.2.2 (by omega) (by omega) ?_ (fun g3 d7 d8 d9 k1 k2 k3 => nm_r (nI_1 c) (hw2 (g3, d7, d8, d9) ⟨fun r hr => (k1 r hr).trans (h2'.1 r hr), fun q hq => (k2 q hq).trans (h2'.2.1 q hq), fw_R_congr (fun x y => ?_) k3⟩)) rfl (show c8 ((19 : Int32) * nI (7 * i + k) + nI e).toNatClampNeg + c8 ((19 : Int32) * nI (7 * k + j) + nI c).toNatClampNeg = _ by rw [e1, e2, nI_add, show 64 * P1 e + Q1 e + (64 * P2 c + Q2 c) = 64 * (P1 e + P2 c) + (Q1 e + Q2 c) by omega])
      · rcases hb with z | z
        · exact Or.inl (Or.inl (Or.inl z))
        · exact Or.inr z
      · exact (or_congr Iff.rfl (fw_exs (p := fun v => P1 e + P2 v ≤ x ∧ Q1 e + Q2 v ≤ y))).trans or_assoc.symm
end
section
/-! the picture of a state: lines, tokens, rows, marks -/
/-- one of the first l lines goes from i to j and adds (p, q) -/
def fw_E (a1 a2 a3 a4 : Nat → Int32) (l i j p q : Nat) : Prop := ∃ t, t < l ∧ i < 7 ∧ j < 7 ∧ p < 4 ∧ q < 4 ∧ a1 t = nI i ∧ a2 t = nI j ∧ a3 t = nI p ∧ a4 t = nI q
def fw_Ln (a1 a2 a3 a4 : Nat → Int32) (l : Nat) : Prop := ∀ t, t < l → ∃ i j p q, i < 7 ∧ j < 7 ∧ p < 4 ∧ q < 4 ∧ a1 t = nI i ∧ a2 t = nI j ∧ a3 t = nI p ∧ a4 t = nI q
def fw_Tk (a5 a6 : Nat → Int32) (t : Nat) : Prop := ∀ k, k < t → ∃ i w, i < 7 ∧ w < 256 ∧ a5 k = nI i ∧ a6 k = nI w
noncomputable def fw_i (p : Prop) : Nat := @ite Nat p (Classical.propDecidable p) 1 0
theorem fw_i1 {p : Prop} (h : p) : fw_i p = 1 := by
  unfold fw_i
  exact if_pos h
theorem fw_i0 {p : Prop} (h : ¬ p) : fw_i p = 0 := by
  unfold fw_i
  exact if_neg h
/-- whether a token (place x, time y) makes the time (a, b) at m -/
noncomputable def fw_c (U : Nat → Nat → Nat → Nat → Prop) (m a b : Nat) : Int32 → Int32 → Nat := fun x y => fw_i (fw_hit (U x.toNatClampNeg m) y.toNatClampNeg a b)
theorem fw_cE {U : Nat → Nat → Nat → Nat → Prop} {m a b pl w : Nat} (hp : pl < 7) (hw : w < 256) : fw_c U m a b (nI pl) (nI w) = fw_i (fw_hit (U pl m) w a b) := by
  unfold fw_c
  rw [nI_clamp (by omega), nI_clamp (by omega)]
/-- the sum of f over the first tokens -/
def fw_S (f : Int32 → Int32 → Nat) (a5 a6 : Nat → Int32) : Nat → Nat
  | 0 => 0
  | n + 1 => fw_S f a5 a6 n + f (a5 n) (a6 n)
def fw_M (U : Nat → Nat → Nat → Nat → Prop) (a5 a6 : Nat → Int32) (t : Nat) (a10 : Nat → Int32) : Prop := ∀ m a b, m < 7 → a < 16 → b < 16 → a10 (256 * m + 16 * a + b) = nI (fw_S (fw_c U m a b) a5 a6 t)
def fw_Rs (E : Nat → Nat → Nat → Nat → Prop) (k : Nat) (a7 a8 : Nat → Int32) : Prop := ∀ i j, i < 7 → j < 7 → fw_R a7 a8 (7 * i + j) (fw_U E k i j)
def fw_I (l t : Nat) (a1 a2 a3 a4 a5 a6 a7 a8 a10 : Nat → Int32) : Prop := l ≤ 12 ∧ t ≤ 20 ∧ fw_Ln a1 a2 a3 a4 l ∧ fw_Tk a5 a6 t ∧ fw_Rs (fw_E a1 a2 a3 a4 l) 7 a7 a8 ∧ fw_M (fw_U (fw_E a1 a2 a3 a4 l) 7) a5 a6 t a10
theorem fw_E3 {a1 a2 a3 a4 : Nat → Int32} {l : Nat} : ∀ i j p q, fw_E a1 a2 a3 a4 l i j p q → p ≤ 3 ∧ q ≤ 3 := by
  intro i j p q ⟨t, h0, h1, h2, h3, h4, _⟩
  omega
theorem fw_M_add {U : Nat → Nat → Nat → Nat → Prop} {a5 a6 s s' : Nat → Int32} {k pl w : Nat} (hp : pl < 7) (hw : w < 256) (h5 : a5 k = nI pl) (h6 : a6 k = nI w) (h : fw_M U a5 a6 k s) (hC : fw_C s s' 1 (fun m a b => fw_hit (U pl m) w a b)) : fw_M U a5 a6 (k + 1) s' := by
  intro m a b hm ha hb
  show _ = nI (fw_S (fw_c U m a b) a5 a6 k + fw_c U m a b (a5 k) (a6 k))
  rw [h5, h6, fw_cE hp hw]
  by_cases z : fw_hit (U pl m) w a b
  · rw [(hC m a b hm ha hb).1 z, h m a b hm ha hb, fw_i1 z, nI_1]
  · rw [(hC m a b hm ha hb).2 z, h m a b hm ha hb, fw_i0 z, Nat.add_zero]
/-! rebuild -/
theorem fw_rb167 {post : St1 → Prop} {f0 f2 : Int32} {a1 a2 a3 a4 a5 a6 a7 a8 a9 a10 : Nat → Int32} {t : Nat} {U : Nat → Nat → Nat → Nat → Prop} (ht : t ≤ 20) (htk : fw_Tk a5 a6 t) (hR : ∀ i j, i < 7 → j < 7 → fw_R a7 a8 (7 * i + j) (U i j)) (hz : ∀ k, k < 1792 → a10 k = 0)
    (H : ∀ b10 : Nat → Int32, fw_M U a5 a6 t b10 → post (f0, nI t, f2, a1, a2, a3, a4, a5, a6, a7, a8, a9, b10)) :
    ∃ n, wX_rebuild_167 post n 0 f0 (nI t) f2 a1 a2 a3 a4 a5 a6 a7 a8 a9 a10 := by
  refine pk_loop (fun n k s => wX_rebuild_167 post n (nI k) f0 (nI t) f2 a1 a2 a3 a4 a5 a6 a7 a8 a9 s) (fun k s => fw_M U a5 a6 k s) t 0 a10 (by omega) (fun m a b hm ha hb => hz _ (by omega)) ?_ ?_
  · intro n s h
    exact pk_le t t (fun _ => H s h) (fun z => absurd z (by omega))
  · intro n k s hk h hw
    obtain ⟨pl, w, hp, hw', h5, h6⟩ := htk k hk
    refine pk_le t k (fun z => absurd z (by omega)) (fun _ => ⟨pk_in k 20 (by omega), pk_in k 20 (by omega), ?_⟩)
    exact fw_count (pl := pl) (w := w) (V := fun m => U pl m) hp hw' (fun m hm => hR pl m hp hm) (fun b10 hC => nm_r (nI_1 k) (hw b10 (fw_M_add hp hw' h5 h6 h hC))) (by rw [nI_clamp (by omega)]; exact h5) (by rw [nI_clamp (by omega)]; exact h6)
theorem fw_rb145 {post : St1 → Prop} {f0 f1 f2 : Int32} {a1 a2 a3 a4 a5 a6 a7 a8 a9 a10 : Nat → Int32}
    (H : ∀ b10 : Nat → Int32, (∀ k, k < 1792 → b10 k = 0) → ∃ n, wX_rebuild_167 post n 0 f0 f1 f2 a1 a2 a3 a4 a5 a6 a7 a8 a9 b10) :
    ∃ n, wX_rebuild_145 post f0 f1 f2 n 0 a1 a2 a3 a4 a5 a6 a7 a8 a9 a10 := by
  refine pk_loop (fun n k s => wX_rebuild_145 post f0 f1 f2 n (nI k) a1 a2 a3 a4 a5 a6 a7 a8 a9 s) (fun k s => ∀ q, q < k → s q = 0) 1792 0 a10 (by omega) (fun q hq => absurd hq (by omega)) ?_ ?_
  · intro n s h
    exact pk_le 1792 1792 (fun _ => H s h) (fun z => absurd z (by omega))
  · intro n k s hk h hw
    refine pk_le 1792 k (fun z => absurd z (by omega)) (fun _ => ⟨pk_in k 1792 hk, nm_r (e' := upd s k 0) (by rw [nI_clamp (by omega)]) (nm_r (nI_1 k) (hw _ (fun q hq => ?_)))⟩)
    by_cases e : q = k
    · subst e
      exact pk_us
    · rw [pk_un e]
      exact h q (by omega)
theorem fw_row {a7 a8 b7 b8 : Nat → Int32} {i j i0 j0 : Nat} {V W : Nat → Nat → Prop} (hj : j < 7) (hj0 : j0 < 7) (hK : fw_K a7 a8 (7 * i0 + j0) W b7 b8) (ne : 7 * i + j ≠ 7 * i0 + j0) (h : fw_R a7 a8 (7 * i + j) V) : fw_R b7 b8 (7 * i + j) V :=
  fw_R_frame (hK.1 _ ne) (fun k h1 h2 => hK.2.1 k (by omega)) h
theorem fw_rb111 {E : Nat → Nat → Nat → Nat → Prop} (hE : ∀ i j p q, E i j p q → p ≤ 3 ∧ q ≤ 3) {post : St1 → Prop} {f0 f1 f2 : Int32} {a1 a2 a3 a4 a5 a6 a7 a8 a9 a10 : Nat → Int32} (hR : fw_Rs E 0 a7 a8)
    (H : ∀ (g : Int32) (b7 b8 b9 : Nat → Int32), fw_Rs E 7 b7 b8 → ∃ n, wX_rebuild_145 post f0 f1 g n 0 a1 a2 a3 a4 a5 a6 b7 b8 b9 a10) :
    ∃ n, wX_rebuild_111 post n 0 f0 f1 f2 a1 a2 a3 a4 a5 a6 a7 a8 a9 a10 := by
  refine pk_loop (fun n k (s : Int32 × (Nat → Int32) × (Nat → Int32) × (Nat → Int32)) => wX_rebuild_111 post n (nI k) f0 f1 s.1 a1 a2 a3 a4 a5 a6 s.2.1 s.2.2.1 s.2.2.2 a10) (fun k s => fw_Rs E k s.2.1 s.2.2.1) 7 0 (f2, a7, a8, a9) (by omega) hR ?_ ?_
  · intro n s h
    obtain ⟨g, b7, b8, b9⟩ := s
    exact pk_le 7 7 (fun _ => H g b7 b8 b9 h) (fun z => absurd z (by omega))
  · intro n k s hk h hw
    obtain ⟨g, b7, b8, b9⟩ := s
    have h' : fw_Rs E k b7 b8 := h
    refine pk_le 7 k (fun z => absurd z (by omega)) (fun _ => ?_)
    refine pk_loop (fun m r (s : Int32 × (Nat → Int32) × (Nat → Int32) × (Nat → Int32)) => wX_rebuild_119 post (wX_rebuild_111 post n) (nI k) m (nI r) f0 f1 s.1 a1 a2 a3 a4 a5 a6 s.2.1 s.2.2.1 s.2.2.2 a10) (fun r s => ∀ i j, i < 7 → j < 7 → (7 * i + j < r → fw_R s.2.1 s.2.2.1 (7 * i + j) (fw_U E (k + 1) i j)) ∧ (r ≤ 7 * i + j → fw_R s.2.1 s.2.2.1 (7 * i + j) (fw_U E k i j))) 49 0 (g, b7, b8, b9) (by omega) (fun i j hi hj => ⟨fun z => absurd z (by omega), fun _ => h' i j hi hj⟩) ?_ ?_
    · intro m s h2
      obtain ⟨g2, c7, c8, c9⟩ := s
      have h2' : ∀ i j, i < 7 → j < 7 → (7 * i + j < 49 → fw_R c7 c8 (7 * i + j) (fw_U E (k + 1) i j)) ∧ (49 ≤ 7 * i + j → fw_R c7 c8 (7 * i + j) (fw_U E k i j)) := h2
      exact pk_le 49 49 (fun _ => nm_r (nI_1 k) (hw (g2, c7, c8, c9) (fun i j hi hj => (h2' i j hi hj).1 (by omega)))) (fun z => absurd z (by omega))
    · intro m r s hr h2 hw2
      obtain ⟨g2, c7, c8, c9⟩ := s
      have h2' : ∀ i j, i < 7 → j < 7 → (7 * i + j < r → fw_R c7 c8 (7 * i + j) (fw_U E (k + 1) i j)) ∧ (r ≤ 7 * i + j → fw_R c7 c8 (7 * i + j) (fw_U E k i j)) := h2
      have hs : ∀ i j, i < 7 → j < 7 → (i = k ∨ j = k) → fw_R c7 c8 (7 * i + j) (fw_U E k i j) := by
        intro i j hi hj z
        by_cases q : 7 * i + j < r
        · exact fw_R_congr (fun x y => (fw_U_skip (by omega)).symm) ((h2' i j hi hj).1 q)
        · exact (h2' i j hi hj).2 (by omega)
      obtain ⟨i0, j0, hi0, hj0, er⟩ : ∃ i0 j0, i0 < 7 ∧ j0 < 7 ∧ r = 7 * i0 + j0 := ⟨r / 7, r % 7, by omega, by omega, by omega⟩
      refine pk_le 49 r (fun z => absurd z (by omega)) (fun _ => ?_)
      refine fw_joinOver hE hi0 hj0 hk (hs i0 k hi0 hk (Or.inr rfl)) (hs k j0 hk hj0 (Or.inl rfl)) ((h2' i0 j0 hi0 hj0).2 (by omega)) (fun g3 d7 d8 d9 hK => nm_r (nI_1 r) (hw2 (g3, d7, d8, d9) (fun i j hi hj => ⟨fun z => ?_, fun z => ?_⟩))) (by rw [er]) rfl
      · by_cases q : 7 * i + j = 7 * i0 + j0
        · have q1 : i = i0 := by omega
          have q2 : j = j0 := by omega
          subst q1 q2
          exact hK.2.2
        · exact fw_row hj hj0 hK q ((h2' i j hi hj).1 (by omega))
      · exact fw_row hj hj0 hK (by omega) ((h2' i j hi hj).2 (by omega))
theorem fw_nE {a b : Nat} (ha : a < 7) (hb : b < 7) (h : nI a = nI b) : a = b := (nI_eq (by omega) (by omega)).mp h
theorem fw_E_s {a1 a2 a3 a4 : Nat → Int32} {t i0 j0 p0 q0 : Nat} (hi : i0 < 7) (hj : j0 < 7) (hp : p0 < 4) (hq : q0 < 4) (e1 : a1 t = nI i0) (e2 : a2 t = nI j0) (e3 : a3 t = nI p0) (e4 : a4 t = nI q0) (i j p q : Nat) : fw_E a1 a2 a3 a4 (t + 1) i j p q ↔ fw_E a1 a2 a3 a4 t i j p q ∨ (i = i0 ∧ j = j0 ∧ p = p0 ∧ q = q0) := by
  constructor
  · intro ⟨t', h0, h1, h2, h3, h4, h5, h6, h7, h8⟩
    by_cases e : t' = t
    · subst e
      exact Or.inr ⟨fw_nE h1 hi (h5.symm.trans e1), fw_nE h2 hj (h6.symm.trans e2), fw_nE (by omega) (by omega) (h7.symm.trans e3), fw_nE (by omega) (by omega) (h8.symm.trans e4)⟩
    · exact Or.inl ⟨t', by omega, h1, h2, h3, h4, h5, h6, h7, h8⟩
  · intro h
    rcases h with ⟨t', h0, h1⟩ | ⟨z1, z2, z3, z4⟩
    · exact ⟨t', by omega, h1⟩
    · subst z1 z2 z3 z4
      exact ⟨t, by omega, hi, hj, hp, hq, e1, e2, e3, e4⟩
theorem fw_rb44 {post : St1 → Prop} {f1 f2 : Int32} {a1 a2 a3 a4 a5 a6 a7 a8 a9 a10 : Nat → Int32} {l : Nat} (hl : l ≤ 12) (hln : fw_Ln a1 a2 a3 a4 l) (hR : fw_Rs (fw_E a1 a2 a3 a4 0) 0 a7 a8)
    (H : ∀ (g : Int32) (b7 b8 b9 : Nat → Int32), fw_Rs (fw_E a1 a2 a3 a4 l) 0 b7 b8 → ∃ n, wX_rebuild_111 post n 0 (nI l) f1 g a1 a2 a3 a4 a5 a6 b7 b8 b9 a10) :
    ∃ n, wX_rebuild_44 post n 0 (nI l) f1 f2 a1 a2 a3 a4 a5 a6 a7 a8 a9 a10 := by
  refine pk_loop (fun n k (s : Int32 × (Nat → Int32) × (Nat → Int32) × (Nat → Int32)) => wX_rebuild_44 post n (nI k) (nI l) f1 s.1 a1 a2 a3 a4 a5 a6 s.2.1 s.2.2.1 s.2.2.2 a10) (fun k s => fw_Rs (fw_E a1 a2 a3 a4 k) 0 s.2.1 s.2.2.1) l 0 (f2, a7, a8, a9) (by omega) hR ?_ ?_
  · intro n s h
    obtain ⟨g, b7, b8, b9⟩ := s
    exact pk_le l l (fun _ => H g b7 b8 b9 h) (fun z => absurd z (by omega))
  · intro n k s hk h hw
    obtain ⟨g, b7, b8, b9⟩ := s
    have h' : fw_Rs (fw_E a1 a2 a3 a4 k) 0 b7 b8 := h
    obtain ⟨i0, j0, p0, q0, hi, hj, hp, hq, e1, e2, e3, e4⟩ := hln k hk
    have es := fw_E_s hi hj hp hq e1 e2 e3 e4
    have c1 : a1 (nI k).toNatClampNeg = nI i0 := by rw [nI_clamp (by omega), e1]
    have c2 : a2 (nI k).toNatClampNeg = nI j0 := by rw [nI_clamp (by omega), e2]
    have c3 : a3 (nI k).toNatClampNeg = nI p0 := by rw [nI_clamp (by omega), e3]
    have c4 : a4 (nI k).toNatClampNeg = nI q0 := by rw [nI_clamp (by omega), e4]
    have old : ∀ i j, (i ≠ i0 ∨ j ≠ j0 ∨ i = j) → ∀ x y, fw_U (fw_E a1 a2 a3 a4 (k + 1)) 0 i j x y ↔ fw_U (fw_E a1 a2 a3 a4 k) 0 i j x y := by
      intro i j z x y
      constructor
      · intro q
        rcases q with q | ⟨p', q', q1, q2, q3⟩
        · exact Or.inl q
        · rcases (es i j p' q').mp q1 with t | t
          · exact Or.inr ⟨p', q', t, q2, q3⟩
          · exact Or.inl (by omega)
      · exact fw_U_mono (fun i j p q z => (es i j p q).mpr (Or.inl z)) 0
    refine pk_le l k (fun z => absurd z (by omega)) (fun _ => ⟨pk_in k 12 (by omega), pk_in k 12 (by omega), ?_⟩)
    refine pk_eq i0 j0 (fun z => nm_r (nI_1 k) (hw (g, b7, b8, b9) (fun i j hi hj => fw_R_congr (old i j (by omega)) (h' i j hi hj)))) (fun z => ?_) c1 c2
    refine ⟨pk_in k 12 (by omega), pk_in k 12 (by omega), pk_in k 12 (by omega), pk_in k 12 (by omega), ?_⟩
    refine fw_addSum (r := 7 * i0 + j0) (sp := p0) (sq := q0) (by omega) (h' i0 j0 hi hj) (by omega) (by omega) (Or.inr (by omega)) (fun g3 d7 d8 d9 k1 k2 k3 => nm_r (nI_1 k) (hw (g3, d7, d8, d9) (fun i j hi' hj' => ?_))) (by rw [c1, c2, fw_l7]) (by rw [c3, c4, fw_l64])
    by_cases q : i = i0 ∧ j = j0
    · obtain ⟨q1, q2⟩ := q
      subst q1 q2
      refine fw_R_congr (fun x y => ⟨fun t => ?_, fun t => ?_⟩) k3
      · rcases t with t | ⟨p', q', t1, t2, t3⟩
        · exact absurd t z
        · rcases (es i j p' q').mp t1 with t | t
          · exact Or.inl (Or.inr ⟨p', q', t, t2, t3⟩)
          · exact Or.inr (by omega)
      · rcases t with t | t
        · exact fw_U_mono (fun i j p q z => (es i j p q).mpr (Or.inl z)) 0 t
        · exact Or.inr ⟨p0, q0, (es i j p0 q0).mpr (Or.inr ⟨rfl, rfl, rfl, rfl⟩), t⟩
    · exact fw_R_congr (old i j (by omega)) (fw_row hj' hj ⟨k1, k2, k3⟩ (by omega) (h' i j hi' hj'))
theorem fw_rebuild {post : St1 → Prop} {f2 : Int32} {a1 a2 a3 a4 a5 a6 a7 a8 a9 a10 : Nat → Int32} {l t : Nat} (hl : l ≤ 12) (ht : t ≤ 20) (hln : fw_Ln a1 a2 a3 a4 l) (htk : fw_Tk a5 a6 t)
    (H : ∀ (g : Int32) (b7 b8 b9 b10 : Nat → Int32), fw_I l t a1 a2 a3 a4 a5 a6 b7 b8 b10 → post (nI l, nI t, g, a1, a2, a3, a4, a5, a6, b7, b8, b9, b10)) :
    wpX_rebuild post (nI l, nI t, f2, a1, a2, a3, a4, a5, a6, a7, a8, a9, a10) := by
  unfold wpX_rebuild
  have done : ∀ b7 b8 : Nat → Int32, (∀ r, r < 49 → b7 r = nI (if r % 8 = 0 then 1 else 0) ∧ b8 (19 * r) = nI 0) → ∃ n, wX_rebuild_44 post n 0 (nI l) (nI t) f2 a1 a2 a3 a4 a5 a6 b7 b8 a9 a10 := by
    intro b7 b8 hb
    refine fw_rb44 hl hln (fun i j hi hj => ?_) (fun g c7 c8 c9 hR => fw_rb111 fw_E3 hR (fun g d7 d8 d9 hR7 => fw_rb145 (fun b10 hz => fw_rb167 ht htk hR7 hz (fun c10 hM => H g d7 d8 d9 c10 ⟨hl, ht, hln, htk, hR7, hM⟩))))
    obtain ⟨z1, z2⟩ := hb (7 * i + j) (by omega)
    by_cases e : i = j
    · rw [if_pos (by omega)] at z1
      refine ⟨1, fun _ => 0, fun _ => 0, ⟨by omega, fun _ _ => ⟨Nat.zero_le _, Nat.zero_le _⟩, fun u v h1 h2 => absurd h1 (by omega), fun x y => ⟨fun _ => ⟨0, by omega, Nat.zero_le _, Nat.zero_le _⟩, fun _ => Or.inl e⟩⟩, z1, fun u hu => ?_⟩
      have : u = 0 := by omega
      subst this
      exact z2
    · rw [if_neg (by omega)] at z1
      refine ⟨0, fun _ => 0, fun _ => 0, ⟨by omega, fun _ h => absurd h (by omega), fun u v h1 h2 => absurd h2 (by omega), fun x y => ⟨fun z => ?_, fun ⟨u, hu, _⟩ => absurd hu (by omega)⟩⟩, z1, fun u hu => absurd hu (by omega)⟩
      rcases z with z | ⟨p, q, ⟨u, hu, _⟩, _⟩
      · exact absurd z e
      · exact absurd hu (by omega)
  refine pk_loop (fun n r (s : (Nat → Int32) × (Nat → Int32)) => wX_rebuild_2 post (nI l) (nI t) f2 n (nI r) a1 a2 a3 a4 a5 a6 s.1 s.2 a9 a10) (fun r s => ∀ q, q < r → s.1 q = nI (if q % 8 = 0 then 1 else 0) ∧ s.2 (19 * q) = nI 0) 49 0 (a7, a8) (by omega) (fun q hq => absurd hq (by omega)) ?_ ?_
  · intro n s h
    obtain ⟨b7, b8⟩ := s
    exact pk_le 49 49 (fun _ => done b7 b8 h) (fun z => absurd z (by omega))
  · intro n r s hr h hw
    obtain ⟨b7, b8⟩ := s
    have h' : ∀ q, q < r → b7 q = nI (if q % 8 = 0 then 1 else 0) ∧ b8 (19 * q) = nI 0 := h
    have r8 : nI r - nI r / 8 * 8 = nI (r % 8) := pk_rem (a := r) (d := 8) (by omega) (by omega) (by omega)
    have go : ∀ v : Nat, v = (if r % 8 = 0 then 1 else 0) → wX_rebuild_25 post (wX_rebuild_2 post (nI l) (nI t) f2 n) (nI r) (nI v) (nI r) (nI l) (nI t) f2 a1 a2 a3 a4 a5 a6 b7 b8 a9 a10 := by
      intro v hv
      refine ⟨pk_in r 49 hr, nm_r (e' := upd b7 r (nI v)) (by rw [nI_clamp (by omega)]) ⟨pk_in (19 * r) 931 (by omega) (pk_mul 19 r), nm_r (e' := upd b8 (19 * r) (nI 0)) (by rw [show (19 : Int32) * nI r = nI (19 * r) from pk_mul 19 r, nI_clamp (by omega)]; rfl) (nm_r (nI_1 r) (hw (upd b7 r (nI v), upd b8 (19 * r) (nI 0)) (fun q hq => ?_)))⟩⟩
      show upd b7 r (nI v) q = _ ∧ upd b8 (19 * r) (nI 0) (19 * q) = _
      by_cases e : q = r
      · subst e
        rw [pk_us, pk_us, hv]
        exact ⟨rfl, rfl⟩
      · rw [pk_un e, pk_un (by omega)]
        exact h' q (by omega)
    refine pk_le 49 r (fun z => absurd z (by omega)) (fun _ => ⟨by decide, ?_⟩)
    exact pk_eq (r % 8) 0 (fun z => go 1 (by rw [if_pos z])) (fun z => go 0 (by rw [if_neg z])) r8
end
section
/-! state: a number made of the marks that are above 0 -/
def fw_g (a10 : Nat → Int32) (m a b : Nat) : Bool := decide (m < 7) && decide (a < 16) && decide (b < 16) && !decide (a10 (256 * m + 16 * a + b) ≤ 0)
theorem fw_gT {a10 : Nat → Int32} {m a b : Nat} (hm : m < 7) (ha : a < 16) (hb : b < 16) (h : fw_g a10 m a b = true) : ¬ a10 (256 * m + 16 * a + b) ≤ 0 := by
  intro z
  unfold fw_g at h
  rw [decide_eq_true z] at h
  simp at h
theorem fw_gF {a10 : Nat → Int32} {m a b : Nat} (hm : m < 7) (ha : a < 16) (hb : b < 16) (h : fw_g a10 m a b = false) : a10 (256 * m + 16 * a + b) ≤ 0 := by
  by_cases z : a10 (256 * m + 16 * a + b) ≤ 0
  · exact z
  · unfold fw_g at h
    rw [decide_eq_true hm, decide_eq_true ha, decide_eq_true hb, decide_eq_false z] at h
    simp at h
theorem fw_gI {a10 : Nat → Int32} {m a b : Nat} (hm : m < 7) (ha : a < 16) (hb : b < 16) (z : ¬ a10 (256 * m + 16 * a + b) ≤ 0) : fw_g a10 m a b = true := by
  unfold fw_g
  rw [decide_eq_true hm, decide_eq_true ha, decide_eq_true hb, decide_eq_false z]
  rfl
theorem fw_g_congr {a10 b10 : Nat → Int32} (h : ∀ m a b, m < 7 → a < 16 → b < 16 → a10 (256 * m + 16 * a + b) = b10 (256 * m + 16 * a + b)) : fw_g a10 = fw_g b10 := by
  funext m a b
  unfold fw_g
  by_cases hm : m < 7
  · by_cases ha : a < 16
    · by_cases hb : b < 16
      · rw [h m a b hm ha hb]
      · rw [decide_eq_false hb]
        simp
    · rw [decide_eq_false ha]
      simp
  · rw [decide_eq_false hm]
    simp
def fw_fm (g : Nat → Bool) : Nat → Nat
  | 0 => 0
  | n + 1 => if fw_fm g n < n then fw_fm g n else if g n = true then n else n + 1
theorem fw_fm_spec (g : Nat → Bool) (n : Nat) : fw_fm g n ≤ n ∧ (∀ b, b < fw_fm g n → g b = false) ∧ (fw_fm g n < n → g (fw_fm g n) = true) := by
  induction n with
  | zero => exact ⟨Nat.le_refl _, fun b h => absurd h (by show ¬ b < 0; omega), fun h => absurd h (by show ¬ 0 < 0; omega)⟩
  | succ n ih =>
    obtain ⟨h1, h2, h3⟩ := ih
    by_cases z : fw_fm g n < n
    · have e : fw_fm g (n + 1) = fw_fm g n := if_pos z
      rw [e]
      exact ⟨by omega, h2, fun _ => h3 z⟩
    · have en : fw_fm g n = n := by omega
      rw [en] at h2
      by_cases y : g n = true
      · have e : fw_fm g (n + 1) = n := (if_neg z).trans (if_pos y)
        rw [e]
        exact ⟨by omega, h2, fun _ => y⟩
      · have e : fw_fm g (n + 1) = n + 1 := (if_neg z).trans (if_neg y)
        rw [e]
        refine ⟨by omega, fun b hb => ?_, fun h => absurd h (by omega)⟩
        by_cases q : b = n
        · subst q
          exact Bool.eq_false_iff.mpr y
        · exact h2 b (by omega)
theorem fw_firstMark {post : Int32 → Prop} {f0 f1 f2 : Int32} {a1 a2 a3 a4 a5 a6 a7 a8 a9 a10 : Nat → Int32} {m a lim : Nat} (hm : m < 7) (ha : a < 16) (hl : lim ≤ 16) (H : post (nI (fw_fm (fw_g a10 m a) lim))) : wpX_firstMark post (f0, f1, f2, a1, a2, a3, a4, a5, a6, a7, a8, a9, a10) (nI m) (nI a) (nI lim) := by
  obtain ⟨s1, s2, s3⟩ := fw_fm_spec (fw_g a10 m a) lim
  revert H s1 s2 s3
  generalize fw_fm (fw_g a10 m a) lim = v
  intro H s1 s2 s3
  unfold wpX_firstMark
  refine pk_loop (σ := Unit) (fun n b _ => wX_firstMark_3 post (nI m) (nI a) (nI lim) f0 f1 f2 a1 a2 a3 a4 a5 a6 a7 a8 a9 a10 n (nI b)) (fun _ _ => True) v 0 () (by omega) trivial ?_ ?_
  · intro n _ _
    refine pk_le lim v (fun z => ?_) (fun z => ⟨pk_in (256 * m + 16 * a + v) 1792 (by omega) (fw_ix _ _ _), br_f ?_ H⟩)
    · have e : v = lim := by omega
      rw [e] at H
      exact H
    · rw [fw_ix, nI_clamp (by omega)]
      exact fw_gT hm ha (by omega) (s3 z)
  · intro n b _ hb _ hw
    refine pk_le lim b (fun z => absurd z (by omega)) (fun z => ⟨pk_in (256 * m + 16 * a + b) 1792 (by omega) (fw_ix _ _ _), br_t ?_ (nm_r (nI_1 b) (hw () trivial))⟩)
    rw [fw_ix, nI_clamp (by omega)]
    exact fw_gF hm ha (by omega) (s2 b hb)
theorem fw_isPlace {post : Int32 → Prop} {m : Nat} (hm : m < 7) (H : post 1) : wpX_isPlace post () (nI m) := pk_lt m 0 (fun z => absurd z (by omega)) (fun _ => pk_lt 6 m (fun z => absurd z (by omega)) (fun _ => H))
theorem fw_isTime {post : Int32 → Prop} {a b : Nat} (ha : a < 16) (hb : b < 16) (H : post 1) : wpX_isTime post () (nI a) (nI b) := pk_lt a 0 (fun z => absurd z (by omega)) (fun _ => pk_lt 15 a (fun z => absurd z (by omega)) (fun _ => pk_lt b 0 (fun z => absurd z (by omega)) (fun _ => pk_lt 15 b (fun z => absurd z (by omega)) (fun _ => H))))
theorem fw_10 : ¬ (1 : Int32) = 0 := by decide
/-- front's loop: how many steps, and the best so far -/
def fw_fr (g : Nat → Nat → Bool) : Nat → Nat × Nat
  | 0 => (0, 16)
  | a + 1 => (if fw_fm (g a) (fw_fr g a).2 < (fw_fr g a).2 then (fw_fr g a).1 + 1 else (fw_fr g a).1, fw_fm (g a) (fw_fr g a).2)
theorem fw_fr_b (g : Nat → Nat → Bool) (a : Nat) : (fw_fr g a).1 ≤ a ∧ (fw_fr g a).2 ≤ 16 := by
  induction a with
  | zero => exact ⟨Nat.le_refl _, Nat.le_refl _⟩
  | succ a ih =>
    have s := (fw_fm_spec (g a) (fw_fr g a).2).1
    have e2 : (fw_fr g (a + 1)).2 = fw_fm (g a) (fw_fr g a).2 := rfl
    refine ⟨?_, by omega⟩
    by_cases z : fw_fm (g a) (fw_fr g a).2 < (fw_fr g a).2
    · have e : (fw_fr g (a + 1)).1 = (fw_fr g a).1 + 1 := if_pos z
      omega
    · have e : (fw_fr g (a + 1)).1 = (fw_fr g a).1 := if_neg z
      omega
theorem fw_front {post : Int32 → Prop} {f0 f1 f2 : Int32} {a1 a2 a3 a4 a5 a6 a7 a8 a9 a10 : Nat → Int32} {m : Nat} (hm : m < 7) (H : post (nI (fw_fr (fw_g a10 m) 16).1)) : wpX_front post (f0, f1, f2, a1, a2, a3, a4, a5, a6, a7, a8, a9, a10) (nI m) := by
  unfold wpX_front
  refine fw_isPlace hm (br_f fw_10 ?_)
  refine pk_loop (σ := Unit) (fun n a _ => wX_front_17 post (nI m) f0 f1 f2 a1 a2 a3 a4 a5 a6 a7 a8 a9 a10 n (nI (fw_fr (fw_g a10 m) a).1) (nI (fw_fr (fw_g a10 m) a).2) (nI a)) (fun _ _ => True) 16 0 () (by omega) trivial ?_ ?_
  · intro n _ _
    exact pk_le 16 16 (fun _ => H) (fun z => absurd z (by omega))
  · intro n a _ ha _ hw
    have b := fw_fr_b (fw_g a10 m) a
    have s := (fw_fm_spec (fw_g a10 m a) (fw_fr (fw_g a10 m) a).2).1
    have hw' : wX_front_17 post (nI m) f0 f1 f2 a1 a2 a3 a4 a5 a6 a7 a8 a9 a10 n (nI (fw_fr (fw_g a10 m) (a + 1)).1) (nI (fw_fm (fw_g a10 m a) (fw_fr (fw_g a10 m) a).2)) (nI (a + 1)) := hw () trivial
    refine pk_le 16 a (fun z => absurd z (by omega)) (fun _ => fw_firstMark hm ha b.2 ?_)
    refine pk_le (fw_fr (fw_g a10 m) a).2 (fw_fm (fw_g a10 m a) (fw_fr (fw_g a10 m) a).2) (fun z => ?_) (fun z => ?_)
    · have e : (fw_fr (fw_g a10 m) (a + 1)).1 = (fw_fr (fw_g a10 m) a).1 := if_neg (by omega)
      rw [e] at hw'
      exact nm_r (nI_add _ 0) (nm_r (nI_1 a) hw')
    · have e : (fw_fr (fw_g a10 m) (a + 1)).1 = (fw_fr (fw_g a10 m) a).1 + 1 := if_pos z
      rw [e] at hw'
      exact nm_r (nI_1 _) (nm_r (nI_1 a) hw')
/-- frontAt's loop with k rows to go -/
def fw_fa (g : Nat → Nat → Bool) : Nat → Nat → Nat → Int32
  | 0 => fun _ _ => -1
  | k + 1 => fun rest best => if best ≤ fw_fm (g (15 - k)) best then fw_fa g k rest (fw_fm (g (15 - k)) best) else if rest = 0 then nI (16 * (15 - k) + fw_fm (g (15 - k)) best) else fw_fa g k (rest - 1) (fw_fm (g (15 - k)) best)
theorem fw_fa22 {post : Int32 → Prop} {f0 f1 f2 : Int32} {a1 a2 a3 a4 a5 a6 a7 a8 a9 a10 : Nat → Int32} {m : Nat} (hm : m < 7) (k : Nat) : ∀ rest best, k ≤ 16 → best ≤ 16 → rest < 1000 → post (fw_fa (fw_g a10 m) k rest best) → wX_frontAt_22 post (nI m) f0 f1 f2 a1 a2 a3 a4 a5 a6 a7 a8 a9 a10 (k + 1) (nI rest) (nI best) (nI (16 - k)) := by
  induction k with
  | zero =>
    intro rest best _ _ _ H
    exact pk_le 16 (16 - 0) (fun _ => H) (fun z => absurd z (by omega))
  | succ k ih =>
    intro rest best hk hb hr H
    rw [show 16 - (k + 1) = 15 - k by omega]
    have s := (fw_fm_spec (fw_g a10 m (15 - k)) best).1
    refine pk_le 16 (15 - k) (fun z => absurd z (by omega)) (fun _ => fw_firstMark hm (by omega) hb ?_)
    refine pk_le best (fw_fm (fw_g a10 m (15 - k)) best) (fun z => ?_) (fun z => ?_)
    · have e : fw_fa (fw_g a10 m) (k + 1) rest best = fw_fa (fw_g a10 m) k rest (fw_fm (fw_g a10 m (15 - k)) best) := if_pos z
      rw [e] at H
      exact nm_r (e' := nI (16 - k)) (by rw [nI_1, show 15 - k + 1 = 16 - k by omega]) (ih _ _ (by omega) (by omega) hr H)
    · refine pk_eq rest 0 (fun y => ?_) (fun y => ?_)
      · have e : fw_fa (fw_g a10 m) (k + 1) rest best = nI (16 * (15 - k) + fw_fm (fw_g a10 m (15 - k)) best) := (if_neg (by omega)).trans (if_pos y)
        rw [e, ← fw_l16] at H
        exact H
      · have e : fw_fa (fw_g a10 m) (k + 1) rest best = fw_fa (fw_g a10 m) k (rest - 1) (fw_fm (fw_g a10 m (15 - k)) best) := (if_neg (by omega)).trans (if_neg y)
        rw [e] at H
        exact nm_r (e' := nI (rest - 1)) (sb_m1 (by omega)) (nm_r (e' := nI (16 - k)) (by rw [nI_1, show 15 - k + 1 = 16 - k by omega]) (ih _ _ (by omega) (by omega) (by omega) H))
theorem fw_frontAt {post : Int32 → Prop} {f0 f1 f2 : Int32} {a1 a2 a3 a4 a5 a6 a7 a8 a9 a10 : Nat → Int32} {m i : Nat} (hm : m < 7) (hi : i < 1000) (H : post (fw_fa (fw_g a10 m) 16 i 16)) : wpX_frontAt post (f0, f1, f2, a1, a2, a3, a4, a5, a6, a7, a8, a9, a10) (nI m) (nI i) := by
  unfold wpX_frontAt
  exact fw_isPlace hm (br_f fw_10 (pk_le 0 i (fun _ => ⟨17, fw_fa22 hm 16 i 16 (by omega) (by omega) hi H⟩) (fun z => absurd z (by omega))))
def fw_h2 (g : Nat → Nat → Bool) (s : Int32) : Nat → Int32
  | 0 => s
  | i + 1 => fw_h2 g s i * 257 + fw_fa g 16 i 16
def fw_h (G : Nat → Nat → Nat → Bool) : Nat → Int32
  | 0 => 0
  | m + 1 => fw_h2 (G m) (fw_h G m * 31 + nI (fw_fr (G m) 16).1) (fw_fr (G m) 16).1
theorem fw_state {post : Int32 → Prop} {f0 f1 f2 : Int32} {a1 a2 a3 a4 a5 a6 a7 a8 a9 a10 : Nat → Int32} (H : post (fw_h (fw_g a10) 7)) : wpL_state post (f0, f1, f2, a1, a2, a3, a4, a5, a6, a7, a8, a9, a10) := by
  unfold wpL_state
  refine pk_loop (σ := Unit) (fun n m _ => wL_state_4 post f0 f1 f2 a1 a2 a3 a4 a5 a6 a7 a8 a9 a10 n (fw_h (fw_g a10) m) (nI m)) (fun _ _ => True) 7 0 () (by omega) trivial ?_ ?_
  · intro n _ _
    exact pk_le 7 7 (fun _ => H) (fun z => absurd z (by omega))
  · intro n m _ hm _ hw
    have hw' : wL_state_4 post f0 f1 f2 a1 a2 a3 a4 a5 a6 a7 a8 a9 a10 n (fw_h2 (fw_g a10 m) (fw_h (fw_g a10) m * 31 + nI (fw_fr (fw_g a10 m) 16).1) (fw_fr (fw_g a10 m) 16).1) (nI (m + 1)) := hw () trivial
    have b := (fw_fr_b (fw_g a10 m) 16).1
    refine pk_le 7 m (fun z => absurd z (by omega)) (fun _ => fw_front hm (nm_e ?_))
    revert hw' b
    generalize (fw_fr (fw_g a10 m) 16).1 = v
    intro hw' b
    generalize fw_h (fw_g a10) m * 31 + nI v = s at hw' ⊢
    refine pk_loop (σ := Unit) (fun k i _ => wL_state_26 post (wL_state_4 post f0 f1 f2 a1 a2 a3 a4 a5 a6 a7 a8 a9 a10 n) (nI m) (nI v) f0 f1 f2 a1 a2 a3 a4 a5 a6 a7 a8 a9 a10 k (fw_h2 (fw_g a10 m) s i) (nI i)) (fun _ _ => True) v 0 () (by omega) trivial ?_ ?_
    · intro k _ _
      exact pk_le v v (fun _ => nm_r (nI_1 m) hw') (fun z => absurd z (by omega))
    · intro k i _ hi _ hk
      exact pk_le v i (fun z => absurd z (by omega)) (fun _ => fw_frontAt hm (by omega) (nm_e (nm_r (nI_1 i) (hk () trivial))))
end
section
/-! possible, reaches, ready, shortest -/
theorem fw_gN {a10 : Nat → Int32} {m a b : Nat} (z : a10 (256 * m + 16 * a + b) ≤ 0) : fw_g a10 m a b = false := by
  unfold fw_g
  rw [decide_eq_true z]
  simp
theorem fw_possible {post : Int32 → Prop} {f0 f1 f2 : Int32} {a1 a2 a3 a4 a5 a6 a7 a8 a9 a10 : Nat → Int32} {m a b : Nat} (hm : m < 7) (ha : a < 16) (hb : b < 16) (H1 : ∀ x y, x ≤ a → y ≤ b → fw_g a10 m x y = true → post 1) (H0 : (∀ x y, x ≤ a → y ≤ b → fw_g a10 m x y = false) → post 0) : wpX_possible post (f0, f1, f2, a1, a2, a3, a4, a5, a6, a7, a8, a9, a10) (nI m) (nI a) (nI b) := by
  unfold wpX_possible
  refine fw_isPlace hm (br_f fw_10 (fw_isTime ha hb (br_f fw_10 ?_)))
  refine pk_loop (σ := Unit) (fun n x _ => wX_possible_20 post (nI m) (nI a) (nI b) f0 f1 f2 a1 a2 a3 a4 a5 a6 a7 a8 a9 a10 n (nI x)) (fun x _ => ∀ x', x' < x → ∀ y, y ≤ b → fw_g a10 m x' y = false) (a + 1) 0 () (by omega) (fun x' h => absurd h (by omega)) ?_ ?_
  · intro n _ h
    exact pk_lt a (a + 1) (fun _ => H0 (fun x y hx hy => h x (by omega) y hy)) (fun z => absurd z (by omega))
  · intro n x _ hx h hw
    refine pk_lt a x (fun z => absurd z (by omega)) (fun _ => ?_)
    refine pk_loop (σ := Unit) (fun k y _ => wX_possible_29 post (wX_possible_20 post (nI m) (nI a) (nI b) f0 f1 f2 a1 a2 a3 a4 a5 a6 a7 a8 a9 a10 n) (nI m) (nI a) (nI b) (nI x) f0 f1 f2 a1 a2 a3 a4 a5 a6 a7 a8 a9 a10 k (nI y)) (fun y _ => ∀ y', y' < y → fw_g a10 m x y' = false) (b + 1) 0 () (by omega) (fun x' h => absurd h (by omega)) ?_ ?_
    · intro k _ h2
      refine pk_lt b (b + 1) (fun _ => nm_r (nI_1 x) (hw () (fun x' hx' y hy => ?_))) (fun z => absurd z (by omega))
      by_cases e : x' = x
      · subst e
        exact h2 y (by omega)
      · exact h x' (by omega) y hy
    · intro k y _ hy h2 hk
      refine pk_lt b y (fun z => absurd z (by omega)) (fun _ => ⟨pk_in (256 * m + 16 * x + y) 1792 (by omega) (fw_ix _ _ _), ?_⟩)
      rw [fw_ix, nI_clamp (by omega)]
      refine br_c (fun z => nm_r (nI_1 y) (hk () (fun y' hy' => ?_))) (fun z => H1 x y (by omega) (by omega) (fw_gI hm (by omega) (by omega) z))
      by_cases e : y' = y
      · subst e
        exact fw_gN z
      · exact h2 y' (by omega)
theorem fw_sublt {a c p : Nat} (ha : a < 1000) (hc : c < 1000) (hp : p < 1000) : nI a - nI c < nI p ↔ a < p + c := by
  rw [Int32.lt_iff_toInt_lt, pk_sub_toInt (by omega) (by omega), nI_toInt (by omega)]
  omega
/-- the time (a, b) can be reached from the time w by a sum of V -/
def fw_re (V : Nat → Nat → Prop) (w a b : Nat) : Prop := ∃ x y, V x y ∧ x + w / 16 ≤ a ∧ y + w % 16 ≤ b
theorem fw_reaches {post : Int32 → Prop} {f0 f1 f2 : Int32} {a1 a2 a3 a4 a5 a6 a7 a8 a9 a10 : Nat → Int32} {k m a b pl w : Nat} {V : Nat → Nat → Prop} (hk : k < 20) (hm : m < 7) (ha : a < 16) (hb : b < 16) (hpl : pl < 7) (hw : w < 256) (h5 : a5 k = nI pl) (h6 : a6 k = nI w) (hR : fw_R a7 a8 (7 * pl + m) V) (H1 : fw_re V w a b → post 1) (H0 : ¬ fw_re V w a b → post 0) : wpX_reaches post (f0, f1, f2, a1, a2, a3, a4, a5, a6, a7, a8, a9, a10) (nI k) (nI m) (nI a) (nI b) := by
  obtain ⟨n, P, Q, hL, h7, h8⟩ := hR
  have hn := hL.1
  have c5 : a5 (nI k).toNatClampNeg = nI pl := by rw [nI_clamp (by omega), h5]
  have c6 : a6 (nI k).toNatClampNeg = nI w := by rw [nI_clamp (by omega), h6]
  have e7 : (19 : Int32) * nI (7 * pl + m) + a7 (nI (7 * pl + m)).toNatClampNeg = nI (19 * (7 * pl + m) + n) := by rw [nI_clamp (by omega), h7, fw_l19]
  unfold wpX_reaches
  refine ⟨pk_in k 20 hk, nm_r (e' := nI (7 * pl + m)) (by rw [c5, fw_l7]) ⟨pk_in k 20 hk, nm_r (e' := nI a - nI (w / 16)) (by rw [c6, fw_t4 hw]) ⟨pk_in k 20 hk, nm_r (e' := nI b - nI (w % 16)) (by rw [c6, fw_t15 hw]) (nm_r (pk_mul 19 (7 * pl + m)) ?_)⟩⟩⟩
  refine pk_loop (σ := Unit) (fun n' e _ => wX_reaches_46 post (nI (7 * pl + m)) (nI a - nI (w / 16)) (nI b - nI (w % 16)) f0 f1 f2 a1 a2 a3 a4 a5 a6 a7 a8 a9 a10 n' (nI (19 * (7 * pl + m) + e))) (fun e _ => ∀ e', e' < e → ¬ (P e' + w / 16 ≤ a ∧ Q e' + w % 16 ≤ b)) n 0 () (by omega) (fun e' h => absurd h (by omega)) ?_ ?_
  · intro n' _ h
    refine ⟨pk_in (7 * pl + m) 49 (by omega), pk_le (19 * (7 * pl + m) + n) (19 * (7 * pl + m) + n) (fun _ => H0 ?_) (fun z => absurd z (by omega)) e7⟩
    intro ⟨x, y, z1, z2, z3⟩
    obtain ⟨e, y1, y2, y3⟩ := (hL.2.2.2 x y).mp z1
    exact h e y1 ⟨by omega, by omega⟩
  · intro n' e _ he h hw'
    have hd := hL.2.1 e he
    have e8 : a8 (nI (19 * (7 * pl + m) + e)).toNatClampNeg = nI (64 * P e + Q e) := by
      rw [nI_clamp (by omega)]
      exact h8 e he
    have i1 : nI a - nI (w / 16) < a8 (nI (19 * (7 * pl + m) + e)).toNatClampNeg >>> ((6 : Int32) &&& 31) ↔ a < P e + w / 16 := by
      rw [e8, fw_sh (by omega) (by omega)]
      exact fw_sublt (by omega) (by omega) (by omega)
    have i2 : nI b - nI (w % 16) < a8 (nI (19 * (7 * pl + m) + e)).toNatClampNeg &&& 63 ↔ b < Q e + w % 16 := by
      rw [e8, fw_an (by omega) (by omega)]
      exact fw_sublt (by omega) (by omega) (by omega)
    have nx : ¬ (P e + w / 16 ≤ a ∧ Q e + w % 16 ≤ b) → ∀ e', e' < e + 1 → ¬ (P e' + w / 16 ≤ a ∧ Q e' + w % 16 ≤ b) := by
      intro z e' he'
      by_cases q : e' = e
      · subst q
        exact z
      · exact h e' (by omega)
    refine ⟨pk_in (7 * pl + m) 49 (by omega), pk_le (19 * (7 * pl + m) + n) (19 * (7 * pl + m) + e) (fun z => absurd z (by omega)) (fun _ => ⟨pk_in (19 * (7 * pl + m) + e) 931 (by omega), ?_⟩) e7⟩
    refine ek_if i1 (fun z => nm_r (nI_1 _) (hw' () (nx (by omega)))) (fun z => ⟨pk_in (19 * (7 * pl + m) + e) 931 (by omega), ?_⟩)
    refine ek_if i2 (fun z' => nm_r (nI_1 _) (hw' () (nx (by omega)))) (fun z' => H1 ?_)
    exact ⟨P e, Q e, (hL.2.2.2 _ _).mpr ⟨e, he, Nat.le_refl _, Nat.le_refl _⟩, by omega, by omega⟩
/-- what ready asks -/
def fw_rd (U : Nat → Nat → Nat → Nat → Prop) (a5 a6 : Nat → Int32) (t m a b : Nat) : Prop := (∃ k, k < t ∧ a5 k = nI m ∧ a6 k = nI (16 * a + b)) ∧ ∀ k, k < t → ¬ (a5 k = nI m ∧ a6 k = nI (16 * a + b)) → ¬ fw_re (U (a5 k).toNatClampNeg m) (a6 k).toNatClampNeg a b
theorem fw_ready {post : Int32 → Prop} {f0 f2 : Int32} {a1 a2 a3 a4 a5 a6 a7 a8 a9 a10 : Nat → Int32} {t m a b : Nat} {U : Nat → Nat → Nat → Nat → Prop} (ht : t ≤ 20) (hm : m < 7) (ha : a < 16) (hb : b < 16) (htk : fw_Tk a5 a6 t) (hR : ∀ i j, i < 7 → j < 7 → fw_R a7 a8 (7 * i + j) (U i j)) (H1 : fw_rd U a5 a6 t m a b → post 1) (H0 : ¬ fw_rd U a5 a6 t m a b → post 0) : wpX_ready post (f0, nI t, f2, a1, a2, a3, a4, a5, a6, a7, a8, a9, a10) (nI m) (nI a) (nI b) := by
  unfold wpX_ready
  refine fw_isPlace hm (br_f fw_10 (fw_isTime ha hb (br_f fw_10 ?_)))
  refine pk_loop (fun n k (o : Nat) => wX_ready_23 post (nI m) (nI a) (nI b) f0 (nI t) f2 a1 a2 a3 a4 a5 a6 a7 a8 a9 a10 n (nI o) (nI k)) (fun k o => o ≤ k ∧ (0 < o ↔ ∃ k', k' < k ∧ (a5 k' = nI m ∧ a6 k' = nI (16 * a + b))) ∧ ∀ k', k' < k → ¬ (a5 k' = nI m ∧ a6 k' = nI (16 * a + b)) → ¬ fw_re (U (a5 k').toNatClampNeg m) (a6 k').toNatClampNeg a b) t 0 0 (by omega) ⟨by omega, ⟨fun z => absurd z (by omega), fun ⟨k', z, _⟩ => absurd z (by omega)⟩, fun k' z => absurd z (by omega)⟩ ?_ ?_
  · intro n o h
    obtain ⟨o1, o2, o3⟩ := h
    refine pk_le t t (fun _ => pk_le o 0 (fun z => H0 (fun q => ?_)) (fun z => H1 ⟨o2.mp z, o3⟩)) (fun z => absurd z (by omega))
    have := o2.mpr q.1
    omega
  · intro n k o hk h hw
    obtain ⟨o1, o2, o3⟩ := h
    obtain ⟨pl, w, hpl, hw', h5, h6⟩ := htk k hk
    have c5 : a5 (nI k).toNatClampNeg = a5 k := by rw [nI_clamp (by omega)]
    have c6 : a6 (nI k).toNatClampNeg = a6 k := by rw [nI_clamp (by omega)]
    have no : ¬ (a5 k = nI m ∧ a6 k = nI (16 * a + b)) → wX_ready_63 post (wX_ready_23 post (nI m) (nI a) (nI b) f0 (nI t) f2 a1 a2 a3 a4 a5 a6 a7 a8 a9 a10 n) (nI m) (nI a) (nI b) (nI o) (nI k) f0 (nI t) f2 a1 a2 a3 a4 a5 a6 a7 a8 a9 a10 := by
      intro z
      refine br_t (c := (0 : Int32) = 0) rfl (nm_r (nI_add o 0) (br_t (c := (0 : Int32) = 0) rfl ?_))
      refine fw_reaches (pl := pl) (w := w) (V := U pl m) (by omega) hm ha hb hpl hw' h5 h6 (hR pl m hpl hm) (fun q => br_f fw_10 (H0 (fun q' => q'.2 k hk z ?_))) (fun q => br_t rfl (nm_r (nI_1 k) (hw o ⟨by omega, ?_, ?_⟩)))
      · rw [h5, h6, nI_clamp (by omega), nI_clamp (by omega)]
        exact q
      · rw [o2]
        constructor
        · intro ⟨k', y1, y2⟩
          exact ⟨k', by omega, y2⟩
        · intro ⟨k', y1, y2⟩
          by_cases e : k' = k
          · subst e
            exact absurd y2 z
          · exact ⟨k', by omega, y2⟩
      · intro k' y1 y2
        by_cases e : k' = k
        · subst e
          rw [h5, h6, nI_clamp (by omega), nI_clamp (by omega)]
          exact q
        · exact o3 k' (by omega) y2
    refine pk_le t k (fun z => absurd z (by omega)) (fun _ => ⟨pk_in k 20 (by omega), ?_⟩)
    rw [c5, c6, fw_l16]
    refine br_c (fun z => ⟨pk_in k 20 (by omega), br_c (fun z' => ?_) (fun z' => no (fun q => z' q.2))⟩) (fun z => no (fun q => z q.1))
    refine br_f fw_10 (nm_r (nI_1 o) (br_f fw_10 (nm_r (nI_1 k) (hw (o + 1) ⟨by omega, ⟨fun _ => ⟨k, by omega, z, z'⟩, fun _ => by omega⟩, fun k' y1 y2 => ?_⟩))))
    by_cases e : k' = k
    · subst e
      exact absurd ⟨z, z'⟩ y2
    · exact o3 k' (by omega) y2
theorem fw_shortest {post : Int32 → Prop} {f0 f1 f2 : Int32} {a1 a2 a3 a4 a5 a6 a7 a8 a9 a10 : Nat → Int32} {i j : Nat} (hi : i < 7) (hj : j < 7) (H : post (a7 (7 * i + j))) : wpX_shortest post (f0, f1, f2, a1, a2, a3, a4, a5, a6, a7, a8, a9, a10) (nI i) (nI j) := by
  unfold wpX_shortest
  refine fw_isPlace hi (br_f fw_10 (fw_isPlace hj (br_f fw_10 ⟨pk_in (7 * i + j) 49 (by omega) (fw_l7 _ _), ?_⟩)))
  rw [fw_l7, nI_clamp (by omega)]
  exact H
end
section
/-! tokens: put, take, pass -/
theorem fw_S_congr {f : Int32 → Int32 → Nat} {a5 a6 b5 b6 : Nat → Int32} {t : Nat} (h : ∀ k, k < t → b5 k = a5 k ∧ b6 k = a6 k) : fw_S f b5 b6 t = fw_S f a5 a6 t := by
  induction t with
  | zero => rfl
  | succ t ih =>
    show fw_S f b5 b6 t + f (b5 t) (b6 t) = fw_S f a5 a6 t + f (a5 t) (a6 t)
    rw [ih (fun k hk => h k (by omega)), (h t (by omega)).1, (h t (by omega)).2]
theorem fw_S_put (f : Int32 → Int32 → Nat) (a5 a6 : Nat → Int32) (t : Nat) (x y : Int32) : fw_S f (upd a5 t x) (upd a6 t y) (t + 1) = fw_S f a5 a6 t + f x y := by
  show fw_S f (upd a5 t x) (upd a6 t y) t + f (upd a5 t x t) (upd a6 t y t) = _
  rw [pk_us, pk_us, fw_S_congr (fun k hk => ⟨pk_un (by omega), pk_un (by omega)⟩)]
theorem fw_S_upd (f : Int32 → Int32 → Nat) (a5 a6 : Nat → Int32) {k : Nat} (x y : Int32) (t : Nat) (hk : k < t) : fw_S f (upd a5 k x) (upd a6 k y) t + f (a5 k) (a6 k) = fw_S f a5 a6 t + f x y := by
  induction t with
  | zero => exact absurd hk (by omega)
  | succ t ih =>
    by_cases e : k = t
    · subst e
      rw [fw_S_put]
      show _ = fw_S f a5 a6 k + f (a5 k) (a6 k) + _
      omega
    · have i := ih (by omega)
      show fw_S f (upd a5 k x) (upd a6 k y) t + f (upd a5 k x t) (upd a6 k y t) + _ = fw_S f a5 a6 t + f (a5 t) (a6 t) + _
      rw [pk_un (by omega), pk_un (by omega)]
      omega
theorem fw_S_take (f : Int32 → Int32 → Nat) (a5 a6 : Nat → Int32) {k t : Nat} (hk : k < t + 1) : fw_S f (upd a5 k (a5 t)) (upd a6 k (a6 t)) t + f (a5 k) (a6 k) = fw_S f a5 a6 (t + 1) := by
  show _ = fw_S f a5 a6 t + f (a5 t) (a6 t)
  by_cases e : k = t
  · subst e
    rw [fw_S_congr (fun k' hk' => ⟨pk_un (by omega), pk_un (by omega)⟩)]
  · exact fw_S_upd f a5 a6 _ _ t (by omega)
theorem fw_S_pos {f : Int32 → Int32 → Nat} {a5 a6 : Nat → Int32} {t : Nat} : 0 < fw_S f a5 a6 t ↔ ∃ k, k < t ∧ 0 < f (a5 k) (a6 k) := by
  induction t with
  | zero => exact ⟨fun h => absurd h (by show ¬ 0 < 0; omega), fun ⟨k, h, _⟩ => absurd h (by omega)⟩
  | succ t ih =>
    rw [fw_exs, ← ih]
    show 0 < fw_S f a5 a6 t + f (a5 t) (a6 t) ↔ _
    omega
theorem fw_i_le (p : Prop) : fw_i p ≤ 1 := by
  by_cases z : p
  · rw [fw_i1 z]
    omega
  · rw [fw_i0 z]
    omega
theorem fw_S_le {f : Int32 → Int32 → Nat} {a5 a6 : Nat → Int32} (h : ∀ x y, f x y ≤ 1) (t : Nat) : fw_S f a5 a6 t ≤ t := by
  induction t with
  | zero => exact Nat.le_refl _
  | succ t ih =>
    show fw_S f a5 a6 t + f (a5 t) (a6 t) ≤ t + 1
    have := h (a5 t) (a6 t)
    omega
/-- marks go up, or down, by one token -/
theorem fw_C_up {a10 b10 : Nat → Int32} {T : Nat → Nat → Nat → Prop} {N N' : Nat → Nat → Nat → Nat} (hC : fw_C a10 b10 1 T) (h : ∀ m a b, m < 7 → a < 16 → b < 16 → a10 (256 * m + 16 * a + b) = nI (N m a b)) (e : ∀ m a b, N' m a b = N m a b + fw_i (T m a b)) : ∀ m a b, m < 7 → a < 16 → b < 16 → b10 (256 * m + 16 * a + b) = nI (N' m a b) := by
  intro m a b hm ha hb
  rw [e]
  by_cases z : T m a b
  · rw [(hC m a b hm ha hb).1 z, h m a b hm ha hb, fw_i1 z, nI_1]
  · rw [(hC m a b hm ha hb).2 z, h m a b hm ha hb, fw_i0 z, Nat.add_zero]
theorem fw_C_dn {a10 b10 : Nat → Int32} {T : Nat → Nat → Nat → Prop} {N N' : Nat → Nat → Nat → Nat} (hC : fw_C a10 b10 (-1) T) (h : ∀ m a b, m < 7 → a < 16 → b < 16 → a10 (256 * m + 16 * a + b) = nI (N m a b)) (e : ∀ m a b, N' m a b + fw_i (T m a b) = N m a b) : ∀ m a b, m < 7 → a < 16 → b < 16 → b10 (256 * m + 16 * a + b) = nI (N' m a b) := by
  intro m a b hm ha hb
  have e' := e m a b
  by_cases z : T m a b
  · rw [fw_i1 z] at e'
    rw [(hC m a b hm ha hb).1 z, h m a b hm ha hb, ← e', pk_m1]
  · rw [fw_i0 z] at e'
    rw [(hC m a b hm ha hb).2 z, h m a b hm ha hb, ← e', Nat.add_zero]
theorem fw_tokenAt {post : Int32 → Prop} {f0 f2 x y : Int32} {a1 a2 a3 a4 a5 a6 a7 a8 a9 a10 : Nat → Int32} {t : Nat} (ht : t ≤ 20) (H1 : ∀ k, k < t → a5 k = x → a6 k = y → post (nI k)) (H0 : (∀ k, k < t → ¬ (a5 k = x ∧ a6 k = y)) → post (-1)) : wpX_tokenAt post (f0, nI t, f2, a1, a2, a3, a4, a5, a6, a7, a8, a9, a10) x y := by
  unfold wpX_tokenAt
  refine pk_loop (σ := Unit) (fun n k _ => wX_tokenAt_2 post x y f0 (nI t) f2 a1 a2 a3 a4 a5 a6 a7 a8 a9 a10 n (nI k)) (fun k _ => ∀ k', k' < k → ¬ (a5 k' = x ∧ a6 k' = y)) t 0 () (by omega) (fun k' h => absurd h (by omega)) ?_ ?_
  · intro n _ h
    exact pk_le t t (fun _ => H0 h) (fun z => absurd z (by omega))
  · intro n k _ hk h hw
    have nx : ¬ (a5 k = x ∧ a6 k = y) → ∀ k', k' < k + 1 → ¬ (a5 k' = x ∧ a6 k' = y) := by
      intro z k' hk'
      by_cases e : k' = k
      · subst e
        exact z
      · exact h k' (by omega)
    refine pk_le t k (fun z => absurd z (by omega)) (fun _ => ⟨pk_in k 20 (by omega), ?_⟩)
    rw [nI_clamp (by omega)]
    exact br_c (fun z => ⟨pk_in k 20 (by omega), br_c (fun z' => H1 k hk z z') (fun z' => nm_r (nI_1 k) (hw () (nx (fun q => z' q.2))))⟩) (fun z => nm_r (nI_1 k) (hw () (nx (fun q => z q.1))))
theorem fw_Tk_upd {a5 a6 : Nat → Int32} {t k m w : Nat} (h : ∀ k', k' < t → k' ≠ k → ∃ i w, i < 7 ∧ w < 256 ∧ a5 k' = nI i ∧ a6 k' = nI w) (hm : m < 7) (hw : w < 256) : fw_Tk (upd a5 k (nI m)) (upd a6 k (nI w)) t := by
  intro k' hk'
  by_cases e : k' = k
  · subst e
    exact ⟨m, w, hm, hw, pk_us, pk_us⟩
  · rw [pk_un e, pk_un e]
    exact h k' hk' e
theorem fw_put {post : Int32 → St1 → Prop} {f2 : Int32} {a1 a2 a3 a4 a5 a6 a7 a8 a9 a10 : Nat → Int32} {l t m a b : Nat} (hI : fw_I l t a1 a2 a3 a4 a5 a6 a7 a8 a10) (hm : m < 7) (ha : a < 16) (hb : b < 16)
    (H0 : t = 20 → post (-1) (nI l, nI t, f2, a1, a2, a3, a4, a5, a6, a7, a8, a9, a10))
    (H1 : t < 20 → ∀ b10 : Nat → Int32, fw_I l (t + 1) a1 a2 a3 a4 (upd a5 t (nI m)) (upd a6 t (nI (16 * a + b))) a7 a8 b10 → post (nI (t + 1)) (nI l, nI (t + 1), f2, a1, a2, a3, a4, upd a5 t (nI m), upd a6 t (nI (16 * a + b)), a7, a8, a9, b10)) :
    wpX_put post (nI l, nI t, f2, a1, a2, a3, a4, a5, a6, a7, a8, a9, a10) (nI m) (nI a) (nI b) := by
  obtain ⟨hl, ht, hln, htk, hR, hM⟩ := hI
  unfold wpX_put
  refine fw_isPlace hm (br_f fw_10 (fw_isTime ha hb (br_f fw_10 ?_)))
  refine pk_lt t 20 (fun z => ⟨pk_in t 20 z, nm_r (e' := upd a5 t (nI m)) (by rw [nI_clamp (by omega)]) ⟨pk_in t 20 z, nm_r (e' := upd a6 t (nI (16 * a + b))) (by rw [nI_clamp (by omega), fw_l16]) (nm_r (nI_1 t) ?_)⟩⟩) (fun z => H0 (by omega))
  refine fw_count (pl := m) (w := 16 * a + b) (V := fun m' => fw_U (fw_E a1 a2 a3 a4 l) 7 m m') hm (by omega) (fun m' hm' => hR m m' hm hm') (fun b10 hC => H1 z b10 ⟨hl, by omega, hln, fw_Tk_upd (fun k' hk' ne => htk k' (by omega)) hm (by omega), hR, ?_⟩) rfl (fw_l16 a b)
  exact fw_C_up hC hM (fun m' a' b' => by rw [fw_S_put, fw_cE hm (by omega)])
theorem fw_take {post : Int32 → St1 → Prop} {f2 : Int32} {a1 a2 a3 a4 a5 a6 a7 a8 a9 a10 : Nat → Int32} {l t m a b : Nat} (hI : fw_I l t a1 a2 a3 a4 a5 a6 a7 a8 a10) (hm : m < 7) (ha : a < 16) (hb : b < 16)
    (H0 : (∀ k, k < t → ¬ (a5 k = nI m ∧ a6 k = nI (16 * a + b))) → post (-1) (nI l, nI t, f2, a1, a2, a3, a4, a5, a6, a7, a8, a9, a10))
    (H1 : ∀ (t' : Nat) (b5 b6 b10 : Nat → Int32), t = t' + 1 → (∀ f, fw_S f b5 b6 t' + f (nI m) (nI (16 * a + b)) = fw_S f a5 a6 t) → fw_I l t' a1 a2 a3 a4 b5 b6 a7 a8 b10 → post (nI t') (nI l, nI t', f2, a1, a2, a3, a4, b5, b6, a7, a8, a9, b10)) :
    wpX_take post (nI l, nI t, f2, a1, a2, a3, a4, a5, a6, a7, a8, a9, a10) (nI m) (nI a) (nI b) := by
  obtain ⟨hl, ht, hln, htk, hR, hM⟩ := hI
  unfold wpX_take
  refine fw_isPlace hm (br_f fw_10 (fw_isTime ha hb (br_f fw_10 ?_)))
  rw [fw_l16]
  refine fw_tokenAt ht (fun k hk h5 h6 => ?_) (fun h => br_f (by decide) (H0 h))
  obtain ⟨t', et⟩ : ∃ t', t = t' + 1 := ⟨t - 1, by omega⟩
  have hS : ∀ f, fw_S f (upd a5 k (a5 t')) (upd a6 k (a6 t')) t' + f (nI m) (nI (16 * a + b)) = fw_S f a5 a6 t := by
    intro f
    have s := fw_S_take f a5 a6 (k := k) (t := t') (by omega)
    rw [h5, h6] at s
    rw [et]
    exact s
  obtain ⟨i, w, hi, hw, g5, g6⟩ := htk t' (by omega)
  have hT : fw_Tk (upd a5 k (a5 t')) (upd a6 k (a6 t')) t' := by
    rw [g5, g6]
    exact fw_Tk_upd (fun k' hk' ne => htk k' (by omega)) hi hw
  refine br_t (nI_pos' (by omega)) (nm_r (e' := nI t') (by rw [et, nI_pred]) ⟨pk_in t' 20 (by omega), pk_in k 20 (by omega), nm_r (e' := upd a5 k (a5 t')) (by rw [nI_clamp (by omega), nI_clamp (by omega)]) ⟨pk_in t' 20 (by omega), pk_in k 20 (by omega), nm_r (e' := upd a6 k (a6 t')) (by rw [nI_clamp (by omega), nI_clamp (by omega)]) ?_⟩⟩)
  refine fw_count (pl := m) (w := 16 * a + b) (V := fun m' => fw_U (fw_E a1 a2 a3 a4 l) 7 m m') hm (by omega) (fun m' hm' => hR m m' hm hm') (fun b10 hC => H1 t' _ _ b10 et hS ⟨hl, by omega, hln, hT, hR, ?_⟩) rfl (fw_l16 a b)
  exact fw_C_dn hC hM (fun m' a' b' => by rw [← hS, fw_cE hm (by omega)])
theorem fw_pass {post : Int32 → St1 → Prop} {f2 : Int32} {a1 a2 a3 a4 a5 a6 a7 a8 a9 a10 : Nat → Int32} {l t k a b : Nat} (hI : fw_I l t a1 a2 a3 a4 a5 a6 a7 a8 a10) (hk : k < 1000) (ha : a < 16) (hb : b < 16)
    (H0 : (k < l → ∀ e, e < t → ¬ (a5 e = a1 k ∧ a6 e = nI (16 * a + b))) → post (-1) (nI l, nI t, f2, a1, a2, a3, a4, a5, a6, a7, a8, a9, a10))
    (H2 : ∀ p q, k < l → p < 4 → q < 4 → a3 k = nI p → a4 k = nI q → ¬ (a + p < 16 ∧ b + q < 16) → post (-2) (nI l, nI t, f2, a1, a2, a3, a4, a5, a6, a7, a8, a9, a10))
    (H1 : ∀ i j p q, k < l → i < 7 → j < 7 → p < 4 → q < 4 → a1 k = nI i → a2 k = nI j → a3 k = nI p → a4 k = nI q → a + p < 16 → b + q < 16 → ∀ b5 b6 b10 : Nat → Int32, (∀ f, fw_S f b5 b6 t + f (nI i) (nI (16 * a + b)) = fw_S f a5 a6 t + f (nI j) (nI (16 * (a + p) + (b + q)))) → fw_I l t a1 a2 a3 a4 b5 b6 a7 a8 b10 → post 0 (nI l, nI t, f2, a1, a2, a3, a4, b5, b6, a7, a8, a9, b10)) :
    wpX_pass post (nI l, nI t, f2, a1, a2, a3, a4, a5, a6, a7, a8, a9, a10) (nI k) (nI a) (nI b) := by
  obtain ⟨hl, ht, hln, htk, hR, hM⟩ := hI
  unfold wpX_pass
  refine pk_lt k 0 (fun z => absurd z (by omega)) (fun _ => pk_le l k (fun z => H0 (fun q => absurd q (by omega))) (fun hkl => fw_isTime ha hb (br_f fw_10 ⟨pk_in k 12 (by omega), ?_⟩)))
  obtain ⟨i, j, p, q, hi, hj, hp, hq, e1, e2, e3, e4⟩ := hln k hkl
  have c1 : a1 (nI k).toNatClampNeg = nI i := by rw [nI_clamp (by omega), e1]
  have c2 : a2 (nI k).toNatClampNeg = nI j := by rw [nI_clamp (by omega), e2]
  have c3 : a3 (nI k).toNatClampNeg = nI p := by rw [nI_clamp (by omega), e3]
  have c4 : a4 (nI k).toNatClampNeg = nI q := by rw [nI_clamp (by omega), e4]
  rw [fw_l16, c1]
  refine fw_tokenAt ht (fun e he h5 h6 => ?_) (fun h => br_f (by decide) (H0 (fun _ => by rw [e1]; exact h)))
  have d5 : a5 (nI e).toNatClampNeg = nI i := by rw [nI_clamp (by omega), h5]
  have d6 : a6 (nI e).toNatClampNeg = nI (16 * a + b) := by rw [nI_clamp (by omega), h6]
  refine br_t (nI_pos' (by omega)) ⟨pk_in k 12 (by omega), pk_lt 15 (a + p) (fun z => H2 p q hkl hp hq e3 e4 (by omega)) (fun z => ⟨pk_in k 12 (by omega), pk_le (b + q) 15 (fun z' => ?_) (fun z' => H2 p q hkl hp hq e3 e4 (by omega)) (by rw [c4, nI_add])⟩) rfl (by rw [c3, nI_add])⟩
  refine ⟨pk_in e 20 (by omega), pk_in e 20 (by omega), ?_⟩
  refine fw_count (pl := i) (w := 16 * a + b) (V := fun m' => fw_U (fw_E a1 a2 a3 a4 l) 7 i m') hi (by omega) (fun m' hm' => hR i m' hi hm') (fun b10 hC => ?_) d5 d6
  have hS : ∀ f, fw_S f (upd a5 e (nI j)) (upd a6 e (nI (16 * (a + p) + (b + q)))) t + f (nI i) (nI (16 * a + b)) = fw_S f a5 a6 t + f (nI j) (nI (16 * (a + p) + (b + q))) := by
    intro f
    have s := fw_S_upd f a5 a6 (k := e) (nI j) (nI (16 * (a + p) + (b + q))) t he
    rw [h5, h6] at s
    exact s
  refine ⟨pk_in k 12 (by omega), pk_in e 20 (by omega), nm_r (e' := upd a5 e (nI j)) (by rw [c2, nI_clamp (by omega)]) ⟨pk_in e 20 (by omega), pk_in k 12 (by omega), pk_in k 12 (by omega), pk_in e 20 (by omega), nm_r (e' := upd a6 e (nI (16 * (a + p) + (b + q)))) (by rw [d6, c3, c4, fw_l16, nI_add, nI_clamp (by omega), show 16 * a + b + (16 * p + q) = 16 * (a + p) + (b + q) by omega]) ⟨pk_in e 20 (by omega), pk_in e 20 (by omega), ?_⟩⟩⟩
  refine fw_count (pl := j) (w := 16 * (a + p) + (b + q)) (V := fun m' => fw_U (fw_E a1 a2 a3 a4 l) 7 j m') hj (by omega) (fun m' hm' => hR j m' hj hm') (fun c10 hC2 => H1 i j p q hkl hi hj hp hq e1 e2 e3 e4 (by omega) (by omega) _ _ c10 hS ⟨hl, ht, hln, fw_Tk_upd (fun k' hk' ne => htk k' hk') hj (by omega), hR, ?_⟩) (by rw [nI_clamp (by omega), pk_us]) (by rw [nI_clamp (by omega), pk_us])
  have mid := fw_C_dn (N' := fun m' a' b' => fw_S (fw_c (fw_U (fw_E a1 a2 a3 a4 l) 7) m' a' b') a5 a6 t - fw_i (fw_hit (fw_U (fw_E a1 a2 a3 a4 l) 7 i m') (16 * a + b) a' b')) hC hM (fun m' a' b' => by
    have s := fw_S_upd (fw_c (fw_U (fw_E a1 a2 a3 a4 l) 7) m' a' b') a5 a6 (k := e) (nI j) (nI (16 * (a + p) + (b + q))) t he
    have g : 0 < fw_c (fw_U (fw_E a1 a2 a3 a4 l) 7) m' a' b' (a5 e) (a6 e) → 0 < fw_S (fw_c (fw_U (fw_E a1 a2 a3 a4 l) 7) m' a' b') a5 a6 t := fun q => fw_S_pos.mpr ⟨e, he, q⟩
    rw [h5, h6, fw_cE hi (by omega)] at g
    have g1 := fw_i_le (fw_hit (fw_U (fw_E a1 a2 a3 a4 l) 7 i m') (16 * a + b) a' b')
    omega)
  refine fw_C_up hC2 mid (fun m' a' b' => ?_)
  have s := hS (fw_c (fw_U (fw_E a1 a2 a3 a4 l) 7) m' a' b')
  have g : 0 < fw_c (fw_U (fw_E a1 a2 a3 a4 l) 7) m' a' b' (a5 e) (a6 e) → 0 < fw_S (fw_c (fw_U (fw_E a1 a2 a3 a4 l) 7) m' a' b') a5 a6 t := fun q => fw_S_pos.mpr ⟨e, he, q⟩
  rw [h5, h6, fw_cE hi (by omega)] at g
  rw [fw_cE hi (by omega), fw_cE hj (by omega)] at s
  have g1 := fw_i_le (fw_hit (fw_U (fw_E a1 a2 a3 a4 l) 7 i m') (16 * a + b) a' b')
  omega
end
section
/-! lines: link, unlink; the constructor -/
theorem fw_link {post : Int32 → St1 → Prop} {f2 : Int32} {a1 a2 a3 a4 a5 a6 a7 a8 a9 a10 : Nat → Int32} {l t i j p q : Nat} (hI : fw_I l t a1 a2 a3 a4 a5 a6 a7 a8 a10) (hi : i < 7) (hj : j < 7) (hp : p < 4) (hq : q < 4)
    (H0 : l = 12 → post (-1) (nI l, nI t, f2, a1, a2, a3, a4, a5, a6, a7, a8, a9, a10))
    (H1 : l < 12 → ∀ (g : Int32) (b7 b8 b9 b10 : Nat → Int32), fw_I (l + 1) t (upd a1 l (nI i)) (upd a2 l (nI j)) (upd a3 l (nI p)) (upd a4 l (nI q)) a5 a6 b7 b8 b10 → post (nI (l + 1)) (nI (l + 1), nI t, g, upd a1 l (nI i), upd a2 l (nI j), upd a3 l (nI p), upd a4 l (nI q), a5, a6, b7, b8, b9, b10)) :
    wpX_link post (nI l, nI t, f2, a1, a2, a3, a4, a5, a6, a7, a8, a9, a10) (nI i) (nI j) (nI p) (nI q) := by
  obtain ⟨hl, ht, hln, htk, hR, hM⟩ := hI
  unfold wpX_link
  refine fw_isPlace hi (br_f fw_10 (fw_isPlace hj (br_f fw_10 ?_)))
  refine pk_lt p 0 (fun z => absurd z (by omega)) (fun _ => pk_lt 3 p (fun z => absurd z (by omega)) (fun _ => pk_lt q 0 (fun z => absurd z (by omega)) (fun _ => pk_lt 3 q (fun z => absurd z (by omega)) (fun _ => ?_))))
  refine pk_lt l 12 (fun z => ?_) (fun z => H0 (by omega))
  refine ⟨pk_in l 12 z, nm_r (e' := upd a1 l (nI i)) (by rw [nI_clamp (by omega)]) ⟨pk_in l 12 z, nm_r (e' := upd a2 l (nI j)) (by rw [nI_clamp (by omega)]) ⟨pk_in l 12 z, nm_r (e' := upd a3 l (nI p)) (by rw [nI_clamp (by omega)]) ⟨pk_in l 12 z, nm_r (e' := upd a4 l (nI q)) (by rw [nI_clamp (by omega)]) (nm_r (nI_1 l) ?_)⟩⟩⟩⟩
  refine fw_rebuild (by omega) ht (fun e he => ?_) htk (fun g b7 b8 b9 b10 h => H1 z g b7 b8 b9 b10 h)
  by_cases q' : e = l
  · subst q'
    exact ⟨i, j, p, q, hi, hj, hp, hq, pk_us, pk_us, pk_us, pk_us⟩
  · rw [pk_un q', pk_un q', pk_un q', pk_un q']
    exact hln e (by omega)
/-- the first l lines of b are those of a -/
def fw_A (l : Nat) (a1 a2 a3 a4 b1 b2 b3 b4 : Nat → Int32) : Prop := ∀ e, e < l → b1 e = a1 e ∧ b2 e = a2 e ∧ b3 e = a3 e ∧ b4 e = a4 e
theorem fw_unlink {post : Int32 → St1 → Prop} {f2 : Int32} {a1 a2 a3 a4 a5 a6 a7 a8 a9 a10 : Nat → Int32} {l t k : Nat} (hI : fw_I l t a1 a2 a3 a4 a5 a6 a7 a8 a10) (hk : k < 1000)
    (H0 : l ≤ k → post (-1) (nI l, nI t, f2, a1, a2, a3, a4, a5, a6, a7, a8, a9, a10))
    (H1 : ∀ (l' : Nat), l = l' + 1 → k ≤ l' → ∀ (g : Int32) (b1 b2 b3 b4 b7 b8 b9 b10 : Nat → Int32), fw_A k a1 a2 a3 a4 b1 b2 b3 b4 → fw_I l' t b1 b2 b3 b4 a5 a6 b7 b8 b10 → post (nI l') (nI l', nI t, g, b1, b2, b3, b4, a5, a6, b7, b8, b9, b10)) :
    wpX_unlink post (nI l, nI t, f2, a1, a2, a3, a4, a5, a6, a7, a8, a9, a10) (nI k) := by
  obtain ⟨hl, ht, hln, htk, hR, hM⟩ := hI
  unfold wpX_unlink
  refine pk_lt k 0 (fun z => absurd z (by omega)) (fun _ => pk_lt k l (fun z => ?_) (fun z => H0 z))
  obtain ⟨l', el⟩ : ∃ l', l = l' + 1 := ⟨l - 1, by omega⟩
  refine nm_r (e' := nI l') (by rw [el, nI_pred]) ?_
  refine pk_loop (fun n e (s : (Nat → Int32) × (Nat → Int32) × (Nat → Int32) × (Nat → Int32)) => wX_unlink_26 post (nI l') (nI t) f2 n (nI e) s.1 s.2.1 s.2.2.1 s.2.2.2 a5 a6 a7 a8 a9 a10) (fun e s => k ≤ e ∧ fw_Ln s.1 s.2.1 s.2.2.1 s.2.2.2 l ∧ fw_A k a1 a2 a3 a4 s.1 s.2.1 s.2.2.1 s.2.2.2) l' k (a1, a2, a3, a4) (by omega) ⟨Nat.le_refl _, hln, fun e he => ⟨rfl, rfl, rfl, rfl⟩⟩ ?_ ?_
  · intro n s h
    obtain ⟨b1, b2, b3, b4⟩ := s
    have h1 : fw_Ln b1 b2 b3 b4 l := h.2.1
    have h2 : fw_A k a1 a2 a3 a4 b1 b2 b3 b4 := h.2.2
    dsimp only
    exact pk_le l' l' (fun _ => fw_rebuild (by omega) ht (fun e he => h1 e (by omega)) htk (fun g b7 b8 b9 b10 hI' => H1 l' el (by omega) g b1 b2 b3 b4 b7 b8 b9 b10 h2 hI')) (fun z => absurd z (by omega))
  · intro n e s he h hw
    have ek : k ≤ e := h.1
    obtain ⟨b1, b2, b3, b4⟩ := s
    have h1 : fw_Ln b1 b2 b3 b4 l := h.2.1
    have h2 : fw_A k a1 a2 a3 a4 b1 b2 b3 b4 := h.2.2
    dsimp only
    have c : (nI e + 1).toNatClampNeg = e + 1 := by rw [nI_1, nI_clamp (by omega)]
    refine pk_le l' e (fun z => absurd z (by omega)) (fun _ => ⟨pk_in (e + 1) 12 (by omega) (nI_1 e), pk_in e 12 (by omega), nm_r (e' := upd b1 e (b1 (e + 1))) (by rw [c, nI_clamp (by omega)]) ⟨pk_in (e + 1) 12 (by omega) (nI_1 e), pk_in e 12 (by omega), nm_r (e' := upd b2 e (b2 (e + 1))) (by rw [c, nI_clamp (by omega)]) ⟨pk_in (e + 1) 12 (by omega) (nI_1 e), pk_in e 12 (by omega), nm_r (e' := upd b3 e (b3 (e + 1))) (by rw [c, nI_clamp (by omega)]) ⟨pk_in (e + 1) 12 (by omega) (nI_1 e), pk_in e 12 (by omega), nm_r (e' := upd b4 e (b4 (e + 1))) (by rw [c, nI_clamp (by omega)]) (nm_r (nI_1 e) (hw (upd b1 e (b1 (e + 1)), upd b2 e (b2 (e + 1)), upd b3 e (b3 (e + 1)), upd b4 e (b4 (e + 1))) ⟨show k ≤ e + 1 by omega, fun e' he' => ?_, fun e' he' => ?_⟩))⟩⟩⟩⟩)
    · show ∃ i j p q, i < 7 ∧ j < 7 ∧ p < 4 ∧ q < 4 ∧ upd b1 e (b1 (e + 1)) e' = nI i ∧ upd b2 e (b2 (e + 1)) e' = nI j ∧ upd b3 e (b3 (e + 1)) e' = nI p ∧ upd b4 e (b4 (e + 1)) e' = nI q
      by_cases q' : e' = e
      · subst q'
        rw [pk_us, pk_us, pk_us, pk_us]
        exact h1 (e' + 1) (by omega)
      · rw [pk_un q', pk_un q', pk_un q', pk_un q']
        exact h1 e' he'
    · show upd b1 e (b1 (e + 1)) e' = a1 e' ∧ upd b2 e (b2 (e + 1)) e' = a2 e' ∧ upd b3 e (b3 (e + 1)) e' = a3 e' ∧ upd b4 e (b4 (e + 1)) e' = a4 e'
      rw [pk_un (by omega), pk_un (by omega), pk_un (by omega), pk_un (by omega)]
      exact h2 e' he'
theorem fw_init {post : St1 → Prop} (H : ∀ (g : Int32) (b1 b2 b3 b4 b5 b6 b7 b8 b9 b10 : Nat → Int32), fw_I 0 0 b1 b2 b3 b4 b5 b6 b7 b8 b10 → post (nI 0, nI 0, g, b1, b2, b3, b4, b5, b6, b7, b8, b9, b10)) : wpX_init post 10 2900 (0, 0, 0) := by
  unfold wpX_init
  refine ⟨by omega, by omega, by omega, by omega, by omega, by omega, by omega, by omega, by omega, by omega, by omega, by omega, by omega, by omega, by omega, by omega, by omega, by omega, by omega, by omega, ?_⟩
  exact fw_rebuild (l := 0) (t := 0) (by omega) (by omega) (fun e he => absurd he (by omega)) (fun e he => absurd he (by omega)) (fun g b7 b8 b9 b10 h => H g _ _ _ _ _ _ b7 b8 b9 b10 h)
end
section
/-! what the picture says of the answers -/
noncomputable def fw_b (p : Prop) : Int32 := @ite Int32 p (Classical.propDecidable p) 1 0
theorem fw_b1 {p : Prop} (h : p) : fw_b p = 1 := by
  unfold fw_b
  exact if_pos h
theorem fw_b0 {p : Prop} (h : ¬ p) : fw_b p = 0 := by
  unfold fw_b
  exact if_neg h
theorem fw_bm {p q : Prop} (h : p → q) : ¬ fw_b q < fw_b p := by
  by_cases z : p
  · rw [fw_b1 z, fw_b1 (h z)]
    decide
  · rw [fw_b0 z]
    by_cases y : q
    · rw [fw_b1 y]
      decide
    · rw [fw_b0 y]
      decide
def fw_P (G : Nat → Nat → Nat → Bool) (m a b : Nat) : Prop := ∃ x y, x ≤ a ∧ y ≤ b ∧ G m x y = true
theorem fw_possibleV {post : Int32 → Prop} {f0 f1 f2 : Int32} {a1 a2 a3 a4 a5 a6 a7 a8 a9 a10 : Nat → Int32} {m a b : Nat} (hm : m < 7) (ha : a < 16) (hb : b < 16) (H : post (fw_b (fw_P (fw_g a10) m a b))) : wpX_possible post (f0, f1, f2, a1, a2, a3, a4, a5, a6, a7, a8, a9, a10) (nI m) (nI a) (nI b) := by
  refine fw_possible hm ha hb (fun x y hx hy h => ?_) (fun h => ?_)
  · rw [fw_b1 ⟨x, y, hx, hy, h⟩] at H
    exact H
  · rw [fw_b0 (fun ⟨x, y, hx, hy, h'⟩ => by rw [h x y hx hy] at h'; exact Bool.noConfusion h')] at H
    exact H
theorem fw_readyV {post : Int32 → Prop} {f2 : Int32} {a1 a2 a3 a4 a5 a6 a7 a8 a9 a10 : Nat → Int32} {l t m a b : Nat} (hI : fw_I l t a1 a2 a3 a4 a5 a6 a7 a8 a10) (hm : m < 7) (ha : a < 16) (hb : b < 16) (H : post (fw_b (fw_rd (fw_U (fw_E a1 a2 a3 a4 l) 7) a5 a6 t m a b))) : wpX_ready post (nI l, nI t, f2, a1, a2, a3, a4, a5, a6, a7, a8, a9, a10) (nI m) (nI a) (nI b) := by
  obtain ⟨hl, ht, hln, htk, hR, hM⟩ := hI
  refine fw_ready ht hm ha hb htk hR (fun h => ?_) (fun h => ?_)
  · rw [fw_b1 h] at H
    exact H
  · rw [fw_b0 h] at H
    exact H
/-- possible: some token reaches it -/
theorem fw_Piff {a1 a2 a3 a4 a5 a6 a7 a8 a10 : Nat → Int32} {l t m a b : Nat} (hI : fw_I l t a1 a2 a3 a4 a5 a6 a7 a8 a10) (hm : m < 7) (ha : a < 16) (hb : b < 16) : fw_P (fw_g a10) m a b ↔ ∃ k, k < t ∧ fw_re (fw_U (fw_E a1 a2 a3 a4 l) 7 (a5 k).toNatClampNeg m) (a6 k).toNatClampNeg a b := by
  obtain ⟨hl, ht, hln, htk, hR, hM⟩ := hI
  constructor
  · intro ⟨x, y, hx, hy, hg⟩
    have g := fw_gT hm (by omega) (by omega) hg
    rw [hM m x y hm (by omega) (by omega)] at g
    have pos : 0 < fw_S (fw_c (fw_U (fw_E a1 a2 a3 a4 l) 7) m x y) a5 a6 t := by
      rcases Nat.eq_zero_or_pos (fw_S (fw_c (fw_U (fw_E a1 a2 a3 a4 l) 7) m x y) a5 a6 t) with z | z
      · rw [z] at g
        exact absurd (by decide) g
      · exact z
    obtain ⟨k, hk, hc⟩ := fw_S_pos.mp pos
    refine ⟨k, hk, ?_⟩
    have hit : fw_hit (fw_U (fw_E a1 a2 a3 a4 l) 7 (a5 k).toNatClampNeg m) (a6 k).toNatClampNeg x y := by
      by_cases z : fw_hit (fw_U (fw_E a1 a2 a3 a4 l) 7 (a5 k).toNatClampNeg m) (a6 k).toNatClampNeg x y
      · exact z
      · unfold fw_c at hc
        rw [fw_i0 z] at hc
        exact absurd hc (by omega)
    obtain ⟨x0, y0, h1, h2, h3⟩ := hit
    exact ⟨x0, y0, h1.1, by omega, by omega⟩
  · intro ⟨k, hk, hre⟩
    obtain ⟨pl, w, hp, hw, h5, h6⟩ := htk k hk
    rw [h5, h6, nI_clamp (by omega), nI_clamp (by omega)] at hre
    obtain ⟨x0, y0, h1, h2, h3⟩ := hre
    obtain ⟨n, P, Q, hL, h7, h8⟩ := hR pl m hp hm
    obtain ⟨e, e1, e2, e3⟩ := (hL.2.2.2 _ _).mp h1
    refine ⟨w / 16 + P e, w % 16 + Q e, by omega, by omega, fw_gI hm (by omega) (by omega) ?_⟩
    rw [hM m _ _ hm (by omega) (by omega)]
    have le := fw_S_le (f := fw_c (fw_U (fw_E a1 a2 a3 a4 l) 7) m (w / 16 + P e) (w % 16 + Q e)) (a5 := a5) (a6 := a6) (fun x y => fw_i_le _) t
    have pos : 0 < fw_S (fw_c (fw_U (fw_E a1 a2 a3 a4 l) 7) m (w / 16 + P e) (w % 16 + Q e)) a5 a6 t := by
      refine fw_S_pos.mpr ⟨k, hk, ?_⟩
      rw [h5, h6, fw_cE hp hw, fw_i1 ⟨P e, Q e, (fw_L_min hL).mpr ⟨e, e1, rfl, rfl⟩, rfl, rfl⟩]
      omega
    exact nI_nle pos (by omega)
/-- the same lines and tokens: the same marks and rows -/
theorem fw_same {a1 a2 a3 a4 a5 a6 a7 a8 a10 b1 b2 b3 b4 b5 b6 b7 b8 b10 : Nat → Int32} {l l' t t' : Nat} (hI : fw_I l t a1 a2 a3 a4 a5 a6 a7 a8 a10) (hI' : fw_I l' t' b1 b2 b3 b4 b5 b6 b7 b8 b10) (hE : fw_E b1 b2 b3 b4 l' = fw_E a1 a2 a3 a4 l) (hS : ∀ f, fw_S f b5 b6 t' = fw_S f a5 a6 t) : fw_g b10 = fw_g a10 ∧ ∀ i j, i < 7 → j < 7 → b7 (7 * i + j) = a7 (7 * i + j) := by
  obtain ⟨hl, ht, hln, htk, hR, hM⟩ := hI
  obtain ⟨hl', ht', hln', htk', hR', hM'⟩ := hI'
  refine ⟨fw_g_congr (fun m a b hm ha hb => ?_), fun i j hi hj => ?_⟩
  · rw [hM m a b hm ha hb, hM' m a b hm ha hb, hE, hS]
  · have h := hR' i j hi hj
    rw [hE] at h
    exact fw_R_cnt h (hR i j hi hj)
theorem fw_E_congr {a1 a2 a3 a4 b1 b2 b3 b4 : Nat → Int32} {l : Nat} (h : fw_A l a1 a2 a3 a4 b1 b2 b3 b4) : fw_E b1 b2 b3 b4 l = fw_E a1 a2 a3 a4 l := by
  funext i j p q
  refine propext ⟨fun ⟨t, h0, h1, h2, h3, h4, h5⟩ => ⟨t, h0, h1, h2, h3, h4, ?_⟩, fun ⟨t, h0, h1, h2, h3, h4, h5⟩ => ⟨t, h0, h1, h2, h3, h4, ?_⟩⟩
  · obtain ⟨e1, e2, e3, e4⟩ := h t h0
    rw [e1, e2, e3, e4] at h5
    exact h5
  · obtain ⟨e1, e2, e3, e4⟩ := h t h0
    rw [e1, e2, e3, e4]
    exact h5
theorem fw_A_upd {a1 a2 a3 a4 : Nat → Int32} {l : Nat} {x y z w : Int32} : fw_A l a1 a2 a3 a4 (upd a1 l x) (upd a2 l y) (upd a3 l z) (upd a4 l w) := fun e he => ⟨pk_un (by omega), pk_un (by omega), pk_un (by omega), pk_un (by omega)⟩
/-- the line k is i -> j with (p, q) -/
def fw_at (a1 a2 a3 a4 : Nat → Int32) (k i j p q : Nat) : Prop := a1 k = nI i ∧ a2 k = nI j ∧ a3 k = nI p ∧ a4 k = nI q
theorem fw_E_in {a1 a2 a3 a4 : Nat → Int32} {l k i j p q : Nat} (hk : k < l) (hi : i < 7) (hj : j < 7) (hp : p < 4) (hq : q < 4) (h : fw_at a1 a2 a3 a4 k i j p q) : fw_E a1 a2 a3 a4 l i j p q := ⟨k, hk, hi, hj, hp, hq, h⟩
theorem fw_E_twice {a1 a2 a3 a4 : Nat → Int32} {l i j p q : Nat} (hi : i < 7) (hj : j < 7) (hp : p < 4) (hq : q < 4) (h : fw_at a1 a2 a3 a4 l i j p q) (h' : fw_at a1 a2 a3 a4 (l + 1) i j p q) : fw_E a1 a2 a3 a4 (l + 2) = fw_E a1 a2 a3 a4 (l + 1) := by
  funext i' j' p' q'
  have s := fw_E_s (t := l + 1) hi hj hp hq h'.1 h'.2.1 h'.2.2.1 h'.2.2.2 i' j' p' q'
  refine propext (s.trans ⟨fun z => ?_, fun z => Or.inl z⟩)
  rcases z with z | ⟨z1, z2, z3, z4⟩
  · exact z
  · subst z1 z2 z3 z4
    exact fw_E_in (by omega) hi hj hp hq h
theorem fw_E_le {a1 a2 a3 a4 : Nat → Int32} {l : Nat} : ∀ i j p q, fw_E a1 a2 a3 a4 l i j p q → fw_E a1 a2 a3 a4 (l + 1) i j p q := fun i j p q ⟨t, h0, h1⟩ => ⟨t, by omega, h1⟩
theorem fw_U_0 {E : Nat → Nat → Nat → Nat → Prop} {i j x y : Nat} (h : fw_U E 0 i j x y) (k : Nat) : fw_U E k i j x y := by
  induction k with
  | zero => exact h
  | succ k ih => exact Or.inl ih
/-- a token's own number -/
def fw_d (x y : Int32) : Int32 → Int32 → Nat := fun x' y' => if x' = x ∧ y' = y then 1 else 0
theorem fw_dd (x y : Int32) : fw_d x y x y = 1 := if_pos ⟨rfl, rfl⟩
theorem fw_d_in {a5 a6 : Nat → Int32} {t : Nat} {x y : Int32} (h : 0 < fw_S (fw_d x y) a5 a6 t) : ∃ k, k < t ∧ a5 k = x ∧ a6 k = y := by
  obtain ⟨k, hk, hd⟩ := fw_S_pos.mp h
  refine ⟨k, hk, ?_⟩
  by_cases z : a5 k = x ∧ a6 k = y
  · exact z
  · have e : fw_d x y (a5 k) (a6 k) = 0 := if_neg z
    rw [e] at hd
    exact absurd hd (by omega)
end
section
/-! back -/
theorem fw_k341 {post : Int32 → St1 → Prop} {f0 f1 f2 x8 x9 x11 : Int32} {a1 a2 a3 a4 a5 a6 a7 a8 a9 a10 : Nat → Int32} {i m a b : Nat} (hi : i < 7) (hm : m < 7) (ha : a < 16) (hb : b < 16) (h8 : x8 = fw_h (fw_g a10) 7) (h9 : x9 = fw_b (fw_P (fw_g a10) m a b)) (h11 : x11 = a7 (7 * i + m)) (H : post 1 (f0, f1, f2, a1, a2, a3, a4, a5, a6, a7, a8, a9, a10)) : wL_back_341 post (nI i) (nI m) (nI a) (nI b) x8 x9 x11 f0 f1 f2 a1 a2 a3 a4 a5 a6 a7 a8 a9 a10 := by
  unfold wL_back_341
  exact fw_state (br_t h8.symm (fw_shortest hi hm (br_t h11.symm (fw_possibleV hm ha hb (br_t h9.symm H)))))
theorem fw_k330 {post : Int32 → St1 → Prop} {g x8 x9 x11 : Int32} {a1 a2 a3 a4 a5 a6 a7 a8 a10 c1 c2 c3 c4 c5 c6 c7 c8 c9 c10 : Nat → Int32} {l t i m a b : Nat} (hI : fw_I l t a1 a2 a3 a4 a5 a6 a7 a8 a10) (hC : fw_I (l + 1) t c1 c2 c3 c4 c5 c6 c7 c8 c10) (hA : fw_A l a1 a2 a3 a4 c1 c2 c3 c4) (hS : ∀ f, fw_S f c5 c6 t = fw_S f a5 a6 t) (hi : i < 7) (hm : m < 7) (ha : a < 16) (hb : b < 16) (h8 : x8 = fw_h (fw_g a10) 7) (h9 : x9 = fw_b (fw_P (fw_g a10) m a b)) (h11 : x11 = a7 (7 * i + m))
    (H : ∀ (g : Int32) (b1 b2 b3 b4 b5 b6 b7 b8 b9 b10 : Nat → Int32), fw_I l t b1 b2 b3 b4 b5 b6 b7 b8 b10 → post 1 (nI l, nI t, g, b1, b2, b3, b4, b5, b6, b7, b8, b9, b10)) : wL_back_330 post (nI l) (nI i) (nI m) (nI a) (nI b) x8 x9 x11 (nI (l + 1)) (nI t) g c1 c2 c3 c4 c5 c6 c7 c8 c9 c10 := by
  have hl := hI.1
  unfold wL_back_330
  refine fw_unlink hC (by omega) (fun z => absurd z (by omega)) (fun l' el hl' g' d1 d2 d3 d4 d7 d8 d9 d10 hA' hJ => ?_)
  obtain rfl : l' = l := by omega
  obtain ⟨s1, s2⟩ := fw_same hI hJ ((fw_E_congr hA').trans (fw_E_congr hA)) hS
  exact br_t rfl (fw_k341 hi hm ha hb (by rw [s1]; exact h8) (by rw [s1]; exact h9) (by rw [s2 i m hi hm]; exact h11) (H _ _ _ _ _ _ _ _ _ _ _ hJ))
theorem fw_k313 {post : Int32 → St1 → Prop} {g x8 x9 x11 x12 : Int32} {a1 a2 a3 a4 a5 a6 a7 a8 a10 b1 b2 b3 b4 b5 b6 b7 b8 b10 c5 c6 c9 c10 : Nat → Int32} {l t i m a b pl ta tb : Nat} (hI : fw_I l t a1 a2 a3 a4 a5 a6 a7 a8 a10) (hB : fw_I (l + 1) t b1 b2 b3 b4 b5 b6 b7 b8 b10) (hC : fw_I (l + 1) (t + 1) b1 b2 b3 b4 c5 c6 b7 b8 c10) (hA : fw_A l a1 a2 a3 a4 b1 b2 b3 b4) (hSb : ∀ f, fw_S f b5 b6 t = fw_S f a5 a6 t) (hpl : pl < 7) (hta : ta < 16) (htb : tb < 16) (hSc : ∀ f, fw_S f c5 c6 (t + 1) = fw_S f b5 b6 t + f (nI pl) (nI (16 * ta + tb))) (hi : i < 7) (hm : m < 7) (ha : a < 16) (hb : b < 16) (h8 : x8 = fw_h (fw_g a10) 7) (h9 : x9 = fw_b (fw_P (fw_g a10) m a b)) (h11 : x11 = a7 (7 * i + m)) (h12 : x12 = fw_h (fw_g b10) 7)
    (H : ∀ (g : Int32) (b1 b2 b3 b4 b5 b6 b7 b8 b9 b10 : Nat → Int32), fw_I l t b1 b2 b3 b4 b5 b6 b7 b8 b10 → post 1 (nI l, nI t, g, b1, b2, b3, b4, b5, b6, b7, b8, b9, b10)) : wL_back_313 post (nI l) (nI i) (nI m) (nI a) (nI b) x8 x9 x11 x12 (nI tb) (nI ta) (nI pl) (nI (l + 1)) (nI (t + 1)) g b1 b2 b3 b4 c5 c6 b7 b8 c9 c10 := by
  have ht := hI.2.1
  unfold wL_back_313
  refine fw_take hC hpl hta htb (fun h => ?_) (fun t' d5 d6 d10 et hS hJ => ?_)
  · obtain ⟨k, k1, k2, k3⟩ := fw_d_in (a5 := c5) (a6 := c6) (t := t + 1) (x := nI pl) (y := nI (16 * ta + tb)) (by
      rw [hSc, fw_dd]
      omega)
    exact absurd ⟨k2, k3⟩ (h k k1)
  · obtain rfl : t' = t := by omega
    have hS' : ∀ f, fw_S f d5 d6 t' = fw_S f b5 b6 t' := by
      intro f
      have s1 := hS f
      have s2 := hSc f
      omega
    have s1 := (fw_same hB hJ rfl hS').1
    exact br_f (nI_pos (by omega)) (fw_state (br_t (by rw [s1]; exact h12.symm) (fw_k330 hI hJ hA (fun f => (hS' f).trans (hSb f)) hi hm ha hb h8 h9 h11 H)))
theorem fw_k200 {post : Int32 → St1 → Prop} {g x8 x9 x11 : Int32} {a1 a2 a3 a4 a5 a6 a7 a8 a10 b1 b2 b3 b4 b5 b6 b7 b8 b9 b10 : Nat → Int32} {l t i m a b p q : Nat} (hI : fw_I l t a1 a2 a3 a4 a5 a6 a7 a8 a10) (hB : fw_I (l + 1) t b1 b2 b3 b4 b5 b6 b7 b8 b10) (hA : fw_A l a1 a2 a3 a4 b1 b2 b3 b4) (hat : fw_at b1 b2 b3 b4 l i m p q) (hSb : ∀ f, fw_S f b5 b6 t = fw_S f a5 a6 t) (hi : i < 7) (hm : m < 7) (ha : a < 16) (hb : b < 16) (hp : p < 4) (hq : q < 4) (h8 : x8 = fw_h (fw_g a10) 7) (h9 : x9 = fw_b (fw_P (fw_g a10) m a b)) (h11 : x11 = a7 (7 * i + m))
    (H : ∀ (g : Int32) (b1 b2 b3 b4 b5 b6 b7 b8 b9 b10 : Nat → Int32), fw_I l t b1 b2 b3 b4 b5 b6 b7 b8 b10 → post 1 (nI l, nI t, g, b1, b2, b3, b4, b5, b6, b7, b8, b9, b10)) : wL_back_200 post (nI l) (nI i) (nI m) (nI a) (nI b) (nI p) (nI q) x8 x9 x11 (nI (l + 1)) (nI t) g b1 b2 b3 b4 b5 b6 b7 b8 b9 b10 := by
  have hl := hI.1
  unfold wL_back_200
  refine fw_state ?_
  refine fw_put hB hi ha hb (fun z => br_t (by decide) (fw_k330 hI hB hA hSb hi hm ha hb h8 h9 h11 H)) (fun z c10 hC => br_f (nI_nle (by omega) (by omega)) ?_)
  refine fw_pass hC (k := l) (by omega) ha hb (fun h => ?_) (fun p' q' _ hp' hq' e3 e4 nin => ?_) (fun i' j' p' q' _ hi' hj' hp' hq' e1 e2 e3 e4 in1 in2 d5 d6 d10 hS hD => ?_)
  · exact absurd ⟨pk_us.trans hat.1.symm, pk_us⟩ (h (by omega) t (by omega))
  · obtain rfl : p' = p := fw_nE (by omega) (by omega) (e3.symm.trans hat.2.2.1)
    obtain rfl : q' = q := fw_nE (by omega) (by omega) (e4.symm.trans hat.2.2.2)
    have k : wL_back_253 post (nI l) (nI i) (nI m) (nI a) (nI b) (nI p') (nI q') x8 x9 x11 (fw_h (fw_g b10) 7) (-2) (nI (l + 1)) (nI (t + 1)) g b1 b2 b3 b4 (upd b5 t (nI i)) (upd b6 t (nI (16 * a + b))) b7 b8 b9 c10 := by
      refine br_t (c := (0 : Int32) = 0) rfl (br_t rfl (br_t rfl (br_t rfl (br_t rfl ?_))))
      exact fw_k313 hI hB hC hA hSb hi ha hb (fun f => fw_S_put f b5 b6 t _ _) hi hm ha hb h8 h9 h11 rfl H
    exact pk_lt 15 (a + p') (fun _ => k) (fun y => pk_lt 15 (b + q') (fun _ => k) (fun y' => absurd ⟨by omega, by omega⟩ nin) rfl (nI_add _ _)) rfl (nI_add _ _)
  · obtain rfl : i' = i := fw_nE (by omega) (by omega) (e1.symm.trans hat.1)
    obtain rfl : j' = m := fw_nE (by omega) (by omega) (e2.symm.trans hat.2.1)
    obtain rfl : p' = p := fw_nE (by omega) (by omega) (e3.symm.trans hat.2.2.1)
    obtain rfl : q' = q := fw_nE (by omega) (by omega) (e4.symm.trans hat.2.2.2)
    refine pk_lt 15 (a + p') (fun y => absurd y (by omega)) (fun y => pk_lt 15 (b + q') (fun y' => absurd y' (by omega)) (fun y' => ?_) rfl (nI_add _ _)) rfl (nI_add _ _)
    refine br_f fw_10 (br_t rfl (br_f fw_10 (br_f fw_10 (br_f fw_10 ?_))))
    rw [nI_add, nI_add]
    refine fw_k313 hI hB hD hA hSb hj' in1 in2 (fun f => ?_) hi hm ha hb h8 h9 h11 rfl H
    have s := hS f
    rw [fw_S_put] at s
    omega
theorem fw_k104 {post : Int32 → St1 → Prop} {g x8 x9 : Int32} {a1 a2 a3 a4 a5 a6 a7 a8 a9 a10 : Nat → Int32} {l t i m a b p q : Nat} (hI : fw_I l t a1 a2 a3 a4 a5 a6 a7 a8 a10) (hi : i < 7) (hm : m < 7) (ha : a < 16) (hb : b < 16) (hp : p < 4) (hq : q < 4) (h8 : x8 = fw_h (fw_g a10) 7) (h9 : x9 = fw_b (fw_P (fw_g a10) m a b))
    (H : ∀ (g : Int32) (b1 b2 b3 b4 b5 b6 b7 b8 b9 b10 : Nat → Int32), fw_I l t b1 b2 b3 b4 b5 b6 b7 b8 b10 → post 1 (nI l, nI t, g, b1, b2, b3, b4, b5, b6, b7, b8, b9, b10)) : wL_back_104 post (nI l) (nI i) (nI m) (nI a) (nI b) (nI p) (nI q) x8 x9 (nI l) (nI t) g a1 a2 a3 a4 a5 a6 a7 a8 a9 a10 := by
  have hl := hI.1
  unfold wL_back_104
  refine fw_shortest hi hm ?_
  refine fw_link hI hi hm hp hq (fun z => br_f (by rw [z]; decide) (fw_k341 hi hm ha hb h8 h9 rfl (H _ _ _ _ _ _ _ _ _ _ _ hI))) (fun z g1 b7 b8 b9 b10 hB => br_t (nI_1 l).symm ?_)
  have hat : fw_at (upd a1 l (nI i)) (upd a2 l (nI m)) (upd a3 l (nI p)) (upd a4 l (nI q)) l i m p q := ⟨pk_us, pk_us, pk_us, pk_us⟩
  refine fw_possibleV hm ha hb (br_f ?_ (fw_shortest hi hm (br_t ?_ ?_)))
  · rw [h9]
    refine fw_bm (fun y => (fw_Piff hB hm ha hb).mpr ?_)
    obtain ⟨k, hk, x0, y0, u1, u2, u3⟩ := (fw_Piff hI hm ha hb).mp y
    refine ⟨k, hk, x0, y0, fw_U_mono (fun i' j' p' q' e => fw_E_le _ _ _ _ ?_) 7 u1, u2, u3⟩
    rw [fw_E_congr fw_A_upd]
    exact e
  · obtain ⟨n, P, Q, hL, h7, _⟩ := hB.2.2.2.2.1 i m hi hm
    have hn := hL.1
    rw [h7]
    obtain ⟨e, e1, _⟩ := (hL.2.2.2 p q).mp (fw_U_0 (Or.inr ⟨p, q, fw_E_in (by omega) hi hm hp hq hat, Nat.le_refl _, Nat.le_refl _⟩) 7)
    exact nI_le (a := 1) (by omega) (by omega)
  · refine fw_link hB hi hm hp hq (fun z2 => br_f (by rw [show l = 11 by omega]; decide) (fw_k200 hI hB fw_A_upd hat (fun _ => rfl) hi hm ha hb hp hq h8 h9 rfl H)) (fun z2 g2 c7 c8 c9 c10 hC => br_t (nI_add l 2).symm ?_)
    refine fw_state ?_
    rw [nI_1]
    refine fw_unlink hC (k := l + 1) (by omega) (fun y => absurd y (by omega)) (fun l' el hl' g3 d1 d2 d3 d4 d7 d8 d9 d10 hA' hD => ?_)
    obtain rfl : l' = l + 1 := by omega
    have hat2 : fw_at (upd (upd a1 l (nI i)) (l + 1) (nI i)) (upd (upd a2 l (nI m)) (l + 1) (nI m)) (upd (upd a3 l (nI p)) (l + 1) (nI p)) (upd (upd a4 l (nI q)) (l + 1) (nI q)) l i m p q := ⟨(pk_un (by omega)).trans pk_us, (pk_un (by omega)).trans pk_us, (pk_un (by omega)).trans pk_us, (pk_un (by omega)).trans pk_us⟩
    have s1 := (fw_same hC hD ((fw_E_congr hA').trans (fw_E_twice hi hm hp hq hat2 ⟨pk_us, pk_us, pk_us, pk_us⟩).symm) (fun _ => rfl)).1
    have hA2 : fw_A l a1 a2 a3 a4 d1 d2 d3 d4 := by
      intro e he
      obtain ⟨y1, y2, y3, y4⟩ := hA' e (by omega)
      rw [y1, y2, y3, y4]
      exact ⟨(pk_un (by omega)).trans (pk_un (by omega)), (pk_un (by omega)).trans (pk_un (by omega)), (pk_un (by omega)).trans (pk_un (by omega)), (pk_un (by omega)).trans (pk_un (by omega))⟩
    have hat3 : fw_at d1 d2 d3 d4 l i m p q := by
      obtain ⟨y1, y2, y3, y4⟩ := hA' l (by omega)
      unfold fw_at
      rw [y1, y2, y3, y4]
      exact hat2
    exact br_t rfl (fw_state (br_t (by rw [s1]) (fw_k200 hI hD hA2 hat3 (fun _ => rfl) hi hm ha hb hp hq h8 h9 rfl H)))
theorem fw_back {post : Int32 → St1 → Prop} {g : Int32} {a1 a2 a3 a4 a5 a6 a7 a8 a9 a10 : Nat → Int32} {l t i m a b p q : Nat} (hI : fw_I l t a1 a2 a3 a4 a5 a6 a7 a8 a10) (hi : i < 7) (hm : m < 7) (ha : a < 16) (hb : b < 16) (hp : p < 4) (hq : q < 4)
    (H : ∀ (g : Int32) (b1 b2 b3 b4 b5 b6 b7 b8 b9 b10 : Nat → Int32), fw_I l t b1 b2 b3 b4 b5 b6 b7 b8 b10 → post 1 (nI l, nI t, g, b1, b2, b3, b4, b5, b6, b7, b8, b9, b10)) : wpL_back post (nI l, nI t, g, a1, a2, a3, a4, a5, a6, a7, a8, a9, a10) (nI l) (nI i) (nI m) (nI a) (nI b) (nI p) (nI q) := by
  have ht := hI.2.1
  unfold wpL_back
  refine fw_state (fw_possibleV hm ha hb (fw_readyV hI hi ha hb ?_))
  refine fw_put hI hi ha hb (fun z => br_t (by decide) (fw_k104 hI hi hm ha hb hp hq rfl rfl H)) (fun z c10 hC => br_f (nI_nle (by omega) (by omega)) ?_)
  refine fw_possibleV hi ha hb (br_t (fw_b1 ?_) (fw_possibleV hm ha hb (br_f (fw_bm (fun y => ?_)) (fw_readyV hC hi ha hb (br_f (fw_bm (fun y => ?_)) ?_)))))
  · refine (fw_Piff hC hi ha hb).mpr ⟨t, by omega, 0, 0, ?_, ?_, ?_⟩
    · rw [pk_us, nI_clamp (by omega)]
      exact fw_U_self 7
    · rw [pk_us, nI_clamp (by omega)]
      omega
    · rw [pk_us, nI_clamp (by omega)]
      omega
  · obtain ⟨k, hk, hr⟩ := (fw_Piff hI hm ha hb).mp y
    refine (fw_Piff hC hm ha hb).mpr ⟨k, by omega, ?_⟩
    rw [pk_un (by omega), pk_un (by omega)]
    exact hr
  · obtain ⟨⟨k, y1, y2, y3⟩, y4⟩ := y
    refine ⟨⟨t, by omega, pk_us, pk_us⟩, fun k' hk' n => ?_⟩
    by_cases e : k' = t
    · subst e
      exact absurd ⟨pk_us, pk_us⟩ n
    · rw [pk_un e, pk_un e] at n ⊢
      exact y4 k' (by omega) n
  · refine fw_take hC hi ha hb (fun h => absurd ⟨pk_us, pk_us⟩ (h t (by omega))) (fun t' d5 d6 d10 et hS hJ => ?_)
    obtain rfl : t' = t := by omega
    have hS' : ∀ f, fw_S f d5 d6 t' = fw_S f a5 a6 t' := by
      intro f
      have s1 := hS f
      rw [fw_S_put] at s1
      omega
    have s1 := (fw_same hI hJ rfl hS').1
    exact br_f (nI_pos (by omega)) (fw_state (br_t (by rw [s1]) (fw_k104 hJ hi hm ha hb hp hq (by rw [s1]) (by rw [s1]) H)))
end
section
/-! the law's turns -/
theorem fw_t218 {post : Int32 → Prop} {L : Nat} {xs : Nat → Int32} {J : Int32 → Int32 → Int32 → Int32 → Int32 → (Nat → Int32) → (Nat → Int32) → (Nat → Int32) → (Nat → Int32) → (Nat → Int32) → (Nat → Int32) → (Nat → Int32) → (Nat → Int32) → (Nat → Int32) → (Nat → Int32) → Prop} {kc ks i k c d a b p q : Nat} (hk : k < 8) (hc : c < 7) (hd : d < 7) (ha : a < 16) (hb : b < 16) (hp : p < 4) (hq : q < 4)
    (hJ : ∀ (l t : Nat) (g : Int32) (a1 a2 a3 a4 a5 a6 a7 a8 a9 a10 : Nat → Int32), fw_I l t a1 a2 a3 a4 a5 a6 a7 a8 a10 → J (nI l) (nI (i + 4)) (nI l) (nI t) g a1 a2 a3 a4 a5 a6 a7 a8 a9 a10) {l t : Nat} {g : Int32} {a1 a2 a3 a4 a5 a6 a7 a8 a9 a10 : Nat → Int32} (hI : fw_I l t a1 a2 a3 a4 a5 a6 a7 a8 a10) :
    wL_law_218 post L xs J (nI l) (nI i) (nI k) (nI c) (nI d) (nI a) (nI b) (nI p) (nI q) kc ks (nI l) (nI t) g a1 a2 a3 a4 a5 a6 a7 a8 a9 a10 := by
  unfold wL_law_218
  exact pk_lt k 5 (fun _ => nm_r (nI_add i 4) (hJ _ _ _ _ _ _ _ _ _ _ _ _ _ hI)) (fun _ => fw_back hI hc hd ha hb hp hq (fun g' b1 b2 b3 b4 b5 b6 b7 b8 b9 b10 hI' => br_f fw_10 (nm_r (nI_add i 4) (hJ _ _ _ _ _ _ _ _ _ _ _ _ _ hI'))))
theorem fw_t200 {post : Int32 → Prop} {L : Nat} {xs : Nat → Int32} {J : Int32 → Int32 → Int32 → Int32 → Int32 → (Nat → Int32) → (Nat → Int32) → (Nat → Int32) → (Nat → Int32) → (Nat → Int32) → (Nat → Int32) → (Nat → Int32) → (Nat → Int32) → (Nat → Int32) → (Nat → Int32) → Prop} {kc ks i k c d a b p q : Nat} (hk : k < 8) (hc : c < 7) (hd : d < 7) (ha : a < 16) (hb : b < 16) (hp : p < 4) (hq : q < 4)
    (hJ : ∀ (l t : Nat) (g : Int32) (a1 a2 a3 a4 a5 a6 a7 a8 a9 a10 : Nat → Int32), fw_I l t a1 a2 a3 a4 a5 a6 a7 a8 a10 → J (nI l) (nI (i + 4)) (nI l) (nI t) g a1 a2 a3 a4 a5 a6 a7 a8 a9 a10) {l t : Nat} {g : Int32} {a1 a2 a3 a4 a5 a6 a7 a8 a9 a10 : Nat → Int32} (hI : fw_I l t a1 a2 a3 a4 a5 a6 a7 a8 a10) :
    wL_law_200 post L xs J (nI l) (nI i) (nI k) (nI c) (nI d) (nI a) (nI b) (nI p) (nI q) kc ks (nI l) (nI t) g a1 a2 a3 a4 a5 a6 a7 a8 a9 a10 := by
  unfold wL_law_200
  exact pk_eq k 6 (fun _ => fw_pass hI (k := d) (by omega) ha hb (fun _ => fw_t218 hk hc hd ha hb hp hq hJ hI) (fun _ _ _ _ _ _ _ _ => fw_t218 hk hc hd ha hb hp hq hJ hI) (fun _ _ _ _ _ _ _ _ _ _ _ _ _ _ _ _ _ _ _ hD => fw_t218 hk hc hd ha hb hp hq hJ hD)) (fun _ => fw_t218 hk hc hd ha hb hp hq hJ hI)
theorem fw_t177 {post : Int32 → Prop} {L : Nat} {xs : Nat → Int32} {J : Int32 → Int32 → Int32 → Int32 → Int32 → (Nat → Int32) → (Nat → Int32) → (Nat → Int32) → (Nat → Int32) → (Nat → Int32) → (Nat → Int32) → (Nat → Int32) → (Nat → Int32) → (Nat → Int32) → (Nat → Int32) → Prop} {kc ks i k c d a b p q : Nat} (hk : k < 8) (hc : c < 7) (hd : d < 7) (ha : a < 16) (hb : b < 16) (hp : p < 4) (hq : q < 4)
    (hJ : ∀ (l t : Nat) (g : Int32) (a1 a2 a3 a4 a5 a6 a7 a8 a9 a10 : Nat → Int32), fw_I l t a1 a2 a3 a4 a5 a6 a7 a8 a10 → J (nI l) (nI (i + 4)) (nI l) (nI t) g a1 a2 a3 a4 a5 a6 a7 a8 a9 a10) {l t : Nat} {g : Int32} {a1 a2 a3 a4 a5 a6 a7 a8 a9 a10 : Nat → Int32} (hI : fw_I l t a1 a2 a3 a4 a5 a6 a7 a8 a10) :
    wL_law_177 post L xs J (nI l) (nI i) (nI k) (nI c) (nI d) (nI a) (nI b) (nI p) (nI q) kc ks (nI l) (nI t) g a1 a2 a3 a4 a5 a6 a7 a8 a9 a10 := by
  have hl := hI.1
  unfold wL_law_177
  refine pk_eq k 5 (fun _ => fw_unlink hI (k := d) (by omega) (fun _ => br_t (by decide) (fw_t200 hk hc hd ha hb hp hq hJ hI)) (fun l' el _ g' b1 b2 b3 b4 b7 b8 b9 b10 _ hD => br_f (nI_pos (by omega)) ?_)) (fun _ => fw_t200 hk hc hd ha hb hp hq hJ hI)
  rw [el, nI_pred]
  exact fw_t200 hk hc hd ha hb hp hq hJ hD
theorem fw_t160 {post : Int32 → Prop} {L : Nat} {xs : Nat → Int32} {J : Int32 → Int32 → Int32 → Int32 → Int32 → (Nat → Int32) → (Nat → Int32) → (Nat → Int32) → (Nat → Int32) → (Nat → Int32) → (Nat → Int32) → (Nat → Int32) → (Nat → Int32) → (Nat → Int32) → (Nat → Int32) → Prop} {kc ks i k c d a b p q : Nat} (hk : k < 8) (hc : c < 7) (hd : d < 7) (ha : a < 16) (hb : b < 16) (hp : p < 4) (hq : q < 4)
    (hJ : ∀ (l t : Nat) (g : Int32) (a1 a2 a3 a4 a5 a6 a7 a8 a9 a10 : Nat → Int32), fw_I l t a1 a2 a3 a4 a5 a6 a7 a8 a10 → J (nI l) (nI (i + 4)) (nI l) (nI t) g a1 a2 a3 a4 a5 a6 a7 a8 a9 a10) {l t : Nat} {g : Int32} {a1 a2 a3 a4 a5 a6 a7 a8 a9 a10 : Nat → Int32} (hI : fw_I l t a1 a2 a3 a4 a5 a6 a7 a8 a10) :
    wL_law_160 post L xs J (nI l) (nI i) (nI k) (nI c) (nI d) (nI a) (nI b) (nI p) (nI q) kc ks (nI l) (nI t) g a1 a2 a3 a4 a5 a6 a7 a8 a9 a10 := by
  unfold wL_law_160
  exact pk_eq k 4 (fun _ => fw_take hI hc ha hb (fun _ => fw_t177 hk hc hd ha hb hp hq hJ hI) (fun _ _ _ _ _ _ hD => fw_t177 hk hc hd ha hb hp hq hJ hD)) (fun _ => fw_t177 hk hc hd ha hb hp hq hJ hI)
theorem fw_t137 {post : Int32 → Prop} {L : Nat} {xs : Nat → Int32} {J : Int32 → Int32 → Int32 → Int32 → Int32 → (Nat → Int32) → (Nat → Int32) → (Nat → Int32) → (Nat → Int32) → (Nat → Int32) → (Nat → Int32) → (Nat → Int32) → (Nat → Int32) → (Nat → Int32) → (Nat → Int32) → Prop} {kc ks i k c d a b p q : Nat} (hk : k < 8) (hc : c < 7) (hd : d < 7) (ha : a < 16) (hb : b < 16) (hp : p < 4) (hq : q < 4)
    (hJ : ∀ (l t : Nat) (g : Int32) (a1 a2 a3 a4 a5 a6 a7 a8 a9 a10 : Nat → Int32), fw_I l t a1 a2 a3 a4 a5 a6 a7 a8 a10 → J (nI l) (nI (i + 4)) (nI l) (nI t) g a1 a2 a3 a4 a5 a6 a7 a8 a9 a10) {l t : Nat} {g : Int32} {a1 a2 a3 a4 a5 a6 a7 a8 a9 a10 : Nat → Int32} (hI : fw_I l t a1 a2 a3 a4 a5 a6 a7 a8 a10) :
    wL_law_137 post L xs J (nI l) (nI i) (nI k) (nI c) (nI d) (nI a) (nI b) (nI p) (nI q) kc ks (nI l) (nI t) g a1 a2 a3 a4 a5 a6 a7 a8 a9 a10 := by
  have put : wL_law_149 post L xs J (nI l) (nI i) (nI k) (nI c) (nI d) (nI a) (nI b) (nI p) (nI q) kc ks (nI l) (nI t) g a1 a2 a3 a4 a5 a6 a7 a8 a9 a10 := by
    unfold wL_law_149
    exact fw_put hI hc ha hb (fun _ => fw_t160 hk hc hd ha hb hp hq hJ hI) (fun _ _ hD => fw_t160 hk hc hd ha hb hp hq hJ hD)
  unfold wL_law_137
  exact pk_eq k 2 (fun _ => put) (fun _ => pk_eq k 3 (fun _ => put) (fun _ => fw_t160 hk hc hd ha hb hp hq hJ hI))
theorem fw_m7 (x : Int32) : ∃ j, j < 7 ∧ (x &&& 255) - (x &&& 255) / 7 * 7 = nI j := by
  obtain ⟨v, hv, e⟩ := pk_andE x (m := 255) 8 (by decide)
  rw [e]
  exact ⟨v % 7, by omega, pk_rem (a := v) (d := 7) (by omega) (by omega) (by omega)⟩
theorem fw_loop {L : Nat} {xs : Nat → Int32} (hL : L ≤ 260) {kc ks : Nat} (n : Nat) : ∀ (i l t : Nat) (g : Int32) (a1 a2 a3 a4 a5 a6 a7 a8 a9 a10 : Nat → Int32), i ≤ 123 → 124 ≤ i + 4 * n → fw_I l t a1 a2 a3 a4 a5 a6 a7 a8 a10 → wL_law_12 (fun r => r = 1) L xs kc ks n (nI l) (nI i) (nI l) (nI t) g a1 a2 a3 a4 a5 a6 a7 a8 a9 a10 := by
  induction n with
  | zero => intro i l t g a1 a2 a3 a4 a5 a6 a7 a8 a9 a10 h1 h2; exact absurd h2 (by omega)
  | succ n ih =>
    intro i l t g a1 a2 a3 a4 a5 a6 a7 a8 a9 a10 h1 h2 hI
    have out : wL_law_252 (fun r => r = 1) L xs (nI l) kc ks (nI l) (nI t) g a1 a2 a3 a4 a5 a6 a7 a8 a9 a10 := by
      unfold wL_law_252
      exact fw_back (i := 1) (m := 2) (a := 3) (b := 4) (p := 1) (q := 0) hI (by omega) (by omega) (by omega) (by omega) (by omega) (by omega) (fun g' b1 b2 b3 b4 b5 b6 b7 b8 b9 b10 _ => rfl)
    refine pk_lt L (i + 4) (fun _ => out) (fun z => ?_) rfl (nI_add i 4)
    refine pk_le 120 i (fun _ => out) (fun z' => ?_)
    obtain ⟨k, hk, ek⟩ := pk_andE (xs (nI i).toNatClampNeg) (m := 7) 3 (by decide)
    obtain ⟨c, hc, ec⟩ := fw_m7 (xs (nI i + 1).toNatClampNeg)
    obtain ⟨d, hd, ed⟩ := fw_m7 (xs (nI i + 2).toNatClampNeg)
    obtain ⟨a, ha, ea⟩ := pk_andE (xs (nI i + 3).toNatClampNeg) (m := 15) 4 (by decide)
    obtain ⟨b, hb, eb⟩ := pk_andE (xs (nI i + 3).toNatClampNeg >>> ((4 : Int32) &&& 31)) (m := 15) 4 (by decide)
    obtain ⟨p, hp, ep⟩ := pk_andE (xs (nI i + 3).toNatClampNeg >>> ((8 : Int32) &&& 31)) (m := 3) 2 (by decide)
    obtain ⟨q, hq, eq⟩ := pk_andE (xs (nI i + 3).toNatClampNeg >>> ((10 : Int32) &&& 31)) (m := 3) 2 (by decide)
    have i3 : vp_in (nI i + 3) L := pk_in (i + 3) L (by omega) (nI_add i 3)
    refine ⟨pk_in i L (by omega), nm_r ek ⟨pk_in (i + 1) L (by omega) (nI_1 i), by decide, nm_r ec ⟨pk_in (i + 2) L (by omega) (nI_add i 2), by decide, nm_r ed ⟨i3, nm_r ea ⟨i3, nm_r eb ⟨i3, nm_r ep ⟨i3, nm_r eq ?_⟩⟩⟩⟩⟩⟩⟩
    have hJ : ∀ (l t : Nat) (g : Int32) (a1 a2 a3 a4 a5 a6 a7 a8 a9 a10 : Nat → Int32), fw_I l t a1 a2 a3 a4 a5 a6 a7 a8 a10 → wL_law_12 (fun r => r = 1) L xs kc ks n (nI l) (nI (i + 4)) (nI l) (nI t) g a1 a2 a3 a4 a5 a6 a7 a8 a9 a10 := fun l t g a1 a2 a3 a4 a5 a6 a7 a8 a9 a10 h => ih (i + 4) l t g a1 a2 a3 a4 a5 a6 a7 a8 a9 a10 (by omega) (by omega) h
    refine pk_lt 1 k (fun _ => fw_t137 hk hc hd ha hb hp hq hJ hI) (fun _ => ?_)
    refine fw_link hI hc hd hp hq (fun _ => br_t (by decide) (fw_t137 hk hc hd ha hb hp hq hJ hI)) (fun y g' b7 b8 b9 b10 hB => br_f (nI_nle (by omega) (by omega)) ?_)
    rw [nI_1]
    exact fw_t137 hk hc hd ha hb hp hq hJ hB
theorem i_vc (xs : Nat → Int32) (L : Nat) (hL : L ≤ 260) : wpL_law (fun r => r = 1) L xs := by
  unfold wpL_law
  exact ⟨10, 2900, by omega, by omega, fw_init (fun g b1 b2 b3 b4 b5 b6 b7 b8 b9 b10 hI => ⟨31, fw_loop hL 31 0 0 0 g b1 b2 b3 b4 b5 b6 b7 b8 b9 b10 (by omega) (by omega) hI⟩)⟩
end
