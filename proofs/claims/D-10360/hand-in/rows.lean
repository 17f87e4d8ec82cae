section
/-! ===== the picture: tables, summaries, counts ===== -/
def rk_B : List Nat := [1, 0, 0, 0, 0, 0, 0, 0, 1, 1, 0, 0, 0, 0, 0, 0, 1, 2, 1, 0, 0, 0, 0, 0, 1, 3, 3, 1, 0, 0, 0, 0, 1, 4, 6, 4, 1, 0, 0, 0, 1, 5, 10, 10, 5, 1, 0, 0, 1, 6, 15, 20, 15, 6, 1, 0, 1, 7, 21, 35, 35, 21, 7, 1]
def rk_E : List Nat := [1, 1, 1, 1, 1, 1, 1, 1, 1, 1, 1, 1, 1, 1, 1, 1, 1, 2, 3, 4, 5, 6, 7, 8, 9, 10, 11, 12, 13, 14, 15, 0, 2, 5, 10, 17, 26, 37, 50, 65, 82, 101, 122, 145, 170, 197, 0, 0, 5, 15, 37, 77, 141, 235, 365, 537, 757, 1031, 1365, 1765, 2237, 0, 0, 0, 15, 52, 151, 372, 799, 1540, 2727, 4516, 7087, 10644, 15415, 21652, 0, 0, 0, 0, 52, 203, 674, 1915, 4736, 10427, 20878, 38699, 67340, 111211, 175802, 0, 0, 0, 0, 0, 203, 877, 3263, 10481, 29371, 73013, 163967, 338233, 649931, 1176701, 0, 0, 0, 0, 0, 0, 877, 4140, 17007, 60814, 190497, 529032, 1322035, 3017562, 6376149, 0, 0, 0, 0, 0, 0, 0]
def rk_N : List Nat := [1, 0, 0, 0, 0, 0, 0, 0, 1, 1, 0, 0, 0, 0, 0, 0, 1, 2, 2, 0, 0, 0, 0, 0, 1, 3, 5, 5, 0, 0, 0, 0, 1, 4, 9, 14, 14, 0, 0, 0, 1, 5, 14, 28, 42, 42, 0, 0, 1, 6, 20, 48, 90, 132, 132, 0, 1, 7, 27, 75, 165, 297, 429, 429]
def rk_F : List Nat := [1, 1, 2, 6, 24, 120, 720, 5040]
def rk_wy (r : Nat) : Nat → Nat
  | 0 => 1
  | k + 1 => rk_wy r k * (r + (k + 1)) / (k + 1)
def rk_st (s a x : Nat) : Nat := if s = 0 then x + 1 else if s = 1 then a ||| 2 ^ x else if s = 2 then max a (x + 1) else a + x
def rk_cn (s n l i a : Nat) : Nat :=
  if s = 1 then rk_F.getD (l - i) 0
  else if s = 2 then rk_E.getD (16 * (l - i) + a) 0
  else if s = 0 then (if l - i ≤ n - a then rk_B.getD (8 * (n - a) + (l - i)) 0 else 0)
  else if s = 3 then rk_N.getD (8 * (n + a - i) + (n - a)) 0
  else if n < a then 0 else if l - i = 0 then (if n - a = 0 then 1 else 0) else rk_wy (n - a) (l - i - 1)
def rk_my (s n i a x : Nat) : Bool :=
  if s = 0 then decide (x < n) && decide (a ≤ x)
  else if s = 1 then decide (x < n) && !a.testBit x
  else if s = 2 then decide (x ≤ a)
  else if s = 4 then decide (x ≤ n)
  else decide (x ≤ 1) && (if x = 1 then decide (a < n) else decide (i < 2 * a))
def rk_wn (s n l i a x : Nat) : Nat := if rk_my s n i a x = true then rk_cn s n l (i + 1) (rk_st s a x) else 0
def rk_S (s n l i a : Nat) : Nat → Nat
  | 0 => 0
  | x + 1 => rk_S s n l i a x + rk_wn s n l i a x
def rk_fr (a : Nat) : Nat → Nat
  | 0 => 0
  | x + 1 => rk_fr a x + (if a.testBit x = true then 0 else 1)
def rk_VC (s n l : Nat) : Prop := 1 ≤ n ∧ n ≤ 7 ∧ (s = 0 ∧ l ≤ n ∨ s = 1 ∧ l = n ∨ s = 2 ∧ l = n ∨ s = 3 ∧ l = 2 * n ∨ s = 4 ∧ l ≤ n)
def rk_I (s n l i a : Nat) : Prop := i ≤ l ∧ (s = 0 → i ≤ a ∧ a ≤ n) ∧ (s = 1 → a < 2 ^ n ∧ rk_fr a n + i = n) ∧ (s = 2 → a ≤ i) ∧ (s = 3 → a ≤ n ∧ a ≤ i ∧ i ≤ 2 * a)
/-! ===== finite facts ===== -/
def rk_ck (s n l : Nat) : Bool := (List.range 8).all (fun i => (List.range 8).all (fun a => !(decide (i < l) && decide (a ≤ n)) || rk_cn s n l i a == rk_S s n l i a 8))
theorem rk_ckE {s n l i a : Nat} (h : rk_ck s n l = true) (hi : i < 8) (h1 : i < l) (ha : a < 8) (h2 : a ≤ n) : rk_cn s n l i a = rk_S s n l i a 8 := by
  have h3 : (!(decide (i < l) && decide (a ≤ n)) || rk_cn s n l i a == rk_S s n l i a 8) = true := List.all_eq_true.mp (List.all_eq_true.mp h i (List.mem_range.mpr hi)) a (List.mem_range.mpr ha)
  rw [decide_eq_true h1, decide_eq_true h2] at h3
  exact eq_of_beq h3
theorem rk_A0 : ∀ n, n < 8 → ∀ l, l < 8 → rk_ck 0 n l = true := by decide +kernel
theorem rk_A1 : ∀ n, n < 8 → ∀ a, a < 128 → ∀ i, i < 8 → i < n → rk_fr a n + i = n → rk_cn 1 n n i a = rk_S 1 n n i a 8 := by decide +kernel
theorem rk_A2 : ∀ n, n < 8 → ∀ i, i < 8 → i < n → ∀ a, a < 8 → a ≤ i → rk_cn 2 n n i a = rk_S 2 n n i a 8 := by decide +kernel
theorem rk_A3 : ∀ n, n < 8 → ∀ i, i < 14 → ∀ a, a < 8 → (i < 2 * n ∧ a ≤ n ∧ a ≤ i ∧ i ≤ 2 * a) → rk_cn 3 n (2 * n) i a = rk_S 3 n (2 * n) i a 8 := by decide +kernel
theorem rk_A4 : ∀ n, n < 8 → ∀ l, l < 8 → rk_ck 4 n l = true := by decide +kernel
theorem rk_fr1 : ∀ n, n < 8 → ∀ a, a < 128 → ∀ x, x < 8 → x < n → a.testBit x = false → rk_fr (a ||| 2 ^ x) n + 1 = rk_fr a n := by decide +kernel
theorem rk_fr0 : ∀ n, n < 8 → rk_fr 0 n = n := by decide +kernel
theorem rk_b0 : ∀ n, n < 8 → ∀ l, l < 8 → rk_cn 0 n l 0 0 ≤ 5040 := by decide +kernel
theorem rk_b1 : ∀ n, n < 8 → rk_cn 1 n n 0 0 ≤ 5040 := by decide +kernel
theorem rk_b2 : ∀ n, n < 8 → rk_cn 2 n n 0 0 ≤ 5040 := by decide +kernel
theorem rk_b3 : ∀ n, n < 8 → rk_cn 3 n (2 * n) 0 0 ≤ 5040 := by decide +kernel
theorem rk_b4 : ∀ n, n < 8 → ∀ l, l < 8 → rk_cn 4 n l 0 0 ≤ 5040 := by decide +kernel
theorem rk_L0 : ∀ n, n < 8 → ∀ a, a < 8 → a ≤ n → rk_B.getD (8 * (n - a) + 0) 0 = 1 := by decide +kernel
theorem rk_L2 : ∀ a, a < 8 → rk_E.getD (16 * 0 + a) 0 = 1 := by decide +kernel
/-! ===== one step of the summary ===== -/
theorem rk_S0 {s n l i a : Nat} : ∀ k, (∀ x, x < k → rk_wn s n l i a x = 0) → rk_S s n l i a k = 0
  | 0, _ => rfl
  | k + 1, h => by
    show rk_S s n l i a k + rk_wn s n l i a k = 0
    rw [rk_S0 k (fun x hx => h x (by omega)), h k (by omega)]
theorem rk_Sm {s n l i a x : Nat} : ∀ y, x ≤ y → rk_S s n l i a x ≤ rk_S s n l i a y
  | 0, h => by
    have : x = 0 := by omega
    subst this
    exact Nat.le_refl _
  | y + 1, h => by
    by_cases e : x = y + 1
    · rw [e]; exact Nat.le_refl _
    · exact Nat.le_trans (rk_Sm y (by omega)) (Nat.le_add_right _ _)
theorem rk_A {s n l i a : Nat} (vc : rk_VC s n l) (h : rk_I s n l i a) (hi : i < l) : rk_cn s n l i a = rk_S s n l i a 8 := by
  obtain ⟨h1, h7, vc⟩ := vc
  obtain ⟨hl, i0, i1, i2, i3⟩ := h
  rcases vc with ⟨rfl, e⟩ | ⟨rfl, rfl⟩ | ⟨rfl, rfl⟩ | ⟨rfl, rfl⟩ | ⟨rfl, e⟩
  · exact rk_ckE (rk_A0 n (by omega) l (by omega)) (by omega) hi (by have := i0 rfl; omega) (i0 rfl).2
  · have hb := (i1 rfl).1
    have : 2 ^ l ≤ 2 ^ 7 := Nat.pow_le_pow_right (by omega) h7
    exact rk_A1 l (by omega) a (by omega) i (by omega) hi (i1 rfl).2
  · exact rk_A2 l (by omega) i (by omega) hi a (by have := i2 rfl; omega) (i2 rfl)
  · have := i3 rfl
    exact rk_A3 n (by omega) i (by omega) a (by omega) ⟨hi, this⟩
  · by_cases ha : a ≤ n
    · exact rk_ckE (rk_A4 n (by omega) l (by omega)) (by omega) hi (by omega) ha
    · have z : ∀ i b, n < b → rk_cn 4 n l i b = 0 := by
        intro i b hb
        unfold rk_cn
        rw [if_neg (by decide), if_neg (by decide), if_neg (by decide), if_neg (by decide), if_pos hb]
      rw [z i a (by omega), rk_S0 8 (fun x _ => ?_)]
      unfold rk_wn
      have hs : rk_st 4 a x = a + x := rfl
      rw [hs, z (i + 1) (a + x) (by omega)]
      exact ite_self 0
theorem rk_I0 {s n l : Nat} (vc : rk_VC s n l) : rk_I s n l 0 0 := by
  obtain ⟨h1, h7, vc⟩ := vc
  refine ⟨by omega, fun _ => by omega, fun _ => ⟨Nat.two_pow_pos n, rk_fr0 n (by omega)⟩, fun _ => by omega, fun _ => by omega⟩
theorem rk_Is {s n l i a x : Nat} (vc : rk_VC s n l) (h : rk_I s n l i a) (hi : i < l) (hx : x < 8) (hm : rk_my s n i a x = true) : rk_I s n l (i + 1) (rk_st s a x) := by
  obtain ⟨h1, h7, vc⟩ := vc
  obtain ⟨hl, i0, i1, i2, i3⟩ := h
  rcases vc with ⟨rfl, e⟩ | ⟨rfl, rfl⟩ | ⟨rfl, rfl⟩ | ⟨rfl, rfl⟩ | ⟨rfl, e⟩
  · have t : (decide (x < n) && decide (a ≤ x)) = true := hm
    rw [Bool.and_eq_true, decide_eq_true_eq, decide_eq_true_eq] at t
    have := i0 rfl
    refine ⟨hi, fun _ => ?_, fun z => absurd z (by decide), fun z => absurd z (by decide), fun z => absurd z (by decide)⟩
    show i + 1 ≤ x + 1 ∧ x + 1 ≤ n
    omega
  · have t : (decide (x < l) && !a.testBit x) = true := hm
    rw [Bool.and_eq_true, decide_eq_true_eq, Bool.not_eq_true'] at t
    have hb := (i1 rfl).1
    have p7 : 2 ^ l ≤ 2 ^ 7 := Nat.pow_le_pow_right (by omega) h7
    have := rk_fr1 l (by omega) a (by omega) x hx t.1 t.2
    refine ⟨hi, fun z => absurd z (by decide), fun _ => ?_, fun z => absurd z (by decide), fun z => absurd z (by decide)⟩
    show a ||| 2 ^ x < 2 ^ l ∧ rk_fr (a ||| 2 ^ x) l + (i + 1) = l
    have hf := (i1 rfl).2
    exact ⟨Nat.or_lt_two_pow hb (Nat.pow_lt_pow_right (by omega) t.1), by omega⟩
  · have t : decide (x ≤ a) = true := hm
    rw [decide_eq_true_eq] at t
    have := i2 rfl
    refine ⟨hi, fun z => absurd z (by decide), fun z => absurd z (by decide), fun _ => ?_, fun z => absurd z (by decide)⟩
    show max a (x + 1) ≤ i + 1
    omega
  · have t : (decide (x ≤ 1) && (if x = 1 then decide (a < n) else decide (i < 2 * a))) = true := hm
    rw [Bool.and_eq_true, decide_eq_true_eq] at t
    have := i3 rfl
    refine ⟨hi, fun z => absurd z (by decide), fun z => absurd z (by decide), fun z => absurd z (by decide), fun _ => ?_⟩
    show a + x ≤ n ∧ a + x ≤ i + 1 ∧ i + 1 ≤ 2 * (a + x)
    by_cases hx1 : x = 1
    · rw [if_pos hx1, decide_eq_true_eq] at t
      omega
    · rw [if_neg hx1, decide_eq_true_eq] at t
      omega
  · exact ⟨hi, fun z => absurd z (by decide), fun z => absurd z (by decide), fun z => absurd z (by decide), fun z => absurd z (by decide)⟩
theorem rk_Le {s n l a : Nat} (vc : rk_VC s n l) (h : rk_I s n l l a) : rk_cn s n l l a ≤ 1 ∧ (s ≠ 4 → rk_cn s n l l a = 1) ∧ (s = 4 → (0 < rk_cn s n l l a ↔ a = n)) := by
  obtain ⟨h1, h7, vc⟩ := vc
  obtain ⟨hl, i0, i1, i2, i3⟩ := h
  have one : ∀ s', s' = s → s' ≠ 4 → rk_cn s n l l a = 1 → rk_cn s n l l a ≤ 1 ∧ (s ≠ 4 → rk_cn s n l l a = 1) ∧ (s = 4 → (0 < rk_cn s n l l a ↔ a = n)) := by
    intro s' e h4 h
    exact ⟨by omega, fun _ => h, fun z => absurd (e.trans z) h4⟩
  rcases vc with ⟨rfl, e⟩ | ⟨rfl, rfl⟩ | ⟨rfl, rfl⟩ | ⟨rfl, rfl⟩ | ⟨rfl, e⟩
  · refine one 0 rfl (by decide) ?_
    unfold rk_cn
    rw [if_neg (by decide), if_neg (by decide), if_pos rfl, Nat.sub_self, if_pos (by omega)]
    have := i0 rfl
    exact rk_L0 n (by omega) a (by omega) this.2
  · refine one 1 rfl (by decide) ?_
    unfold rk_cn
    rw [if_pos rfl, Nat.sub_self]
    rfl
  · refine one 2 rfl (by decide) ?_
    unfold rk_cn
    rw [if_neg (by decide), if_pos rfl, Nat.sub_self]
    have := i2 rfl
    exact rk_L2 a (by omega)
  · refine one 3 rfl (by decide) ?_
    unfold rk_cn
    rw [if_neg (by decide), if_neg (by decide), if_neg (by decide), if_pos rfl]
    have := i3 rfl
    have e : a = n := by omega
    subst e
    rw [show 8 * (a + a - 2 * a) + (a - a) = 0 by omega]
    rfl
  · have z : rk_cn 4 n l l a = if n < a then 0 else if n - a = 0 then 1 else 0 := by
      unfold rk_cn
      rw [if_neg (by decide), if_neg (by decide), if_neg (by decide), if_neg (by decide), Nat.sub_self, if_pos rfl]
    rw [z]
    refine ⟨?_, fun z => absurd rfl z, fun _ => ?_⟩
    · split
      · omega
      · split <;> omega
    · split
      · omega
      · split <;> omega
theorem rk_bnd {s n l : Nat} (vc : rk_VC s n l) : rk_cn s n l 0 0 ≤ 5040 := by
  obtain ⟨h1, h7, vc⟩ := vc
  rcases vc with ⟨rfl, e⟩ | ⟨rfl, rfl⟩ | ⟨rfl, rfl⟩ | ⟨rfl, rfl⟩ | ⟨rfl, e⟩
  · exact rk_b0 n (by omega) l (by omega)
  · exact rk_b1 l (by omega)
  · exact rk_b2 l (by omega)
  · exact rk_b3 n (by omega)
  · exact rk_b4 n (by omega) l (by omega)
end
section
/-! ===== ranks of sequences ===== -/
def rk_sg (s : Nat) (p : Nat → Nat) : Nat → Nat
  | 0 => 0
  | i + 1 => rk_st s (rk_sg s p i) (p i)
def rk_rk (s n l : Nat) (p : Nat → Nat) : Nat → Nat
  | 0 => 0
  | i + 1 => rk_rk s n l p i + rk_S s n l i (rk_sg s p i) (p i)
def rk_G (s n l : Nat) (p : Nat → Nat) (i : Nat) : Prop := 0 < rk_cn s n l 0 0 ∧ ∀ j, j < i → p j < 8 ∧ 0 < rk_wn s n l j (rk_sg s p j) (p j)
def rk_u (p : Nat → Nat) (i x : Nat) : Nat → Nat := fun j => if j = i then x else p j
theorem rk_us {p : Nat → Nat} {i x : Nat} : rk_u p i x i = x := if_pos rfl
theorem rk_un {p : Nat → Nat} {i x j : Nat} (h : j ≠ i) : rk_u p i x j = p j := if_neg h
section
variable {s n l : Nat} {p q : Nat → Nat}
theorem rk_wm {i a x : Nat} (h : 0 < rk_wn s n l i a x) : rk_my s n i a x = true := by
  unfold rk_wn at h
  split at h
  · assumption
  · omega
theorem rk_wc {i a x : Nat} (h : rk_my s n i a x = true) : rk_wn s n l i a x = rk_cn s n l (i + 1) (rk_st s a x) := if_pos h
theorem rk_csg : ∀ i, (∀ j, j < i → p j = q j) → rk_sg s p i = rk_sg s q i
  | 0, _ => rfl
  | i + 1, h => by
    show rk_st s (rk_sg s p i) (p i) = rk_st s (rk_sg s q i) (q i)
    rw [rk_csg i (fun j hj => h j (by omega)), h i (by omega)]
theorem rk_crk : ∀ i, (∀ j, j < i → p j = q j) → rk_rk s n l p i = rk_rk s n l q i
  | 0, _ => rfl
  | i + 1, h => by
    show rk_rk s n l p i + rk_S s n l i (rk_sg s p i) (p i) = rk_rk s n l q i + rk_S s n l i (rk_sg s q i) (q i)
    rw [rk_csg i (fun j hj => h j (by omega)), h i (by omega), rk_crk i (fun j hj => h j (by omega))]
theorem rk_cG {i : Nat} (h : ∀ j, j < i → p j = q j) (g : rk_G s n l p i) : rk_G s n l q i := by
  refine ⟨g.1, fun j hj => ?_⟩
  rw [← h j hj, ← rk_csg (p := p) (q := q) j (fun k hk => h k (by omega))]
  exact g.2 j hj
theorem rk_Gd {i k : Nat} (h : k ≤ i) (g : rk_G s n l p i) : rk_G s n l p k := ⟨g.1, fun j hj => g.2 j (by omega)⟩
theorem rk_Gs {i : Nat} (g : rk_G s n l p i) (h8 : p i < 8) (hw : 0 < rk_wn s n l i (rk_sg s p i) (p i)) : rk_G s n l p (i + 1) := by
  refine ⟨g.1, fun j hj => ?_⟩
  by_cases e : j = i
  · rw [e]; exact ⟨h8, hw⟩
  · exact g.2 j (by omega)
theorem rk_GI (vc : rk_VC s n l) : ∀ i, i ≤ l → rk_G s n l p i → rk_I s n l i (rk_sg s p i)
  | 0, _, _ => rk_I0 vc
  | i + 1, hi, g => rk_Is vc (rk_GI vc i (by omega) (rk_Gd (by omega) g)) (by omega) (g.2 i (by omega)).1 (rk_wm (g.2 i (by omega)).2)
theorem rk_sc {i : Nat} (g : rk_G s n l p (i + 1)) : rk_cn s n l (i + 1) (rk_sg s p (i + 1)) = rk_wn s n l i (rk_sg s p i) (p i) := (rk_wc (rk_wm (g.2 i (by omega)).2)).symm
theorem rk_pos : ∀ i, rk_G s n l p i → 0 < rk_cn s n l i (rk_sg s p i)
  | 0, g => g.1
  | i + 1, g => by rw [rk_sc g]; exact (g.2 i (by omega)).2
theorem rk_nest (vc : rk_VC s n l) {i : Nat} (hi : i < l) (g : rk_G s n l p (i + 1)) : rk_rk s n l p (i + 1) + rk_cn s n l (i + 1) (rk_sg s p (i + 1)) ≤ rk_rk s n l p i + rk_cn s n l i (rk_sg s p i) ∧ rk_rk s n l p i ≤ rk_rk s n l p (i + 1) := by
  have a := rk_A vc (rk_GI vc i (by omega) (rk_Gd (by omega) g)) hi
  have m : rk_S s n l i (rk_sg s p i) (p i + 1) ≤ rk_S s n l i (rk_sg s p i) 8 := rk_Sm 8 (by have := (g.2 i (by omega)).1; omega)
  have e : rk_S s n l i (rk_sg s p i) (p i + 1) = rk_S s n l i (rk_sg s p i) (p i) + rk_wn s n l i (rk_sg s p i) (p i) := rfl
  have r : rk_rk s n l p (i + 1) = rk_rk s n l p i + rk_S s n l i (rk_sg s p i) (p i) := rfl
  rw [rk_sc g, r]
  omega
theorem rk_top (vc : rk_VC s n l) (g : rk_G s n l p l) : rk_cn s n l l (rk_sg s p l) = 1 := by
  have h1 := rk_pos l g
  have h2 := (rk_Le vc (rk_GI vc l (Nat.le_refl l) g)).1
  omega
theorem rk_in (vc : rk_VC s n l) (g : rk_G s n l p l) : ∀ d i, i + d = l → rk_rk s n l p i ≤ rk_rk s n l p l ∧ rk_rk s n l p l < rk_rk s n l p i + rk_cn s n l i (rk_sg s p i)
  | 0, i, h => by
    have e : i = l := by omega
    subst e
    have := rk_pos i g
    omega
  | d + 1, i, h => by
    have a := rk_in vc g d (i + 1) (by omega)
    have b := rk_nest vc (show i < l by omega) (rk_Gd (show i + 1 ≤ l by omega) g)
    omega
theorem rk_In (vc : rk_VC s n l) (g : rk_G s n l p l) {i : Nat} (h : i ≤ l) : rk_rk s n l p i ≤ rk_rk s n l p l ∧ rk_rk s n l p l < rk_rk s n l p i + rk_cn s n l i (rk_sg s p i) := rk_in vc g (l - i) i (by omega)
theorem rk_lt (vc : rk_VC s n l) (g : rk_G s n l p l) : rk_rk s n l p l < rk_cn s n l 0 0 := by
  have := (rk_In vc g (Nat.zero_le l)).2
  have e : rk_rk s n l p 0 = 0 := rfl
  have e2 : rk_sg s p 0 = 0 := rfl
  rw [e, e2] at this
  omega
theorem rk_cle (vc : rk_VC s n l) : ∀ i, i ≤ l → rk_G s n l p i → rk_rk s n l p i + rk_cn s n l i (rk_sg s p i) ≤ rk_cn s n l 0 0
  | 0, _, _ => by
    have e : rk_rk s n l p 0 = 0 := rfl
    have e2 : rk_sg s p 0 = 0 := rfl
    rw [e, e2]
    omega
  | i + 1, hi, g => by
    have a := rk_cle vc i (by omega) (rk_Gd (by omega) g)
    have b := rk_nest vc (show i < l by omega) g
    omega
theorem rk_find {f : Nat → Nat} (F : Nat → Nat) (h0 : F 0 = 0) (hs : ∀ x, F (x + 1) = F x + f x) (r : Nat) : ∀ k, r < F k → ∃ x, x < k ∧ F x ≤ r ∧ r < F x + f x
  | 0, h => by omega
  | k + 1, h => by
    by_cases e : r < F k
    · obtain ⟨x, h1, h2, h3⟩ := rk_find F h0 hs r k e
      exact ⟨x, by omega, h2, h3⟩
    · exact ⟨k, by omega, by omega, by rw [← hs k]; exact h⟩
theorem rk_ex0 (vc : rk_VC s n l) {m : Nat} (hm : m < rk_cn s n l 0 0) : ∀ i, i ≤ l → ∃ p : Nat → Nat, rk_G s n l p i ∧ rk_rk s n l p i ≤ m ∧ m < rk_rk s n l p i + rk_cn s n l i (rk_sg s p i)
  | 0, _ => ⟨fun _ => 0, ⟨by omega, fun j hj => absurd hj (by omega)⟩, Nat.zero_le m, by
      have e : rk_rk s n l (fun _ => 0) 0 = 0 := rfl
      have e2 : rk_sg s (fun _ => 0) 0 = 0 := rfl
      rw [e, e2]; omega⟩
  | i + 1, hi => by
    obtain ⟨p, g, h1, h2⟩ := rk_ex0 vc hm i (by omega)
    have a := rk_A vc (rk_GI vc i (by omega) g) hi
    obtain ⟨x, hx, h3, h4⟩ := rk_find (rk_S s n l i (rk_sg s p i)) (f := rk_wn s n l i (rk_sg s p i)) rfl (fun _ => rfl) (m - rk_rk s n l p i) 8 (by omega)
    have ag : ∀ j, j < i → p j = rk_u p i x j := fun j hj => (rk_un (by omega)).symm
    have g' : rk_G s n l (rk_u p i x) i := rk_cG ag g
    have e1 : rk_sg s (rk_u p i x) i = rk_sg s p i := (rk_csg i ag).symm
    have e2 : rk_rk s n l (rk_u p i x) i = rk_rk s n l p i := (rk_crk i ag).symm
    have g2 : rk_G s n l (rk_u p i x) (i + 1) := rk_Gs g' (by rw [rk_us]; exact hx) (by rw [rk_us, e1]; omega)
    have e3 : rk_rk s n l (rk_u p i x) (i + 1) = rk_rk s n l p i + rk_S s n l i (rk_sg s p i) x := by
      show rk_rk s n l (rk_u p i x) i + rk_S s n l i (rk_sg s (rk_u p i x) i) (rk_u p i x i) = _
      rw [e2, e1, rk_us]
    refine ⟨rk_u p i x, g2, ?_, ?_⟩
    · rw [e3]; omega
    · rw [rk_sc g2, e1, rk_us, e3]; omega
theorem rk_ex (vc : rk_VC s n l) {m : Nat} (hm : m < rk_cn s n l 0 0) : ∃ p : Nat → Nat, rk_G s n l p l ∧ rk_rk s n l p l = m := by
  obtain ⟨p, g, h1, h2⟩ := rk_ex0 vc hm l (Nat.le_refl l)
  have := rk_top vc g
  exact ⟨p, g, by omega⟩
theorem rk_uq (vc : rk_VC s n l) (g : rk_G s n l p l) (h : rk_G s n l q l) (e : rk_rk s n l p l = rk_rk s n l q l) : ∀ i, i ≤ l → ∀ j, j < i → p j = q j
  | 0, _ => fun j hj => absurd hj (by omega)
  | i + 1, hi => by
    have ih := rk_uq vc g h e i (by omega)
    have e1 := rk_csg (s := s) i ih
    have e2 := rk_crk (s := s) (n := n) (l := l) i ih
    have a := rk_In vc g hi
    have b := rk_In vc h hi
    rw [rk_sc (rk_Gd hi g)] at a
    rw [rk_sc (rk_Gd hi h)] at b
    have ra : rk_rk s n l p (i + 1) = rk_rk s n l p i + rk_S s n l i (rk_sg s p i) (p i) := rfl
    have rb : rk_rk s n l q (i + 1) = rk_rk s n l q i + rk_S s n l i (rk_sg s q i) (q i) := rfl
    rw [ra, e1, e2] at a
    rw [rb] at b
    have pq : p i = q i := by
      rcases Nat.lt_trichotomy (p i) (q i) with z | z | z
      · have m : rk_S s n l i (rk_sg s q i) (p i + 1) ≤ rk_S s n l i (rk_sg s q i) (q i) := rk_Sm _ z
        have t : rk_S s n l i (rk_sg s q i) (p i + 1) = rk_S s n l i (rk_sg s q i) (p i) + rk_wn s n l i (rk_sg s q i) (p i) := rfl
        omega
      · exact z
      · have m : rk_S s n l i (rk_sg s q i) (q i + 1) ≤ rk_S s n l i (rk_sg s q i) (p i) := rk_Sm _ z
        have t : rk_S s n l i (rk_sg s q i) (q i + 1) = rk_S s n l i (rk_sg s q i) (q i) + rk_wn s n l i (rk_sg s q i) (q i) := rfl
        omega
    intro j hj
    by_cases ej : j = i
    · rw [ej]; exact pq
    · exact ih j (by omega)
theorem rk_UQ (vc : rk_VC s n l) (g : rk_G s n l p l) (h : rk_G s n l q l) (e : rk_rk s n l p l = rk_rk s n l q l) : ∀ j, j < l → p j = q j := rk_uq vc g h e l (Nat.le_refl l)
/-! ===== allowed at every place, and whole ===== -/
theorem rk_MI (vc : rk_VC s n l) (h : ∀ j, j < l → p j < 8 ∧ rk_my s n j (rk_sg s p j) (p j) = true) : ∀ i, i ≤ l → rk_I s n l i (rk_sg s p i)
  | 0, _ => rk_I0 vc
  | i + 1, hi => rk_Is vc (rk_MI vc h i (by omega)) (by omega) (h i (by omega)).1 (h i (by omega)).2
theorem rk_Mp (vc : rk_VC s n l) (h : ∀ j, j < l → p j < 8 ∧ rk_my s n j (rk_sg s p j) (p j) = true) (he : 0 < rk_cn s n l l (rk_sg s p l)) : ∀ d i, i + d = l → 0 < rk_cn s n l i (rk_sg s p i)
  | 0, i, e => by
    have : i = l := by omega
    subst this
    exact he
  | d + 1, i, e => by
    have t := rk_Mp vc h he d (i + 1) (by omega)
    rw [rk_A vc (rk_MI vc h i (by omega)) (by omega)]
    have m : rk_S s n l i (rk_sg s p i) (p i + 1) ≤ rk_S s n l i (rk_sg s p i) 8 := rk_Sm 8 (by have := (h i (by omega)).1; omega)
    have e2 : rk_S s n l i (rk_sg s p i) (p i + 1) = rk_S s n l i (rk_sg s p i) (p i) + rk_wn s n l i (rk_sg s p i) (p i) := rfl
    have e3 : rk_wn s n l i (rk_sg s p i) (p i) = rk_cn s n l (i + 1) (rk_sg s p (i + 1)) := rk_wc (h i (by omega)).2
    omega
theorem rk_MG (vc : rk_VC s n l) (h : ∀ j, j < l → p j < 8 ∧ rk_my s n j (rk_sg s p j) (p j) = true) (h4 : s = 4 → rk_sg s p l = n) : rk_G s n l p l := by
  have L := rk_Le vc (rk_MI vc h l (Nat.le_refl l))
  have he : 0 < rk_cn s n l l (rk_sg s p l) := by
    by_cases e : s = 4
    · exact (L.2.2 e).mpr (h4 e)
    · have := L.2.1 e
      omega
  refine ⟨rk_Mp vc h he l 0 (by omega), fun j hj => ⟨(h j hj).1, ?_⟩⟩
  rw [rk_wc (h j hj).2]
  exact rk_Mp vc h he (l - (j + 1)) (j + 1) (by omega)
theorem rk_G4 (vc : rk_VC s n l) (g : rk_G s n l p l) (e : s = 4) : rk_sg s p l = n := ((rk_Le vc (rk_GI vc l (Nat.le_refl l) g)).2.2 e).mp (rk_pos l g)
end
end
section
/-! ===== the mirror of a whole sequence ===== -/
def rk_mi (s n l : Nat) (p : Nat → Nat) : Nat → Nat := fun j => if s = 0 then n - 1 - p (l - 1 - j) else if s = 3 then 1 - p (l - 1 - j) else p (l - 1 - j)
theorem rk_my0 {n i a x : Nat} : rk_my 0 n i a x = true ↔ x < n ∧ a ≤ x := by
  show (decide (x < n) && decide (a ≤ x)) = true ↔ _
  rw [Bool.and_eq_true, decide_eq_true_eq, decide_eq_true_eq]
theorem rk_my1 {n i a x : Nat} : rk_my 1 n i a x = true ↔ x < n ∧ a.testBit x = false := by
  show (decide (x < n) && !a.testBit x) = true ↔ _
  rw [Bool.and_eq_true, decide_eq_true_eq, Bool.not_eq_true']
theorem rk_my2 {n i a x : Nat} : rk_my 2 n i a x = true ↔ x ≤ a := by
  show decide (x ≤ a) = true ↔ _
  rw [decide_eq_true_eq]
theorem rk_my4 {n i a x : Nat} : rk_my 4 n i a x = true ↔ x ≤ n := by
  show decide (x ≤ n) = true ↔ _
  rw [decide_eq_true_eq]
theorem rk_my3 {n i a x : Nat} : rk_my 3 n i a x = true ↔ (x = 1 ∧ a < n) ∨ (x = 0 ∧ i < 2 * a) := by
  show (decide (x ≤ 1) && (if x = 1 then decide (a < n) else decide (i < 2 * a))) = true ↔ _
  rw [Bool.and_eq_true, decide_eq_true_eq]
  by_cases h : x = 1
  · rw [if_pos h, decide_eq_true_eq]
    omega
  · rw [if_neg h, decide_eq_true_eq]
    omega
theorem rk_bit {p : Nat → Nat} {x : Nat} : ∀ i, (rk_sg 1 p i).testBit x = true ↔ ∃ j, j < i ∧ p j = x
  | 0 => by
    have e : (rk_sg 1 p 0).testBit x = false := Nat.zero_testBit x
    rw [e]
    exact ⟨fun z => absurd z (by decide), fun ⟨j, hj, _⟩ => absurd hj (by omega)⟩
  | i + 1 => by
    have e : (rk_sg 1 p (i + 1)).testBit x = ((rk_sg 1 p i).testBit x || decide (p i = x)) := by
      show (rk_sg 1 p i ||| 2 ^ p i).testBit x = _
      rw [Nat.testBit_or, Nat.testBit_two_pow]
    rw [e, Bool.or_eq_true, decide_eq_true_eq, rk_bit i]
    constructor
    · rintro (⟨j, hj, h⟩ | h)
      · exact ⟨j, by omega, h⟩
      · exact ⟨i, by omega, h⟩
    · rintro ⟨j, hj, h⟩
      by_cases z : j = i
      · exact Or.inr (z ▸ h)
      · exact Or.inl ⟨j, by omega, h⟩
theorem rk_sum3 {p : Nat → Nat} {n l : Nat} (h : ∀ j, j < l → p j ≤ 1) : ∀ j, j ≤ l → rk_sg 3 (rk_mi 3 n l p) j + rk_sg 3 p l = j + rk_sg 3 p (l - j)
  | 0, _ => by
    have e : rk_sg 3 (rk_mi 3 n l p) 0 = 0 := rfl
    rw [e, Nat.sub_zero]
  | j + 1, hj => by
    have ih := rk_sum3 (n := n) h j (by omega)
    have e1 : rk_sg 3 (rk_mi 3 n l p) (j + 1) = rk_sg 3 (rk_mi 3 n l p) j + (1 - p (l - 1 - j)) := rfl
    have e2 : rk_sg 3 p (l - 1 - j + 1) = rk_sg 3 p (l - 1 - j) + p (l - 1 - j) := rfl
    rw [show l - j = l - 1 - j + 1 by omega, e2] at ih
    rw [e1, show l - (j + 1) = l - 1 - j by omega]
    have := h (l - 1 - j) (by omega)
    omega
theorem rk_sum4 {p : Nat → Nat} {n l : Nat} : ∀ j, j ≤ l → rk_sg 4 (rk_mi 4 n l p) j + rk_sg 4 p (l - j) = rk_sg 4 p l
  | 0, _ => by
    have e : rk_sg 4 (rk_mi 4 n l p) 0 = 0 := rfl
    rw [e, Nat.sub_zero, Nat.zero_add]
  | j + 1, hj => by
    have ih := rk_sum4 (p := p) (n := n) (l := l) j (by omega)
    have e1 : rk_sg 4 (rk_mi 4 n l p) (j + 1) = rk_sg 4 (rk_mi 4 n l p) j + p (l - 1 - j) := rfl
    have e2 : rk_sg 4 p (l - 1 - j + 1) = rk_sg 4 p (l - 1 - j) + p (l - 1 - j) := rfl
    rw [show l - j = l - 1 - j + 1 by omega, e2] at ih
    rw [e1, show l - (j + 1) = l - 1 - j by omega]
    omega
theorem rk_miG {s n l : Nat} {p : Nat → Nat} (vc : rk_VC s n l) (h2 : s ≠ 2) (g : rk_G s n l p l) : rk_G s n l (rk_mi s n l p) l := by
  have G8 := fun j hj => (g.2 j hj).1
  have GM := fun j hj => rk_wm (g.2 j hj).2
  have GI := fun i hi => rk_GI vc i hi (rk_Gd hi g)
  have v0 := vc
  obtain ⟨h1, h7, v⟩ := v0
  rcases v with ⟨rfl, e⟩ | ⟨rfl, rfl⟩ | ⟨rfl, rfl⟩ | ⟨rfl, rfl⟩ | ⟨rfl, e⟩
  · have G0 : ∀ j, j < l → p j < n ∧ rk_sg 0 p j ≤ p j := fun j hj => rk_my0.mp (GM j hj)
    refine rk_MG vc (fun j hj => ?_) (fun z => absurd z (by decide))
    have ej : rk_mi 0 n l p j = n - 1 - p (l - 1 - j) := rfl
    refine ⟨by rw [ej]; omega, rk_my0.mpr ⟨by rw [ej]; omega, ?_⟩⟩
    cases j with
    | zero => exact Nat.zero_le _
    | succ j =>
      have es : rk_sg 0 (rk_mi 0 n l p) (j + 1) = n - 1 - p (l - 1 - j) + 1 := rfl
      have a := G0 (l - 1 - (j + 1) + 1) (by omega)
      have et : rk_sg 0 p (l - 1 - (j + 1) + 1) = p (l - 1 - (j + 1)) + 1 := rfl
      rw [et, show l - 1 - (j + 1) + 1 = l - 1 - j by omega] at a
      rw [es, ej]
      omega
  · have G1 : ∀ j, j < l → p j < l ∧ (rk_sg 1 p j).testBit (p j) = false := fun j hj => rk_my1.mp (GM j hj)
    have inj : ∀ j, j < l → ∀ k, k < j → p k ≠ p j := by
      intro j hj k hk z
      have t := (rk_bit (p := p) (x := p j) j).mpr ⟨k, hk, z⟩
      rw [(G1 j hj).2] at t
      exact absurd t (by decide)
    refine rk_MG vc (fun j hj => ?_) (fun z => absurd z (by decide))
    have ej : ∀ k, rk_mi 1 l l p k = p (l - 1 - k) := fun k => rfl
    have a := G1 (l - 1 - j) (by omega)
    refine ⟨by rw [ej]; omega, rk_my1.mpr ⟨by rw [ej]; omega, ?_⟩⟩
    cases hb : (rk_sg 1 (rk_mi 1 l l p) j).testBit (rk_mi 1 l l p j) with
    | false => rfl
    | true =>
      obtain ⟨k, hk, z⟩ := (rk_bit j).mp hb
      rw [ej, ej] at z
      exact absurd z.symm (inj (l - 1 - k) (by omega) (l - 1 - j) (by omega))
  · exact absurd rfl h2
  · have G3 : ∀ j, j < 2 * n → (p j = 1 ∧ rk_sg 3 p j < n) ∨ (p j = 0 ∧ j < 2 * rk_sg 3 p j) := fun j hj => rk_my3.mp (GM j hj)
    have le1 : ∀ j, j < 2 * n → p j ≤ 1 := fun j hj => by have := G3 j hj; omega
    have I3 : ∀ i, i ≤ 2 * n → rk_sg 3 p i ≤ n ∧ rk_sg 3 p i ≤ i ∧ i ≤ 2 * rk_sg 3 p i := fun i hi => (GI i hi).2.2.2.2 rfl
    have tot : rk_sg 3 p (2 * n) = n := by have := I3 (2 * n) (Nat.le_refl _); omega
    refine rk_MG vc (fun j hj => ?_) (fun z => absurd z (by decide))
    have ej : rk_mi 3 n (2 * n) p j = 1 - p (2 * n - 1 - j) := rfl
    refine ⟨by rw [ej]; omega, rk_my3.mpr ?_⟩
    have sm := rk_sum3 (n := n) le1 j (by omega)
    have et : rk_sg 3 p (2 * n - 1 - j + 1) = rk_sg 3 p (2 * n - 1 - j) + p (2 * n - 1 - j) := rfl
    rw [tot, show 2 * n - j = 2 * n - 1 - j + 1 by omega, et] at sm
    have a := G3 (2 * n - 1 - j) (by omega)
    have b := I3 (2 * n - 1 - j) (by omega)
    rw [ej]
    omega
  · have G4 : ∀ j, j < l → p j ≤ n := fun j hj => rk_my4.mp (GM j hj)
    have ej : ∀ k, rk_mi 4 n l p k = p (l - 1 - k) := fun k => rfl
    refine rk_MG vc (fun j hj => ?_) (fun _ => ?_)
    · have a := G4 (l - 1 - j) (by omega)
      exact ⟨by rw [ej]; omega, rk_my4.mpr (by rw [ej]; exact a)⟩
    · have t := rk_sum4 (p := p) (n := n) (l := l) l (Nat.le_refl l)
      have t4 := rk_G4 vc g rfl
      have e0 : rk_sg 4 p 0 = 0 := rfl
      rw [Nat.sub_self, e0, t4] at t
      exact t
theorem rk_mimi {s n l : Nat} {p : Nat → Nat} (vc : rk_VC s n l) (g : rk_G s n l p l) {j : Nat} (hj : j < l) : rk_mi s n l (rk_mi s n l p) j = p j := by
  have GM := rk_wm (g.2 j hj).2
  have e : l - 1 - (l - 1 - j) = j := by omega
  unfold rk_mi
  by_cases h0 : s = 0
  · subst h0
    have := rk_my0.mp GM
    rw [if_pos rfl, if_pos rfl, e]
    omega
  · rw [if_neg h0, if_neg h0]
    by_cases h3 : s = 3
    · subst h3
      have := rk_my3.mp GM
      rw [if_pos rfl, if_pos rfl, e]
      omega
    · rw [if_neg h3, if_neg h3, e]
/-- a bound for the mirrored items -/
theorem rk_mi8 {s n l : Nat} {p : Nat → Nat} (vc : rk_VC s n l) (h2 : s ≠ 2) (g : rk_G s n l p l) {j : Nat} (hj : j < l) : rk_mi s n l p j < 8 := ((rk_miG vc h2 g).2 j hj).1
end
section
/-! ===== the walk: counting ===== -/
def rk_IT (a : Nat → Int32) (p : Nat → Nat) (i : Nat) : Prop := ∀ j, j < i → p j < 8 ∧ a j = nI (p j)
def rk_TB (a3 a4 a5 a6 : Nat → Int32) : Prop := (∀ j, j < 64 → a3 j = nI (rk_B.getD j 0)) ∧ (∀ j, j < 128 → a4 j = nI (rk_E.getD j 0)) ∧ (∀ j, j < 64 → a5 j = nI (rk_N.getD j 0)) ∧ (∀ j, j < 8 → a6 j = nI (rk_F.getD j 0))
theorem rk_ITd {a : Nat → Int32} {p : Nat → Nat} {i k : Nat} (h : k ≤ i) (t : rk_IT a p i) : rk_IT a p k := fun j hj => t j (by omega)
theorem rk_IT0 {a : Nat → Int32} {p : Nat → Nat} : rk_IT a p 0 := fun j hj => absurd hj (by omega)
theorem rk_w1 : ∀ v, v < 8 → ∀ g, g < 9 → (nI v ≤ nI g - 1 ↔ v < g) := by decide +kernel
theorem rk_w2 : ∀ m, m < 256 → ∀ v, v < 8 → nI m ||| ((1 : Int32) <<< (nI v &&& 31)) = nI (m ||| 2 ^ v) := by decide +kernel
theorem rk_w3 : ∀ m, m < 256 → ∀ v, v < 8 → ((nI m >>> (nI v &&& 31)) &&& 1 = 0 ↔ m.testBit v = false) := by decide +kernel
theorem rk_w4 : ∀ r, r < 8 → ∀ k, k < 8 → rk_wy r k * (r + (k + 1)) < 2 ^ 31 := by decide +kernel
theorem rk_w5 : ∀ g, g < 9 → ∀ x, x < 8 → (nI g - 1 + 1 < nI x ↔ g < x) := by decide +kernel
theorem rk_b8 : ∀ v, v < 8 → (nI v).toInt8.toInt32 = nI v := by decide +kernel
theorem rk_pm (g : Nat) : nI g - 1 + 1 = nI g := by grind
theorem rk_mul (c a b : Nat) : nI c * nI a + nI b = nI (c * a + b) := by rw [pk_mul, nI_add]
theorem rk_g8 {p : Nat → Nat} : ∀ i, (∀ j, j < i → p j < 8) → rk_sg 2 p i ≤ 8
  | 0, _ => by
    show 0 ≤ 8
    omega
  | i + 1, h => by
    have a := rk_g8 i (fun j hj => h j (by omega))
    have b := h i (by omega)
    show max (rk_sg 2 p i) (p i + 1) ≤ 8
    omega
theorem rk_m8 {p : Nat → Nat} : ∀ i, (∀ j, j < i → p j < 8) → rk_sg 1 p i < 256
  | 0, _ => by
    show 0 < 256
    omega
  | i + 1, h => by
    have a := rk_m8 i (fun j hj => h j (by omega))
    have b := h i (by omega)
    exact Nat.or_lt_two_pow (n := 8) a (Nat.pow_lt_pow_right (by omega) b)
theorem rk_s8 {s : Nat} {p : Nat → Nat} (hst : ∀ a x, rk_st s a x = a + x) : ∀ i, (∀ j, j < i → p j < 8) → rk_sg s p i ≤ 8 * i
  | 0, _ => by
    show 0 ≤ 8 * 0
    omega
  | i + 1, h => by
    have a := rk_s8 hst i (fun j hj => h j (by omega))
    have b := h i (by omega)
    show rk_st s (rk_sg s p i) (p i) ≤ 8 * (i + 1)
    rw [hst]
    omega
theorem rk_cn0 (n l i a : Nat) : rk_cn 0 n l i a = if l - i ≤ n - a then rk_B.getD (8 * (n - a) + (l - i)) 0 else 0 := rfl
theorem rk_cn1 (n l i a : Nat) : rk_cn 1 n l i a = rk_F.getD (l - i) 0 := rfl
theorem rk_cn2 (n l i a : Nat) : rk_cn 2 n l i a = rk_E.getD (16 * (l - i) + a) 0 := rfl
theorem rk_cn3 (n l i a : Nat) : rk_cn 3 n l i a = rk_N.getD (8 * (n + a - i) + (n - a)) 0 := rfl
theorem rk_cn4 (n l i a : Nat) : rk_cn 4 n l i a = if n < a then 0 else if l - i = 0 then (if n - a = 0 then 1 else 0) else rk_wy (n - a) (l - i - 1) := rfl
theorem rk_l14 {s n l : Nat} (vc : rk_VC s n l) : l ≤ 14 := by
  obtain ⟨h1, h7, v⟩ := vc
  omega
section
variable {s n l i : Nat} {p : Nat → Nat} {fs fz fc fl fu : Int32} {a1 a2 a3 a4 a5 a6 : Nat → Int32}
theorem rk_sumBefore {post : Int32 → Prop} (hst : ∀ a x, rk_st s a x = a + x) (hi : i ≤ 14) (it : rk_IT a1 p i) (H : post (nI (rk_sg s p i))) : wpX_sumBefore post (fs, fz, fc, fl, fu, a1, a2, a3, a4, a5, a6) (nI i) :=
  pk_loop (σ := Unit) (fun n j _ => wX_sumBefore_4 post (nI i) fs fz fc fl fu a1 a2 a3 a4 a5 a6 n (nI (rk_sg s p j)) (nI j)) (fun _ _ => True) i 0 () (by omega) trivial
    (fun n _ _ => pk_le i i (fun _ => H) (fun z => absurd z (by omega)))
    (fun n j _ hj _ hw => pk_le i j (fun z => absurd z (by omega)) (fun _ => ⟨pk_in j 14 (by omega), nm_r (e' := nI (rk_sg s p (j + 1))) (by rw [nI_clamp (by omega), (it j hj).2, nI_add]; show _ = nI (rk_st s (rk_sg s p j) (p j)); rw [hst]) (nm_r (nI_1 j) (hw () trivial))⟩))
theorem rk_usedBefore {post : Int32 → Prop} (hi : i ≤ 14) (it : rk_IT a1 p i) (H : post (nI (rk_sg 1 p i))) : wpX_usedBefore post (fs, fz, fc, fl, fu, a1, a2, a3, a4, a5, a6) (nI i) :=
  pk_loop (σ := Unit) (fun n j _ => wX_usedBefore_4 post (nI i) fs fz fc fl fu a1 a2 a3 a4 a5 a6 n (nI (rk_sg 1 p j)) (nI j)) (fun _ _ => True) i 0 () (by omega) trivial
    (fun n _ _ => pk_le i i (fun _ => H) (fun z => absurd z (by omega)))
    (fun n j _ hj _ hw => pk_le i j (fun z => absurd z (by omega)) (fun _ => ⟨pk_in j 14 (by omega), nm_r (e' := nI (rk_sg 1 p (j + 1))) (by rw [nI_clamp (by omega), (it j hj).2, rk_w2 _ (rk_m8 j (fun k hk => (it k (by omega)).1)) _ (it j hj).1]; rfl) (nm_r (nI_1 j) (hw () trivial))⟩))
theorem rk_greatestBefore {post : Int32 → Prop} (hi : i ≤ 14) (it : rk_IT a1 p i) (H : post (nI (rk_sg 2 p i) - 1)) : wpX_greatestBefore post (fs, fz, fc, fl, fu, a1, a2, a3, a4, a5, a6) (nI i) := by
  refine Exists.elim (pk_loop (σ := Unit) (fun n j _ => wX_greatestBefore_4 post (nI i) fs fz fc fl fu a1 a2 a3 a4 a5 a6 n (nI (rk_sg 2 p j) - 1) (nI j)) (fun _ _ => True) i 0 () (by omega) trivial ?_ ?_) (fun n hn => ⟨n, ?_⟩)
  · exact fun n _ _ => pk_le i i (fun _ => H) (fun z => absurd z (by omega))
  · intro n j _ hj _ hw
    have hw := hw () trivial
    refine pk_le i j (fun z => absurd z (by omega)) (fun _ => ⟨pk_in j 14 (by omega), ?_⟩)
    have e : a1 (nI j).toNatClampNeg = nI (p j) := by rw [nI_clamp (by omega)]; exact (it j hj).2
    have g8 := rk_g8 j (fun k hk => (it k (by omega)).1)
    have es : rk_sg 2 p (j + 1) = max (rk_sg 2 p j) (p j + 1) := rfl
    rw [e]
    refine ek_if (rk_w1 (p j) (it j hj).1 (rk_sg 2 p j) (by omega)) (fun z => nm_r (nI_1 j) ?_) (fun z => ⟨pk_in j 14 (by omega), nm_e (nm_r (nI_1 j) ?_)⟩)
    · rw [es, show max (rk_sg 2 p j) (p j + 1) = rk_sg 2 p j by omega] at hw
      exact hw
    · rw [es, show max (rk_sg 2 p j) (p j + 1) = p j + 1 by omega, nI_pred] at hw
      exact hw
  · have e : nI (rk_sg 2 p 0) - 1 = -1 := by
      show nI 0 - 1 = -1
      decide +kernel
    have hn' : wX_greatestBefore_4 post (nI i) fs fz fc fl fu a1 a2 a3 a4 a5 a6 n (nI (rk_sg 2 p 0) - 1) (nI 0) := hn
    rw [e] at hn'
    exact hn'
theorem rk_ways {post : Int32 → Prop} {r k : Nat} (hr : r < 8) (hk : k < 8) (h0 : 0 < k) (H : post (nI (rk_wy r (k - 1)))) : wpX_waysToSplit post (fs, fz, fc, fl, fu, a1, a2, a3, a4, a5, a6) (nI r) (nI k) :=
  pk_loop (σ := Unit) (fun n j _ => wX_waysToSplit_5 post (nI r) (nI k) fs fz fc fl fu a1 a2 a3 a4 a5 a6 n (nI (rk_wy r (j - 1))) (nI j)) (fun j _ => 1 ≤ j) k 1 () (by omega) (by omega)
    (fun n _ _ => pk_le k k (fun _ => H) (fun z => absurd z (by omega)))
    (fun n j _ hj h1 hw => pk_le k j (fun z => absurd z (by omega)) (fun _ => ⟨nI_ne0 (by omega) (by omega), nm_r (e' := nI (rk_wy r (j + 1 - 1))) (by
      obtain ⟨j', rfl⟩ : ∃ j', j = j' + 1 := ⟨j - 1, by omega⟩
      rw [Nat.add_sub_cancel, Nat.add_sub_cancel, nI_add, pk_mul, pk_div (rk_w4 r hr j' (by omega)) (by omega) (by omega)]
      rfl) (nm_r (nI_1 j) (hw () (by omega)))⟩))
theorem rk_83 {post : Int32 → Prop} {f k : Nat} (tb : rk_TB a3 a4 a5 a6) (hf : f ≤ 7) (hk : k ≤ 7) (H : post (nI (if k ≤ f then rk_B.getD (8 * f + k) 0 else 0))) : wX_goingOn_83 post (nI k) (nI f) fs fz fc fl fu a1 a2 a3 a4 a5 a6 := by
  have e : (8 : Int32) * nI f + nI k = nI (8 * f + k) := rk_mul 8 f k
  refine pk_le k f (fun z => ⟨pk_in (8 * f + k) 64 (by omega) e, ?_⟩) (fun z => ?_)
  · rw [e, nI_clamp (by omega), tb.1 _ (by omega)]
    rw [if_pos z] at H
    exact H
  · rw [if_neg (by omega)] at H
    exact H
theorem rk_goingOn {post : Int32 → Prop} (vc : rk_VC s n l) (tb : rk_TB a3 a4 a5 a6) (it : rk_IT a1 p i) (hI : rk_I s n l i (rk_sg s p i)) (H : post (nI (rk_cn s n l i (rk_sg s p i)))) : wpX_goingOn post (nI s, nI n, fc, nI l, fu, a1, a2, a3, a4, a5, a6) (nI i) := by
  have l14 := rk_l14 vc
  obtain ⟨hl, i0, i1, i2, i3⟩ := hI
  obtain ⟨h1, h7, v⟩ := vc
  have p8 : ∀ j, j < i → p j < 8 := fun j hj => (it j hj).1
  unfold wpX_goingOn
  refine nm_r (pk_sub hl) ?_
  rcases v with ⟨rfl, e⟩ | ⟨rfl, rfl⟩ | ⟨rfl, rfl⟩ | ⟨rfl, rfl⟩ | ⟨rfl, e⟩
  · have t0 := i0 rfl
    rw [rk_cn0] at H
    refine br_f (by decide) (br_f (by decide) (br_t (by decide) (pk_eq i 0 (fun z => ?_) (fun z => ?_))))
    · subst z
      exact rk_83 tb h7 (by omega) H
    · obtain ⟨k, rfl⟩ : ∃ k, i = k + 1 := ⟨i - 1, by omega⟩
      have es : rk_sg 0 p (k + 1) = p k + 1 := rfl
      have ek : nI (k + 1) - 1 = nI k := nI_pred k
      rw [es] at t0 H
      rw [ek]
      refine ⟨pk_in k 14 (by omega), ?_⟩
      rw [nI_clamp (by omega), (it k (by omega)).2]
      have e2 : nI n - 1 - nI (p k) = nI (n - (p k + 1)) := by
        have e3 : nI n - 1 = nI (n - 1) := pk_sub h1
        rw [e3, pk_sub (by omega), show n - 1 - p k = n - (p k + 1) by omega]
      rw [e2]
      exact rk_83 tb (by omega) (by omega) H
  · refine br_t (by decide) ⟨pk_in (l - i) 8 (by omega), ?_⟩
    rw [nI_clamp (by omega), tb.2.2.2 _ (by omega)]
    exact H
  · have g8 := rk_g8 i p8
    refine br_f (by decide) (br_t (by decide) (rk_greatestBefore (by omega) it (nm_r (rk_pm _) ?_)))
    have e : (16 : Int32) * nI (l - i) + nI (rk_sg 2 p i) = nI (16 * (l - i) + rk_sg 2 p i) := rk_mul 16 _ _
    rw [e, nI_clamp (by omega), tb.2.1 _ (by omega)]
    exact ⟨vp_in_nI (by omega) (by omega), H⟩
  · have t3 := i3 rfl
    refine br_f (by decide) (br_f (by decide) (br_f (by decide) (rk_sumBefore (s := 3) (fun _ _ => rfl) (by omega) it (br_t (by decide) ?_))))
    have e : (8 : Int32) * (nI n - nI i + nI (rk_sg 3 p i)) + nI n - nI (rk_sg 3 p i) = nI (8 * (n + rk_sg 3 p i - i) + (n - rk_sg 3 p i)) := by
      have e1 : nI n - nI i + nI (rk_sg 3 p i) = nI (n + rk_sg 3 p i - i) := by
        rw [← pk_sub (by omega), ← nI_add]
        grind
      have e2 := rk_mul 8 (n + rk_sg 3 p i - i) n
      have e3 : (8 : Int32) = nI 8 := rfl
      rw [e1, e3, e2, pk_sub (by omega), show 8 * (n + rk_sg 3 p i - i) + n - rk_sg 3 p i = 8 * (n + rk_sg 3 p i - i) + (n - rk_sg 3 p i) by omega]
    rw [e, nI_clamp (by omega), tb.2.2.1 _ (by omega)]
    exact ⟨vp_in_nI (by omega) (by omega), H⟩
  · have s8 := rk_s8 (s := 4) (p := p) (fun _ _ => rfl) i p8
    rw [rk_cn4] at H
    refine br_f (by decide) (br_f (by decide) (br_f (by decide) (rk_sumBefore (s := 4) (fun _ _ => rfl) (by omega) it (br_f (by decide) ?_))))
    by_cases hn : n < rk_sg 4 p i
    · rw [if_pos hn] at H
      exact nm_e (br_t (pk_sneg (by omega) hn) H)
    · rw [if_neg hn] at H
      refine nm_r (pk_sub (by omega)) (br_f (nI_pos (by omega)) ?_)
      refine pk_eq (l - i) 0 (fun z => pk_le (n - rk_sg 4 p i) 0 (fun z2 => ?_) (fun z2 => ?_)) (fun z => ?_)
      · rw [if_pos z, if_pos (by omega)] at H
        exact br_t (by rw [z]; rfl) H
      · rw [if_pos z, if_neg (by omega)] at H
        exact H
      · rw [if_neg z] at H
        exact br_f (nI_ne0 (by omega) (by omega)) (rk_ways (by omega) (by omega) (by omega) H)
end
end
section
/-! ===== the walk: one item tried ===== -/
def rk_sm (i : Nat) (a b : Nat → Int32) : Prop := (∀ j, j ≠ i → b j = a j) ∧ (∀ v, v < 8 → a i = nI v → b i = nI v)
theorem rk_sm0 {i : Nat} {a : Nat → Int32} : rk_sm i a a := ⟨fun _ _ => rfl, fun _ _ h => h⟩
theorem rk_smt {i : Nat} {a b c : Nat → Int32} (h : rk_sm i a b) (k : rk_sm i b c) : rk_sm i a c := ⟨fun j hj => (k.1 j hj).trans (h.1 j hj), fun v hv e => k.2 v hv (h.2 v hv e)⟩
theorem rk_smI {i k : Nat} {a b : Nat → Int32} {p : Nat → Nat} (h : rk_sm i a b) (t : rk_IT a p k) : rk_IT b p k := by
  intro j hj
  refine ⟨(t j hj).1, ?_⟩
  by_cases e : j = i
  · subst e
    exact h.2 _ (t j hj).1 (t j hj).2
  · rw [h.1 j e]
    exact (t j hj).2
theorem rk_ITu {i x : Nat} {a : Nat → Int32} {p : Nat → Nat} (hx : x < 8) (t : rk_IT a p i) : rk_IT (upd a i (nI x)) (rk_u p i x) (i + 1) := by
  intro j hj
  by_cases e : j = i
  · rw [e, rk_us, pk_us]
    exact ⟨hx, rfl⟩
  · rw [rk_un e, pk_un e]
    exact t j (by omega)
theorem rk_ITs {i : Nat} {a : Nat → Int32} {p : Nat → Nat} (hx : p i < 8) (t : rk_IT a p i) : rk_IT (upd a i (nI (p i))) p (i + 1) := by
  intro j hj
  by_cases e : j = i
  · rw [e, pk_us]
    exact ⟨hx, rfl⟩
  · rw [pk_un e]
    exact t j (by omega)
section
variable {s n l i x : Nat} {p : Nat → Nat} {fc fu : Int32} {a1 a2 a3 a4 a5 a6 : Nat → Int32}
theorem rk_mayCome {post : Int32 → Prop} (vc : rk_VC s n l) (it : rk_IT a1 p i) (hI : rk_I s n l i (rk_sg s p i)) (hi : i < l) (hx : x < 8) (H1 : rk_my s n i (rk_sg s p i) x = true → post 1) (H0 : rk_my s n i (rk_sg s p i) x = false → post 0) : wpX_mayCome post (nI s, nI n, fc, nI l, fu, a1, a2, a3, a4, a5, a6) (nI i) (nI x) := by
  have l14 := rk_l14 vc
  obtain ⟨hl, i0, i1, i2, i3⟩ := hI
  obtain ⟨h1, h7, v⟩ := vc
  have p8 : ∀ j, j < i → p j < 8 := fun j hj => (it j hj).1
  have H0' : ¬ rk_my s n i (rk_sg s p i) x = true → post 0 := fun z => H0 (by
    cases hh : rk_my s n i (rk_sg s p i) x with
    | false => rfl
    | true => exact absurd hh z)
  clear H0
  unfold wpX_mayCome
  rcases v with ⟨rfl, e⟩ | ⟨rfl, rfl⟩ | ⟨rfl, rfl⟩ | ⟨rfl, rfl⟩ | ⟨rfl, e⟩
  · rw [rk_my0] at H1 H0'
    refine br_t (by decide) (pk_le n x (fun z => H0' (by omega)) (fun z => pk_eq i 0 (fun z2 => ?_) (fun z2 => ?_)))
    · subst z2
      exact H1 ⟨z, Nat.zero_le x⟩
    · obtain ⟨k, rfl⟩ : ∃ k, i = k + 1 := ⟨i - 1, by omega⟩
      have es : rk_sg 0 p (k + 1) = p k + 1 := rfl
      have ek : nI (k + 1) - 1 = nI k := nI_pred k
      have pk := p8 k (by omega)
      rw [es] at H1 H0'
      rw [ek, nI_clamp (by omega), (it k (by omega)).2]
      exact ⟨vp_in_nI (by omega) (by omega), pk_le x (p k) (fun z3 => H0' (by omega)) (fun z3 => H1 (by omega))⟩
  · rw [rk_my1] at H1 H0'
    refine br_f (by decide) (br_t (by decide) (pk_le l x (fun z => H0' (by omega)) (fun z => rk_usedBefore (by omega) it ?_)))
    exact ek_if (rk_w3 _ (rk_m8 i p8) x hx) (fun z2 => H1 ⟨z, z2⟩) (fun z2 => H0' (fun z3 => z2 z3.2))
  · rw [rk_my2] at H1 H0'
    have g8 := rk_g8 i p8
    refine br_f (by decide) (br_f (by decide) (br_t (by decide) (rk_greatestBefore (by omega) it ?_)))
    exact ek_if (rk_w5 _ (by omega) x hx) (fun z2 => H0' (by omega)) (fun z2 => H1 (by omega))
  · rw [rk_my3] at H1 H0'
    have t3 := i3 rfl
    refine br_f (by decide) (br_f (by decide) (br_f (by decide) (br_f (by decide) (pk_le x 1 (fun z => rk_sumBefore (s := 3) (fun _ _ => rfl) (by omega) it ?_) (fun z => H0' (by omega))))))
    refine pk_eq x 1 (fun z2 => pk_le n (rk_sg 3 p i) (fun z3 => H0' (by omega)) (fun z3 => H1 (by omega))) (fun z2 => ?_)
    exact pk_le (rk_sg 3 p i) (i - rk_sg 3 p i) (fun z3 => H0' (by omega)) (fun z3 => H1 (by omega)) rfl (pk_sub t3.2.1)
  · rw [rk_my4] at H1 H0'
    exact br_f (by decide) (br_f (by decide) (br_f (by decide) (br_t (by decide) (pk_lt n x (fun z => H0' (by omega)) (fun z => H1 (by omega))))))
theorem rk_withItem {post : Int32 → St1 → Prop} (vc : rk_VC s n l) (tb : rk_TB a3 a4 a5 a6) (it : rk_IT a1 p i) (hI : rk_I s n l i (rk_sg s p i)) (hi : i < l) (hx : x < 8)
    (H : ∀ b1, rk_sm i a1 b1 → post (nI (rk_wn s n l i (rk_sg s p i) x)) (nI s, nI n, fc, nI l, fu, b1, a2, a3, a4, a5, a6)) : wpX_withItem post (nI s, nI n, fc, nI l, fu, a1, a2, a3, a4, a5, a6) (nI i) (nI x) := by
  have l14 := rk_l14 vc
  unfold wpX_withItem
  refine rk_mayCome vc it hI hi hx (fun hm => ?_) (fun hm => ?_)
  · refine br_f (by decide) ⟨pk_in i 14 (by omega), nm_e ⟨pk_in i 14 (by omega), ?_⟩⟩
    rw [nI_clamp (by omega), rk_b8 x hx]
    refine nm_e ?_
    have ag : ∀ j, j < i → p j = rk_u p i x j := fun j hj => (rk_un (by omega)).symm
    have e1 : rk_sg s (rk_u p i x) (i + 1) = rk_st s (rk_sg s p i) x := by
      show rk_st s (rk_sg s (rk_u p i x) i) (rk_u p i x i) = _
      rw [← rk_csg i ag, rk_us]
    have it2 : rk_IT (upd a1 i (nI x)) (rk_u p i x) (i + 1) := rk_ITu hx it
    have I2 : rk_I s n l (i + 1) (rk_sg s (rk_u p i x) (i + 1)) := by
      rw [e1]
      exact rk_Is vc hI hi hx hm
    rw [nI_1]
    refine rk_goingOn vc tb it2 I2 ⟨pk_in i 14 (by omega), nm_e ?_⟩
    rw [e1, ← rk_wc (l := l) hm]
    refine H _ ⟨fun j hj => ?_, fun v hv e => ?_⟩
    · rw [pk_un hj, pk_un hj]
    · rw [pk_us, e, vp_nar_byte]
      exact rk_b8 v hv
  · refine br_t rfl ?_
    have e : rk_wn s n l i (rk_sg s p i) x = 0 := if_neg (by rw [hm]; decide)
    have H := H a1 rk_sm0
    rw [e] at H
    exact H
theorem rk_withItem2 {post : Int32 → St1 → Prop} (vc : rk_VC s n l) (tb : rk_TB a3 a4 a5 a6) (it : rk_IT a1 p i) (hI : rk_I s n l i (rk_sg s p i)) (hi : i < l) (hx : x < 8)
    (H : ∀ b1, rk_sm i a1 b1 → post (nI (rk_wn s n l i (rk_sg s p i) x)) (nI s, nI n, fc, nI l, fu, b1, a2, a3, a4, a5, a6)) : wpX_withItem_2 post (nI s, nI n, fc, nI l, fu, a1, a2, a3, a4, a5, a6) (nI i) (nI x) := by
  have h := rk_withItem (post := post) (fc := fc) (fu := fu) vc tb it hI hi hx H
  exact h
end
/-! ===== the walk: go ===== -/
section
variable {s n l : Nat} {p : Nat → Nat} {fc fu : Int32} {a1 a2 a3 a4 a5 a6 : Nat → Int32}
theorem rk_go44 {post : Int32 → St1 → Prop} {J : Int32 → Int32 → Int32 → Int32 → Int32 → Int32 → Int32 → (Nat → Int32) → (Nat → Int32) → (Nat → Int32) → (Nat → Int32) → (Nat → Int32) → (Nat → Int32) → Prop} {x1 : Int32} {m i : Nat} (vc : rk_VC s n l) (tb : rk_TB a3 a4 a5 a6) (g : rk_G s n l p l) (hm : rk_rk s n l p l = m) (hi : i < l) (it : rk_IT a1 p i)
    (H : ∀ b1, rk_IT b1 p (i + 1) → J (nI (m - rk_rk s n l p (i + 1))) (nI (i + 1)) (nI s) (nI n) fc (nI l) fu b1 a2 a3 a4 a5 a6) :
    ∃ k, wX_go_44 post J x1 (nI i) k (nI (m - rk_rk s n l p i)) 0 (nI (rk_wn s n l i (rk_sg s p i) 0)) (nI s) (nI n) fc (nI l) fu a1 a2 a3 a4 a5 a6 := by
  have l14 := rk_l14 vc
  have bd := rk_bnd vc
  have hlt := rk_lt vc g
  have I := rk_GI vc i (by omega) (rk_Gd (by omega) g)
  have p8 := (g.2 i hi).1
  have nx := rk_In vc g (show i + 1 ≤ l from hi)
  rw [rk_sc (rk_Gd hi g)] at nx
  have er : rk_rk s n l p (i + 1) = rk_rk s n l p i + rk_S s n l i (rk_sg s p i) (p i) := rfl
  have wb : ∀ x, x < 8 → rk_wn s n l i (rk_sg s p i) x ≤ 5040 := by
    intro x hx
    have a := rk_A vc I hi
    have b := rk_cle vc i (by omega) (rk_Gd (by omega) g)
    have m : rk_S s n l i (rk_sg s p i) (x + 1) ≤ rk_S s n l i (rk_sg s p i) 8 := rk_Sm 8 hx
    have e : rk_S s n l i (rk_sg s p i) (x + 1) = rk_S s n l i (rk_sg s p i) x + rk_wn s n l i (rk_sg s p i) x := rfl
    omega
  refine pk_loop (fun k x b => wX_go_44 post J x1 (nI i) k (nI (m - rk_rk s n l p i - rk_S s n l i (rk_sg s p i) x)) (nI x) (nI (rk_wn s n l i (rk_sg s p i) x)) (nI s) (nI n) fc (nI l) fu b a2 a3 a4 a5 a6) (fun _ b => rk_IT b p i) (p i) 0 a1 (by omega) it ?_ ?_
  · intro k b hb
    have wbp := wb (p i) p8
    refine pk_lt (m - rk_rk s n l p i - rk_S s n l i (rk_sg s p i) (p i)) (rk_wn s n l i (rk_sg s p i) (p i)) (fun z => ⟨pk_in i 14 (by omega), ?_⟩) (fun z => absurd z (by omega))
    rw [nI_clamp (by omega), rk_b8 _ p8]
    refine nm_e (nm_r (nI_1 i) ?_)
    have h := H _ (rk_ITs p8 hb)
    rw [er, ← Nat.sub_sub] at h
    exact h
  · intro k x b hx hb hw
    have m1 : rk_S s n l i (rk_sg s p i) (x + 1) ≤ rk_S s n l i (rk_sg s p i) (p i) := rk_Sm _ hx
    have e1 : rk_S s n l i (rk_sg s p i) (x + 1) = rk_S s n l i (rk_sg s p i) x + rk_wn s n l i (rk_sg s p i) x := rfl
    refine pk_lt (m - rk_rk s n l p i - rk_S s n l i (rk_sg s p i) x) (rk_wn s n l i (rk_sg s p i) x) (fun z => absurd z (by omega)) (fun z => nm_r (pk_sub z) (nm_r (nI_1 x) ?_))  rfl rfl (by omega) (by have := wb x (by omega); omega)
    refine rk_withItem vc tb hb I hi (by omega) (fun b1 hs => ?_)
    have h := hw b1 (rk_smI hs hb)
    rw [show m - rk_rk s n l p i - rk_S s n l i (rk_sg s p i) x - rk_wn s n l i (rk_sg s p i) x = m - rk_rk s n l p i - rk_S s n l i (rk_sg s p i) (x + 1) by omega]
    exact h
theorem rk_go {post : Int32 → St1 → Prop} {m : Nat} (vc : rk_VC s n l) (tb : rk_TB a3 a4 a5 a6) (g : rk_G s n l p l) (hm : rk_rk s n l p l = m)
    (H : ∀ b1, rk_IT b1 p l → post (nI m) (nI s, nI n, fc, nI l, nI m, b1, a2, a3, a4, a5, a6)) : wpX_go post (nI s, nI n, fc, nI l, fu, a1, a2, a3, a4, a5, a6) (nI m) := by
  have l14 := rk_l14 vc
  have bd := rk_bnd vc
  have hlt := rk_lt vc g
  unfold wpX_go
  refine rk_goingOn (i := 0) (p := p) vc tb rk_IT0 (rk_I0 vc) (br_f (nI_pos (by omega)) (br_t (nI_lt (by rw [← hm]; exact hlt) (by have e : rk_sg s p 0 = 0 := rfl; rw [e]; omega)) ?_))
  refine pk_loop (fun k i b => wX_go_22 post (nI m) k (nI (m - rk_rk s n l p i)) (nI i) (nI s) (nI n) fc (nI l) fu b a2 a3 a4 a5 a6) (fun i b => rk_IT b p i) l 0 a1 (by omega) rk_IT0 ?_ ?_
  · exact fun k b hb => pk_le l l (fun _ => H b hb) (fun z => absurd z (by omega))
  · intro k i b hi hb hw
    refine pk_le l i (fun z => absurd z (by omega)) (fun z => ?_)
    refine rk_withItem (x := 0) vc tb hb (rk_GI vc i (by omega) (rk_Gd (by omega) g)) hi (by omega) (fun b1 hs => ?_)
    exact rk_go44 vc tb g hm hi (rk_smI hs hb) hw
theorem rk_goBad {post : Int32 → St1 → Prop} {x : Int32} (vc : rk_VC s n l) (tb : rk_TB a3 a4 a5 a6) (h : x < 0 ∨ (x = 0 ∧ rk_cn s n l 0 0 = 0))
    (H : post (-1) (nI s, nI n, fc, nI l, fu, a1, a2, a3, a4, a5, a6)) : wpX_go post (nI s, nI n, fc, nI l, fu, a1, a2, a3, a4, a5, a6) x := by
  unfold wpX_go
  refine rk_goingOn (i := 0) (p := fun _ => 0) vc tb rk_IT0 (rk_I0 vc) ?_
  rcases h with h | ⟨h, h2⟩
  · exact br_t h H
  · have e : rk_cn s n l 0 (rk_sg s (fun _ => 0) 0) = 0 := h2
    rw [e, h]
    exact br_f (by decide) (br_f (by decide) H)
end
end
section
/-! ===== pure: least and greatest possible items ===== -/
theorem rk_Sz {s n l i a x : Nat} : ∀ t, x ≤ t → (∀ y, x ≤ y → y < t → rk_wn s n l i a y = 0) → rk_S s n l i a t = rk_S s n l i a x
  | 0, h, _ => by
    have : x = 0 := by omega
    rw [this]
  | t + 1, h, hz => by
    by_cases e : x = t + 1
    · rw [e]
    · have ih := rk_Sz t (show x ≤ t by omega) (fun y h1 h2 => hz y h1 (by omega))
      have z := hz t (by omega) (by omega)
      show rk_S s n l i a t + rk_wn s n l i a t = _
      rw [ih, z, Nat.add_zero]
theorem rk_up {f : Nat → Nat} (b : Nat) : ∀ d a, a + d = b → ∃ t, a ≤ t ∧ t ≤ b ∧ (∀ y, a ≤ y → y < t → f y = 0) ∧ (t < b → 0 < f t)
  | 0, a, h => ⟨a, Nat.le_refl a, by omega, fun y h1 h2 => absurd h1 (by omega), fun z => absurd z (by omega)⟩
  | d + 1, a, h => by
    by_cases e : f a = 0
    · obtain ⟨t, h1, h2, h3, h4⟩ := rk_up (f := f) b d (a + 1) (by omega)
      refine ⟨t, by omega, h2, fun y g1 g2 => ?_, h4⟩
      by_cases ey : y = a
      · rw [ey]; exact e
      · exact h3 y (by omega) g2
    · exact ⟨a, Nat.le_refl a, by omega, fun y h1 h2 => absurd h1 (by omega), fun _ => by omega⟩
theorem rk_down {f : Nat → Nat} : ∀ b, (∃ x, x < b ∧ 0 < f x) → ∃ t, t < b ∧ 0 < f t ∧ ∀ y, t < y → y < b → f y = 0
  | 0, ⟨x, hx, _⟩ => absurd hx (by omega)
  | b + 1, ⟨x, hx, hf⟩ => by
    by_cases e : f b = 0
    · have : x ≠ b := fun z => by rw [z] at hf; omega
      obtain ⟨t, h1, h2, h3⟩ := rk_down (f := f) b ⟨x, by omega, hf⟩
      refine ⟨t, by omega, h2, fun y g1 g2 => ?_⟩
      by_cases ey : y = b
      · rw [ey]; exact e
      · exact h3 y g1 (by omega)
    · exact ⟨b, by omega, by omega, fun y h1 h2 => absurd h1 (by omega)⟩
section
variable {s n l : Nat} {p : Nat → Nat} {fc fu : Int32} {a1 a2 a3 a4 a5 a6 : Nat → Int32}
theorem rk_some {i : Nat} (vc : rk_VC s n l) (hi : i < l) (g : rk_G s n l p i) : ∃ x, x < 8 ∧ 0 < rk_wn s n l i (rk_sg s p i) x := by
  have a := rk_A vc (rk_GI vc i (by omega) g) hi
  have b := rk_pos i g
  rcases Classical.em (∃ x, x < 8 ∧ 0 < rk_wn s n l i (rk_sg s p i) x) with h | h
  · exact h
  · have z : rk_S s n l i (rk_sg s p i) 8 = 0 := rk_S0 8 (fun x hx => Nat.eq_zero_of_not_pos (fun hp => h ⟨x, hx, hp⟩))
    omega
theorem rk_ub {i x : Nat} (vc : rk_VC s n l) (hi : i < l) (g : rk_G s n l p i) (hx : x < 8) : rk_wn s n l i (rk_sg s p i) x ≤ 5040 := by
  have bd := rk_bnd vc
  have a := rk_A vc (rk_GI vc i (by omega) g) hi
  have b := rk_cle vc i (by omega) g
  have m : rk_S s n l i (rk_sg s p i) (x + 1) ≤ rk_S s n l i (rk_sg s p i) 8 := rk_Sm 8 hx
  have e : rk_S s n l i (rk_sg s p i) (x + 1) = rk_S s n l i (rk_sg s p i) x + rk_wn s n l i (rk_sg s p i) x := rfl
  omega
/-- an item put behind a good beginning -/
theorem rk_put {i x : Nat} (g : rk_G s n l p i) (hx : x < 8) (hw : 0 < rk_wn s n l i (rk_sg s p i) x) : rk_G s n l (rk_u p i x) (i + 1) ∧ rk_rk s n l (rk_u p i x) (i + 1) = rk_rk s n l p i + rk_S s n l i (rk_sg s p i) x ∧ rk_cn s n l (i + 1) (rk_sg s (rk_u p i x) (i + 1)) = rk_wn s n l i (rk_sg s p i) x := by
  have ag : ∀ j, j < i → p j = rk_u p i x j := fun j hj => (rk_un (by omega)).symm
  have e1 : rk_sg s (rk_u p i x) i = rk_sg s p i := (rk_csg i ag).symm
  have e2 : rk_rk s n l (rk_u p i x) i = rk_rk s n l p i := (rk_crk i ag).symm
  have g2 : rk_G s n l (rk_u p i x) (i + 1) := rk_Gs (rk_cG ag g) (by rw [rk_us]; exact hx) (by rw [rk_us, e1]; exact hw)
  refine ⟨g2, ?_, ?_⟩
  · show rk_rk s n l (rk_u p i x) i + rk_S s n l i (rk_sg s (rk_u p i x) i) (rk_u p i x i) = _
    rw [e2, e1, rk_us]
  · rw [rk_sc g2, e1, rk_us]
theorem rk_smallestAt {post : Int32 → St1 → Prop} {i : Nat} (vc : rk_VC s n l) (tb : rk_TB a3 a4 a5 a6) (g : rk_G s n l p i) (it : rk_IT a1 p i) (hi : i < l)
    (H : ∀ x b1, x < 8 → 0 < rk_wn s n l i (rk_sg s p i) x → (∀ y, y < x → rk_wn s n l i (rk_sg s p i) y = 0) → rk_sm i a1 b1 → post (nI x) (nI s, nI n, fc, nI l, fu, b1, a2, a3, a4, a5, a6)) :
    wpX_smallestAt post (nI s, nI n, fc, nI l, fu, a1, a2, a3, a4, a5, a6) (nI i) := by
  obtain ⟨x0, hx0, hw0⟩ := rk_some vc hi g
  obtain ⟨t, h1, h2, h3, h4⟩ := rk_up (f := rk_wn s n l i (rk_sg s p i)) 8 8 0 (by omega)
  have t8 : t < 8 := by
    rcases Nat.lt_or_ge t 8 with z | z
    · exact z
    · have := h3 x0 (by omega) (by omega)
      omega
  have I := rk_GI vc i (by omega) g
  refine pk_loop (fun k x b => wX_smallestAt_2 post (nI i) k (nI x) (nI s) (nI n) fc (nI l) fu b a2 a3 a4 a5 a6) (fun _ b => rk_sm i a1 b) t 0 a1 (by omega) rk_sm0 ?_ ?_
  · intro k b hb
    rw [wX_smallestAt_2]
    exact rk_withItem2 vc tb (rk_smI hb it) I hi t8 (fun b1 hs => br_f (nI_ne0 (h4 t8) (by have := rk_ub vc hi g t8; omega)) (H t b1 t8 (h4 t8) (fun y hy => h3 y (by omega) hy) (rk_smt hb hs)))
  · intro k x b hx hb hw
    rw [wX_smallestAt_2]
    refine rk_withItem2 vc tb (rk_smI hb it) I hi (by omega) (fun b1 hs => br_t (by rw [h3 x (by omega) hx]; rfl) (nm_r (nI_1 x) (hw b1 (rk_smt hb hs))))
theorem rk_greatestAt {post : Int32 → St1 → Prop} {i : Nat} (vc : rk_VC s n l) (tb : rk_TB a3 a4 a5 a6) (g : rk_G s n l p i) (it : rk_IT a1 p i) (hi : i < l)
    (H : ∀ x b1, x < 8 → 0 < rk_wn s n l i (rk_sg s p i) x → (∀ y, x < y → y < 8 → rk_wn s n l i (rk_sg s p i) y = 0) → rk_sm i a1 b1 → post (nI x) (nI s, nI n, fc, nI l, fu, b1, a2, a3, a4, a5, a6)) :
    wpX_greatestAt post (nI s, nI n, fc, nI l, fu, a1, a2, a3, a4, a5, a6) (nI i) := by
  obtain ⟨t, t8, h2, h3⟩ := rk_down 8 (rk_some vc hi g)
  have I := rk_GI vc i (by omega) g
  have lp := pk_loopD (fun k d b => wX_greatestAt_3 post (nI i) k (nI (t + d)) (nI s) (nI n) fc (nI l) fu b a2 a3 a4 a5 a6) (fun d b => t + d < 8 ∧ rk_sm i a1 b) ?_ ?_ (7 - t) a1 ⟨by omega, rk_sm0⟩
  · rw [show t + (7 - t) = 7 by omega] at lp
    exact ⟨_, lp⟩
  · intro k b hb
    show wX_greatestAt_3 post (nI i) (k + 1) (nI t) (nI s) (nI n) fc (nI l) fu b a2 a3 a4 a5 a6
    rw [wX_greatestAt_3]
    exact rk_withItem2 vc tb (rk_smI hb.2 it) I hi t8 (fun b1 hs => br_f (nI_ne0 h2 (by have := rk_ub vc hi g t8; omega)) (H t b1 t8 h2 h3 (rk_smt hb.2 hs)))
  · intro k d b hb hw
    rw [wX_greatestAt_3]
    refine rk_withItem2 vc tb (rk_smI hb.2 it) I hi hb.1 (fun b1 hs => br_t (by rw [h3 (t + (d + 1)) (by omega) hb.1]; rfl) (nm_r (pk_m1 (t + d)) (hw b1 ⟨by have := hb.1; omega, rk_smt hb.2 hs⟩)))
end
end
section
/-! ===== the walk: previous and next ===== -/
theorem rk_neg1 (x : Int32) : x + (-1) = x - 1 := by grind
section
variable {s n l : Nat} {p : Nat → Nat} {fc fu : Int32} {a1 a2 a3 a4 a5 a6 : Nat → Int32}
theorem rk_prev68 {post : Int32 → St1 → Prop} {m k : Nat} {q : Nat → Nat} (vc : rk_VC s n l) (tb : rk_TB a3 a4 a5 a6) (hk : k ≤ l) (h0 : 0 < m) (g : rk_G s n l q k) (hr : rk_rk s n l q k + rk_cn s n l k (rk_sg s q k) = m) (it : rk_IT a1 q k)
    (H : ∀ q b, rk_G s n l q l → rk_rk s n l q l + 1 = m → rk_IT b q l → post (nI (m - 1)) (nI s, nI n, fc, nI l, nI (m - 1), b, a2, a3, a4, a5, a6)) :
    ∃ f, wX_previous_68 post f (nI k) (nI s) (nI n) fc (nI l) (nI m) a1 a2 a3 a4 a5 a6 := by
  have l14 := rk_l14 vc
  refine pk_loop (fun f j b => wX_previous_68 post f (nI j) (nI s) (nI n) fc (nI l) (nI m) b a2 a3 a4 a5 a6) (fun j b => ∃ q, rk_G s n l q j ∧ rk_rk s n l q j + rk_cn s n l j (rk_sg s q j) = m ∧ rk_IT b q j) l k a1 hk ⟨q, g, hr, it⟩ ?_ ?_
  · rintro f b ⟨q, g, hr, it⟩
    rw [rk_top vc g] at hr
    exact pk_le l l (fun _ => nm_r (pk_sub (show 1 ≤ m from h0)) (H q b g hr it)) (fun z => absurd z (by omega))
  · rintro f j b hj ⟨q, g, hr, it⟩ hw
    refine pk_le l j (fun z => absurd z (by omega)) (fun z => rk_greatestAt (p := q) vc tb g it hj (fun x b1 hx hp hz hs => ⟨pk_in j 14 (by omega), ?_⟩))
    rw [nI_clamp (by omega), rk_b8 x hx]
    have t := rk_put g hx hp
    have a := rk_A vc (rk_GI vc j (by omega) g) hj
    have z8 : rk_S s n l j (rk_sg s q j) 8 = rk_S s n l j (rk_sg s q j) (x + 1) := rk_Sz 8 hx (fun y h1 h2 => hz y h1 h2)
    have e1 : rk_S s n l j (rk_sg s q j) (x + 1) = rk_S s n l j (rk_sg s q j) x + rk_wn s n l j (rk_sg s q j) x := rfl
    refine nm_e (nm_r (nI_1 j) (hw _ ⟨rk_u q j x, t.1, ?_, rk_ITu hx (rk_smI hs it)⟩))
    rw [t.2.1, t.2.2]
    omega
theorem rk_previous {post : Int32 → St1 → Prop} {m : Nat} (vc : rk_VC s n l) (tb : rk_TB a3 a4 a5 a6) (g : rk_G s n l p l) (hm : rk_rk s n l p l = m) (h0 : 0 < m) (it : rk_IT a1 p l)
    (H : ∀ q b, rk_G s n l q l → rk_rk s n l q l + 1 = m → rk_IT b q l → post (nI (m - 1)) (nI s, nI n, fc, nI l, nI (m - 1), b, a2, a3, a4, a5, a6)) :
    wpX_previous post (nI s, nI n, fc, nI l, nI m, a1, a2, a3, a4, a5, a6) := by
  have l14 := rk_l14 vc
  have bd := rk_bnd vc
  have hlt := rk_lt vc g
  unfold wpX_previous
  refine br_t (nI_lt (a := 0) h0 (by omega)) (nm_e ?_)
  have lp := pk_loopD (fun f k b => wX_previous_17 post f (nI k - 1) (nI s) (nI n) fc (nI l) (nI m) b a2 a3 a4 a5 a6) (fun k b => k ≤ l ∧ rk_IT b p l ∧ rk_rk s n l p k = m) ?_ ?_ l a1 ⟨Nat.le_refl l, it, hm⟩
  · exact ⟨_, lp⟩
  · rintro f b ⟨_, _, hr⟩
    have e : rk_rk s n l p 0 = 0 := rfl
    omega
  · rintro f k b ⟨hk, hb, hr⟩ hw
    have gk : rk_G s n l p k := rk_Gd (by omega) g
    have I := rk_GI vc k (by omega) gk
    have p8 := (g.2 k hk).1
    have er : rk_rk s n l p (k + 1) = rk_rk s n l p k + rk_S s n l k (rk_sg s p k) (p k) := rfl
    rw [nI_pred]
    refine br_f (nI_pos (by omega)) ⟨pk_in k 14 (by omega), ?_⟩
    rw [nI_clamp (by omega), (hb k hk).2]
    refine nm_e ?_
    have lp2 := pk_loopD (fun f2 c b => wX_previous_30 post (wX_previous_17 post f) (nI k) f2 (nI c - 1) (nI s) (nI n) fc (nI l) (nI m) b a2 a3 a4 a5 a6) (fun c b => c ≤ p k ∧ rk_IT b p l ∧ ∀ y, c ≤ y → y < p k → rk_wn s n l k (rk_sg s p k) y = 0) ?_ ?_ (p k) b ⟨Nat.le_refl _, hb, fun y h1 h2 => absurd h1 (by omega)⟩
    · exact ⟨_, lp2⟩
    · rintro f2 b ⟨_, hb, hz⟩
      have z : rk_S s n l k (rk_sg s p k) (p k) = rk_S s n l k (rk_sg s p k) 0 := rk_Sz (p k) (Nat.zero_le _) hz
      have z0 : rk_S s n l k (rk_sg s p k) 0 = 0 := rfl
      have e0 : nI 0 - 1 < 0 := by decide
      have e1 : ¬ (0 : Int32) ≤ nI 0 - 1 := by decide
      exact br_t e0 (br_f e1 (nm_r (rk_neg1 (nI k)) (hw b ⟨by omega, hb, by omega⟩)))
    · rintro f2 c b ⟨hc, hb, hz⟩ hw2
      have ub := rk_ub (x := c) vc hk gk (by omega)
      rw [nI_pred]
      refine br_f (nI_pos (by omega)) (rk_withItem (x := c) vc tb (rk_ITd (by omega) hb) I hk (by omega) (fun b1 hs => ?_))
      have hb1 := rk_smI hs hb
      refine pk_eq (rk_wn s n l k (rk_sg s p k) c) 0 (fun z => nm_r (rk_neg1 (nI c)) (hw2 b1 ⟨by omega, hb1, fun y h1 h2 => ?_⟩)) (fun z => ?_)
      · by_cases e : y = c
        · rw [e]; exact z
        · exact hz y (by omega) h2
      · have t := rk_put (x := c) gk (by omega) (by omega)
        have zz : rk_S s n l k (rk_sg s p k) (p k) = rk_S s n l k (rk_sg s p k) (c + 1) := rk_Sz (p k) hc hz
        have e1 : rk_S s n l k (rk_sg s p k) (c + 1) = rk_S s n l k (rk_sg s p k) c + rk_wn s n l k (rk_sg s p k) c := rfl
        refine br_t (nI_pos' (by omega)) ⟨pk_in k 14 (by omega), ?_⟩
        rw [nI_clamp (by omega), rk_b8 c (by omega)]
        refine nm_e (nm_r (nI_1 k) (rk_prev68 (q := rk_u p k c) vc tb hk h0 t.1 ?_ (rk_ITu (by omega) (rk_ITd (by omega) hb1)) H))
        rw [t.2.1, t.2.2]
        omega
theorem rk_next89 {post : Int32 → St1 → Prop} {m k : Nat} {q : Nat → Nat} (vc : rk_VC s n l) (tb : rk_TB a3 a4 a5 a6) (hk : k ≤ l) (g : rk_G s n l q k) (hr : rk_rk s n l q k = m + 1) (it : rk_IT a1 q k)
    (H : ∀ q b, rk_G s n l q l → rk_rk s n l q l = m + 1 → rk_IT b q l → post (nI (m + 1)) (nI s, nI n, fc, nI l, nI (m + 1), b, a2, a3, a4, a5, a6)) :
    ∃ f, wX_next_89 post f (nI k) (nI s) (nI n) fc (nI l) (nI m) a1 a2 a3 a4 a5 a6 := by
  have l14 := rk_l14 vc
  refine pk_loop (fun f j b => wX_next_89 post f (nI j) (nI s) (nI n) fc (nI l) (nI m) b a2 a3 a4 a5 a6) (fun j b => ∃ q, rk_G s n l q j ∧ rk_rk s n l q j = m + 1 ∧ rk_IT b q j) l k a1 hk ⟨q, g, hr, it⟩ ?_ ?_
  · rintro f b ⟨q, g, hr, it⟩
    exact pk_le l l (fun _ => nm_r (nI_1 m) (H q b g hr it)) (fun z => absurd z (by omega))
  · rintro f j b hj ⟨q, g, hr, it⟩ hw
    refine pk_le l j (fun z => absurd z (by omega)) (fun z => rk_smallestAt (p := q) vc tb g it hj (fun x b1 hx hp hz hs => ⟨pk_in j 14 (by omega), ?_⟩))
    rw [nI_clamp (by omega), rk_b8 x hx]
    have t := rk_put g hx hp
    have z8 : rk_S s n l j (rk_sg s q j) x = 0 := rk_S0 x hz
    refine nm_e (nm_r (nI_1 j) (hw _ ⟨rk_u q j x, t.1, ?_, rk_ITu hx (rk_smI hs it)⟩))
    rw [t.2.1]
    omega
theorem rk_next {post : Int32 → St1 → Prop} {m : Nat} (vc : rk_VC s n l) (tb : rk_TB a3 a4 a5 a6) (g : rk_G s n l p l) (hm : rk_rk s n l p l = m) (h0 : m + 1 < rk_cn s n l 0 0) (it : rk_IT a1 p l)
    (H : ∀ q b, rk_G s n l q l → rk_rk s n l q l = m + 1 → rk_IT b q l → post (nI (m + 1)) (nI s, nI n, fc, nI l, nI (m + 1), b, a2, a3, a4, a5, a6)) :
    wpX_next post (nI s, nI n, fc, nI l, nI m, a1, a2, a3, a4, a5, a6) := by
  have l14 := rk_l14 vc
  have bd := rk_bnd vc
  unfold wpX_next
  refine rk_goingOn (i := 0) (p := p) vc tb rk_IT0 (rk_I0 vc) (br_f (nI_pos (by omega)) ?_)
  have ec : rk_cn s n l 0 (rk_sg s p 0) = rk_cn s n l 0 0 := rfl
  rw [nI_1, ec]
  refine br_t (nI_lt h0 (by omega)) (nm_e ?_)
  have lp := pk_loopD (fun f k b => wX_next_33 post f (nI k - 1) (nI s) (nI n) fc (nI l) (nI m) b a2 a3 a4 a5 a6) (fun k b => k ≤ l ∧ rk_IT b p l ∧ rk_rk s n l p k + rk_cn s n l k (rk_sg s p k) = m + 1) ?_ ?_ l a1 ⟨Nat.le_refl l, it, by rw [rk_top vc g]; omega⟩
  · exact ⟨_, lp⟩
  · rintro f b ⟨_, _, hr⟩
    have e : rk_rk s n l p 0 = 0 := rfl
    rw [ec] at hr
    omega
  · rintro f k b ⟨hk, hb, hr⟩ hw
    have gk : rk_G s n l p k := rk_Gd (by omega) g
    have I := rk_GI vc k (by omega) gk
    have a := rk_A vc I hk
    have p8 := (g.2 k hk).1
    have er : rk_rk s n l p (k + 1) = rk_rk s n l p k + rk_S s n l k (rk_sg s p k) (p k) := rfl
    have es : rk_S s n l k (rk_sg s p k) (p k + 1) = rk_S s n l k (rk_sg s p k) (p k) + rk_wn s n l k (rk_sg s p k) (p k) := rfl
    rw [rk_sc (rk_Gd hk g)] at hr
    rw [nI_pred]
    refine br_f (nI_pos (by omega)) ⟨pk_in k 14 (by omega), ?_⟩
    rw [nI_clamp (by omega), (hb k hk).2]
    refine nm_r (nI_1 (p k)) ?_
    obtain ⟨t, h1, h2, h3, h4⟩ := rk_up (f := rk_wn s n l k (rk_sg s p k)) 8 (8 - (p k + 1)) (p k + 1) (by omega)
    have zz : rk_S s n l k (rk_sg s p k) t = rk_S s n l k (rk_sg s p k) (p k + 1) := rk_Sz t h1 h3
    refine pk_loop (fun f2 c b => wX_next_46 post (wX_next_33 post f) (nI k) f2 (nI c) (nI s) (nI n) fc (nI l) (nI m) b a2 a3 a4 a5 a6) (fun c b => p k + 1 ≤ c ∧ rk_IT b p l) t (p k + 1) b h1 ⟨Nat.le_refl _, hb⟩ ?_ ?_
    · rintro f2 b ⟨_, hb⟩
      refine pk_le 8 t (fun z => ?_) (fun z => ?_)
      · have e8 : t = 8 := by omega
        subst e8
        exact br_t rfl (nm_r (rk_neg1 (nI k)) (hw b ⟨by omega, hb, by omega⟩))
      · have ub := rk_ub (x := t) vc hk gk z
        refine rk_withItem (x := t) vc tb (rk_ITd (by omega) hb) I hk z (fun b1 hs => br_f (nI_ne0 (h4 z) (by omega)) ?_)
        have hb1 := rk_smI hs hb
        have tt := rk_put (x := t) gk z (h4 z)
        refine pk_eq t 8 (fun z2 => absurd z2 (by omega)) (fun _ => ⟨pk_in k 14 (by omega), ?_⟩)
        rw [nI_clamp (by omega), rk_b8 t z]
        refine nm_e (nm_r (nI_1 k) (rk_next89 (q := rk_u p k t) vc tb hk tt.1 ?_ (rk_ITu z (rk_ITd (by omega) hb1)) H))
        rw [tt.2.1]
        omega
    · rintro f2 c b hc ⟨hp, hb⟩ hw2
      refine pk_le 8 c (fun z => absurd z (by omega)) (fun z => ?_)
      refine rk_withItem (x := c) vc tb (rk_ITd (by omega) hb) I hk (by omega) (fun b1 hs => br_t (by rw [h3 c hp hc]; rfl) (nm_r (nI_1 c) (hw2 b1 ⟨by omega, rk_smI hs hb⟩)))
end
end
section
/-! ===== the walk: rankUpTo, mirrored, the small readers ===== -/
theorem rk_w6 : ∀ k, k < 16 → ∀ j, j < 16 → (nI k - 1 < nI j ↔ k ≤ j) := by decide +kernel
theorem rk_w7 : ∀ v, v < 2 → (1 : Int32) - nI v = nI (1 - v) := by decide +kernel
section
variable {s n l : Nat} {p : Nat → Nat} {fc fu : Int32} {a1 a2 a3 a4 a5 a6 : Nat → Int32}
theorem rk_rankUpTo {post : Int32 → St1 → Prop} {k : Nat} (vc : rk_VC s n l) (tb : rk_TB a3 a4 a5 a6) (g : rk_G s n l p l) (it : rk_IT a1 p l) (hk : k ≤ l)
    (H : ∀ b, rk_IT b p l → post (nI (rk_rk s n l p k)) (nI s, nI n, fc, nI l, fu, b, a2, a3, a4, a5, a6)) :
    wpX_rankUpTo post (nI s, nI n, fc, nI l, fu, a1, a2, a3, a4, a5, a6) (nI k - 1) := by
  have l14 := rk_l14 vc
  refine pk_loop (fun f j b => wX_rankUpTo_4 post (nI k - 1) f (nI (rk_rk s n l p j)) (nI j) (nI s) (nI n) fc (nI l) fu b a2 a3 a4 a5 a6) (fun _ b => rk_IT b p l) k 0 a1 (by omega) it ?_ ?_
  · exact fun f b hb => ek_if (rk_w6 k (by omega) k (by omega)) (fun _ => H b hb) (fun z => absurd (Nat.le_refl k) z)
  · intro f j b hj hb hw
    have hjl : j < l := by omega
    have p8 := (g.2 j hjl).1
    have I := rk_GI vc j (by omega) (rk_Gd (by omega) g)
    have er : rk_rk s n l p (j + 1) = rk_rk s n l p j + rk_S s n l j (rk_sg s p j) (p j) := rfl
    refine ek_if (rk_w6 k (by omega) j (by omega)) (fun z => absurd hj (by omega)) (fun _ => ⟨pk_in j 14 (by omega), ?_⟩)
    rw [nI_clamp (by omega), (hb j hjl).2]
    refine nm_e ?_
    refine pk_loop (fun f2 x b => wX_rankUpTo_20 post (wX_rankUpTo_4 post (nI k - 1) f) (nI k - 1) (nI j) (nI (p j)) f2 (nI (rk_rk s n l p j + rk_S s n l j (rk_sg s p j) x)) (nI x) (nI s) (nI n) fc (nI l) fu b a2 a3 a4 a5 a6) (fun _ b => rk_IT b p l) (p j) 0 b (by omega) hb ?_ ?_
    · intro f2 b hb
      refine pk_le (p j) (p j) (fun _ => ⟨pk_in j 14 (by omega), ?_⟩) (fun z => absurd z (by omega))
      rw [nI_clamp (by omega), rk_b8 _ p8]
      refine nm_e (nm_r (nI_1 j) (hw _ (fun c hc => ?_)))
      by_cases e : c = j
      · rw [e, pk_us]
        exact ⟨p8, rfl⟩
      · rw [pk_un e]
        exact hb c hc
    · intro f2 x b hx hb hw2
      refine pk_le (p j) x (fun z => absurd z (by omega)) (fun _ => ?_)
      refine rk_withItem (x := x) vc tb (rk_ITd (by omega) hb) I hjl (by omega) (fun b1 hs => nm_r ?_ (nm_r (nI_1 x) (hw2 b1 (rk_smI hs hb))))
      rw [nI_add, Nat.add_assoc]
      rfl
theorem rk_mirrored {post : Int32 → St1 → Prop} {m : Nat} (vc : rk_VC s n l) (h2 : s ≠ 2) (tb : rk_TB a3 a4 a5 a6) (g : rk_G s n l p l) (hm : rk_rk s n l p l = m) (it : rk_IT a1 p l)
    (H : ∀ b1 b2, rk_IT b1 p l → post (nI (rk_rk s n l (rk_mi s n l p) l)) (nI s, nI n, fc, nI l, nI m, b1, b2, a3, a4, a5, a6)) :
    wpX_mirrored post (nI s, nI n, fc, nI l, nI m, a1, a2, a3, a4, a5, a6) := by
  have l14 := rk_l14 vc
  have bd := rk_bnd vc
  have hlt := rk_lt vc g
  have s4 : s ≤ 4 := by
    obtain ⟨_, _, v⟩ := vc
    omega
  have q8 : ∀ j, j < l → rk_mi s n l p j < 8 := fun j hj => rk_mi8 vc h2 g hj
  have gq := rk_miG vc h2 g
  unfold wpX_mirrored
  refine br_f (nI_pos (by omega)) (pk_eq s 2 (fun z => absurd z h2) (fun _ => ?_))
  refine pk_loop (fun f i b => wX_mirrored_25 post (nI m) (nI s) (nI n) fc (nI l) (nI m) f (nI i) a1 b a3 a4 a5 a6) (fun i b => rk_IT b (rk_mi s n l p) i) l 0 a2 (by omega) rk_IT0 ?_ ?_
  · intro f b2 hb2
    refine pk_le l l (fun _ => ?_) (fun z => absurd z (by omega))
    refine pk_loop (fun f i b => wX_mirrored_91 post (nI m) (nI s) (nI n) fc (nI l) (nI m) f (nI i) b b2 a3 a4 a5 a6) (fun i b => rk_IT b (rk_mi s n l p) i) l 0 a1 (by omega) rk_IT0 ?_ ?_
    · intro f b1 hb1
      refine pk_le l l (fun _ => ?_) (fun z => absurd z (by omega))
      exact rk_rankUpTo vc tb gq hb1 (Nat.le_refl l) (fun b hb => rk_go vc tb g hm (fun b1 hb1 => H b1 b2 hb1))
    · intro f i b hi hb hw
      refine pk_le l i (fun z => absurd z (by omega)) (fun _ => ⟨pk_in i 14 (by omega), pk_in i 14 (by omega), ?_⟩)
      rw [nI_clamp (by omega), (hb2 i hi).2, vp_nar_byte, rk_b8 _ (q8 i hi)]
      exact nm_e (nm_r (nI_1 i) (hw _ (rk_ITs (q8 i hi) hb)))
  · intro f i b hi hb hw
    have hpos : l - 1 - i < l := by omega
    have e1 : nI l - 1 - nI i = nI (l - 1 - i) := by
      have e3 : nI l - 1 = nI (l - 1) := pk_sub (show 1 ≤ l by omega)
      rw [e3, pk_sub (by omega)]
    have GM := rk_wm (g.2 (l - 1 - i) hpos).2
    have it' := it (l - 1 - i) hpos
    have fin : ∀ y, y = nI (rk_mi s n l p i) → wX_mirrored_75 post (wX_mirrored_25 post (nI m) (nI s) (nI n) fc (nI l) (nI m) f) (nI m) (nI i) y (nI s) (nI n) fc (nI l) (nI m) a1 b a3 a4 a5 a6 := by
      intro y hy
      subst hy
      refine ⟨pk_in i 14 (by omega), ?_⟩
      rw [nI_clamp (by omega), rk_b8 _ (q8 i hi)]
      exact nm_e (nm_r (nI_1 i) (hw _ (rk_ITs (q8 i hi) hb)))
    refine pk_le l i (fun z => absurd z (by omega)) (fun _ => ?_)
    rw [e1]
    refine ⟨pk_in (l - 1 - i) 14 (by omega), ?_⟩
    rw [nI_clamp (by omega), it'.2]
    refine nm_e (pk_eq s 0 (fun z => ?_) (fun z => pk_eq s 3 (fun z3 => ?_) (fun z3 => ?_)))
    · subst z
      have t := rk_my0.mp GM
      refine nm_e (br_f (by decide) (fin _ ?_))
      have e3 : nI n - 1 = nI (n - 1) := pk_sub (show 1 ≤ n by omega)
      rw [e3, pk_sub (by omega)]
      rfl
    · subst z3
      have t := rk_my3.mp GM
      refine nm_e (fin _ ?_)
      rw [rk_w7 _ (by omega)]
      rfl
    · refine fin _ ?_
      unfold rk_mi
      rw [if_neg z, if_neg z3]
theorem rk_item {post : Int32 → Prop} {m i : Nat} (hl : l ≤ 14) (hi : i < 15) (hm : m < 2 ^ 31) (it : rk_IT a1 p l) (H : post (if i < l then nI (p i) else -1)) : wpX_item post (nI s, nI n, fc, nI l, nI m, a1, a2, a3, a4, a5, a6) (nI i) := by
  unfold wpX_item
  refine br_f (nI_pos hm) (br_f (nI_pos (by omega)) (pk_lt i l (fun z => ⟨pk_in i 14 (by omega), ?_⟩) (fun z => ?_)))
  · rw [if_pos z] at H
    rw [nI_clamp (by omega), (it i z).2]
    exact H
  · rw [if_neg (by omega)] at H
    exact H
theorem rk_itemN {post : Int32 → Prop} {x : Int32} (H : post (-1)) : wpX_item post (nI s, nI n, fc, nI l, -2, a1, a2, a3, a4, a5, a6) x := br_t (by decide) H
theorem rk_count {post : Int32 → Prop} (vc : rk_VC s n l) (tb : rk_TB a3 a4 a5 a6) (H : post (nI (rk_cn s n l 0 0))) : wpX_count post (nI s, nI n, fc, nI l, fu, a1, a2, a3, a4, a5, a6) := by
  unfold wpX_count
  exact rk_goingOn (i := 0) (p := fun _ => 0) vc tb rk_IT0 (rk_I0 vc) H
def rk_hs (c : Int32) (f : Nat → Int32) : Nat → Int32
  | 0 => c
  | i + 1 => 31 * rk_hs c f i + f i
def rk_it (l : Nat) (p : Nat → Nat) : Nat → Int32 := fun i => if i < l then nI (p i) else -1
theorem rk_sumG {post : Int32 → Prop} (f : Nat → Int32) (vc : rk_VC s n l) (tb : rk_TB a3 a4 a5 a6)
    (hf : ∀ i, i < 15 → ∀ po : Int32 → Prop, po (f i) → wpX_item po (nI s, nI n, fc, nI l, fu, a1, a2, a3, a4, a5, a6) (nI i))
    (H : post (31 * rk_hs (nI (rk_cn s n l 0 0)) f 15 + fu)) : wpL_sum post (nI s, nI n, fc, nI l, fu, a1, a2, a3, a4, a5, a6) := by
  unfold wpL_sum
  refine rk_count vc tb ?_
  refine pk_loop (σ := Unit) (fun k i _ => wL_sum_7 post (nI s) (nI n) fc (nI l) fu a1 a2 a3 a4 a5 a6 k (rk_hs (nI (rk_cn s n l 0 0)) f i) (nI i)) (fun _ _ => True) 15 0 () (by omega) trivial ?_ ?_
  · exact fun k _ _ => pk_le 15 15 (fun _ => H) (fun z => absurd z (by omega))
  · intro k i _ hi _ hw
    exact pk_le 15 i (fun z => absurd z (by omega)) (fun _ => hf i hi _ (nm_e (nm_r (nI_1 i) (hw () trivial))))
theorem rk_sumY {post : Int32 → Prop} {m : Nat} (vc : rk_VC s n l) (tb : rk_TB a3 a4 a5 a6) (hm : m < 2 ^ 31) (it : rk_IT a1 p l) (H : post (31 * rk_hs (nI (rk_cn s n l 0 0)) (rk_it l p) 15 + nI m)) : wpL_sum post (nI s, nI n, fc, nI l, nI m, a1, a2, a3, a4, a5, a6) :=
  rk_sumG (rk_it l p) vc tb (fun _ hi _ h => rk_item (rk_l14 vc) hi hm it h) H
theorem rk_sumN {post : Int32 → Prop} (vc : rk_VC s n l) (tb : rk_TB a3 a4 a5 a6) (H : post (31 * rk_hs (nI (rk_cn s n l 0 0)) (fun _ => -1) 15 + (-2))) : wpL_sum post (nI s, nI n, fc, nI l, -2, a1, a2, a3, a4, a5, a6) :=
  rk_sumG (fun _ => -1) vc tb (fun _ _ _ h => rk_itemN h) H
theorem rk_firstLike {post : Int32 → St1 → Prop} {m i : Nat} (vc : rk_VC s n l) (tb : rk_TB a3 a4 a5 a6) (g : rk_G s n l p l) (it : rk_IT a1 p l) (hm : m < 2 ^ 31) (hi : i < 14)
    (H : ∀ b, rk_IT b p l → post (if i < l then nI (rk_rk s n l p (i + 1)) else -1) (nI s, nI n, fc, nI l, nI m, b, a2, a3, a4, a5, a6)) :
    wpX_firstLike post (nI s, nI n, fc, nI l, nI m, a1, a2, a3, a4, a5, a6) (nI i) := by
  have l14 := rk_l14 vc
  unfold wpX_firstLike
  refine br_f (nI_pos hm) (br_f (nI_pos (by omega)) (pk_lt i l (fun z => ?_) (fun z => ?_)))
  · rw [← nI_pred i]
    refine rk_rankUpTo vc tb g it (show i + 1 ≤ l from z) (fun b hb => ?_)
    have h := H b hb
    rw [if_pos z] at h
    exact h
  · have h := H a1 it
    rw [if_neg (by omega)] at h
    exact h
theorem rk_like {post : Int32 → Prop} {m i : Nat} (vc : rk_VC s n l) (tb : rk_TB a3 a4 a5 a6) (g : rk_G s n l p l) (it : rk_IT a1 p l) (hm : m < 2 ^ 31) (hi : i < 14)
    (H : post (if i < l then nI (rk_cn s n l (i + 1) (rk_sg s p (i + 1))) else -1)) :
    wpX_like post (nI s, nI n, fc, nI l, nI m, a1, a2, a3, a4, a5, a6) (nI i) := by
  have l14 := rk_l14 vc
  unfold wpX_like
  refine br_f (nI_pos hm) (br_f (nI_pos (by omega)) (pk_lt i l (fun z => ?_) (fun z => ?_)))
  · rw [nI_1]
    rw [if_pos z] at H
    exact rk_goingOn vc tb (rk_ITd z it) (rk_GI vc (i + 1) z (rk_Gd z g)) H
  · rw [if_neg (by omega)] at H
    exact H
end
end
section
/-! ===== the walk: holds ===== -/
section
variable {s n l : Nat} {p : Nat → Nat} {fc : Int32} {a1 a2 a3 a4 a5 a6 : Nat → Int32}
theorem rk_holdsN {post : Int32 → St1 → Prop} (vc : rk_VC s n l) (tb : rk_TB a3 a4 a5 a6) (H : post 1 (nI s, nI n, fc, nI l, -2, a1, a2, a3, a4, a5, a6)) : wpL_holds post (nI s, nI n, fc, nI l, -2, a1, a2, a3, a4, a5, a6) := by
  unfold wpL_holds
  refine rk_sumN vc tb ?_
  unfold wpX_number
  refine rk_goBad vc tb (Or.inl (by decide)) (br_f (by decide) ?_)
  unfold wL_holds_24
  refine br_t rfl (rk_sumN vc tb (br_t rfl ?_))
  unfold wpX_previous
  refine br_f (by decide) (br_t (by decide) ?_)
  unfold wL_holds_62
  refine rk_sumN vc tb (br_t rfl ?_)
  refine pk_loop (σ := Unit) (fun k i _ => wL_holds_74 post (31 * rk_hs (nI (rk_cn s n l 0 0)) (fun _ => -1) 15 + (-2)) (-2) k (nI i) (nI s) (nI n) fc (nI l) (-2) a1 a2 a3 a4 a5 a6) (fun _ _ => True) 14 0 () (by omega) trivial ?_ ?_
  · intro k _ _
    refine pk_le 14 14 (fun _ => ?_) (fun z => absurd z (by omega))
    unfold wpX_mirrored
    exact br_t (by decide) (br_f (by decide) (br_t rfl H))
  · intro k i _ hi _ hw
    refine pk_le 14 i (fun z => absurd z (by omega)) (fun _ => ?_)
    unfold wpX_firstLike
    refine br_t (by decide) ?_
    unfold wpX_like
    refine br_t (by decide) (br_f (by decide) ?_)
    unfold wL_holds_104
    refine rk_itemN (br_f (by decide) ?_)
    unfold wL_holds_117
    exact br_t rfl (br_t (by decide) (nm_r (nI_1 i) (hw () trivial)))
theorem rk_holds74 {post : Int32 → St1 → Prop} {m : Nat} {x1 : Int32} (vc : rk_VC s n l) (tb : rk_TB a3 a4 a5 a6) (g : rk_G s n l p l) (hm : rk_rk s n l p l = m) (it : rk_IT a1 p l) (hx : x1 = 31 * rk_hs (nI (rk_cn s n l 0 0)) (rk_it l p) 15 + nI m)
    (H : ∀ b1 b2, rk_IT b1 p l → post 1 (nI s, nI n, fc, nI l, nI m, b1, b2, a3, a4, a5, a6)) : ∃ k, wL_holds_74 post x1 (nI m) k 0 (nI s) (nI n) fc (nI l) (nI m) a1 a2 a3 a4 a5 a6 := by
  have l14 := rk_l14 vc
  have bd := rk_bnd vc
  have hlt := rk_lt vc g
  refine pk_loop (fun k i b => wL_holds_74 post x1 (nI m) k (nI i) (nI s) (nI n) fc (nI l) (nI m) b a2 a3 a4 a5 a6) (fun _ b => rk_IT b p l) 14 0 a1 (by omega) it ?_ ?_
  · intro k b hb
    refine pk_le 14 14 (fun _ => ?_) (fun z => absurd z (by omega))
    by_cases h2 : s = 2
    · subst h2
      unfold wpX_mirrored
      exact br_f (nI_pos (by omega)) (br_t (by decide) (br_f (by decide) (br_t rfl (H b a2 hb))))
    · have gq := rk_miG vc h2 g
      have hq := rk_lt vc gq
      have mm : rk_rk s n l (rk_mi s n l (rk_mi s n l p)) l = m := by
        rw [← hm]
        exact rk_crk l (fun j hj => rk_mimi vc g hj)
      refine rk_mirrored vc h2 tb g hm hb (fun b1 b2 h1 => br_t (nI_pos' (by omega)) ?_)
      refine rk_go vc tb gq rfl (fun b3 h3 => br_t rfl ?_)
      refine rk_mirrored vc h2 tb gq rfl h3 (fun b4 b5 h4 => br_t (by rw [mm]) ?_)
      refine rk_go vc tb g hm (fun b6 h6 => br_t rfl ?_)
      exact rk_sumY vc tb (by omega) h6 (br_t hx.symm (H b6 b5 h6))
  · intro k i b hi hb hw
    refine pk_le 14 i (fun z => absurd z (by omega)) (fun _ => ?_)
    refine rk_firstLike vc tb g hb (by omega) hi (fun b1 hb1 => ?_)
    refine rk_like vc tb g hb1 (by omega) hi ?_
    by_cases hil : i < l
    · have nx := rk_In vc g (show i + 1 ≤ l from hil)
      have cl := rk_cle vc (i + 1) hil (rk_Gd hil g)
      rw [if_pos hil, if_pos hil]
      refine br_t (nI_pos' (by omega)) ?_
      unfold wL_holds_104
      refine rk_item l14 (by omega) (by omega) hb1 ?_
      rw [if_pos hil]
      refine br_t (nI_pos' (by have := (g.2 i hil).1; omega)) ?_
      unfold wL_holds_117
      refine br_t rfl (br_f (nI_pos (by omega)) (pk_lt m (rk_rk s n l p (i + 1)) (fun z => absurd z (by omega)) (fun _ => ?_)))
      rw [nI_add]
      exact br_t (nI_lt (by omega) (by omega)) (nm_r (nI_1 i) (hw b1 hb1))
    · rw [if_neg hil, if_neg hil]
      refine br_f (by decide) ?_
      unfold wL_holds_104
      refine rk_item l14 (by omega) (by omega) hb1 ?_
      rw [if_neg hil]
      refine br_f (by decide) ?_
      unfold wL_holds_117
      exact br_t rfl (br_t (by decide) (nm_r (nI_1 i) (hw b1 hb1)))
theorem rk_holdsY {post : Int32 → St1 → Prop} {m : Nat} (vc : rk_VC s n l) (tb : rk_TB a3 a4 a5 a6) (g : rk_G s n l p l) (hm : rk_rk s n l p l = m) (it : rk_IT a1 p l)
    (H : ∀ b1 b2, rk_IT b1 p l → post 1 (nI s, nI n, fc, nI l, nI m, b1, b2, a3, a4, a5, a6)) : wpL_holds post (nI s, nI n, fc, nI l, nI m, a1, a2, a3, a4, a5, a6) := by
  have bd := rk_bnd vc
  have hlt := rk_lt vc g
  have h62 : ∀ b, rk_IT b p l → wL_holds_62 post (31 * rk_hs (nI (rk_cn s n l 0 0)) (rk_it l p) 15 + nI m) (nI m) (nI s) (nI n) fc (nI l) (nI m) b a2 a3 a4 a5 a6 := by
    intro b hb
    unfold wL_holds_62
    exact rk_sumY vc tb (by omega) hb (br_t rfl (rk_holds74 vc tb g hm hb rfl H))
  unfold wpL_holds
  refine rk_sumY vc tb (by omega) it ?_
  unfold wpX_number
  refine rk_go vc tb g hm (fun b1 h1 => br_t (nI_pos' (by omega)) ?_)
  unfold wL_holds_24
  refine br_t rfl (rk_sumY vc tb (by omega) h1 (br_t rfl ?_))
  by_cases h0 : m = 0
  · subst h0
    unfold wpX_previous
    exact br_f (by decide) (br_t (by decide) (h62 b1 h1))
  · refine rk_previous vc tb g hm (by omega) h1 (fun q b gq hq hb => br_f (nI_pos (by omega)) ?_)
    unfold wpX_number
    refine br_t (pk_sub (show 1 ≤ m by omega)).symm ?_
    refine rk_next (m := m - 1) vc tb gq (by omega) (by omega) hb (fun q' b' gq' hq' hb' => ?_)
    have em : m - 1 + 1 = m := by omega
    rw [em]
    refine br_t rfl (h62 b' ?_)
    have u := rk_UQ vc gq' g (by omega)
    intro j hj
    rw [← u j hj]
    exact hb' j hj
end
end
section
/-! ===== the walk: the tables ===== -/
def rk_fl (T : List Nat) (b : Nat → Int32) (c : Nat) : Prop := ∀ j, b j = nI (if j < c then T.getD j 0 else 0)
theorem rk_fl0 {T : List Nat} : rk_fl T (fun _ => 0) 0 := fun j => by
  rw [if_neg (by omega)]
  rfl
theorem rk_flr {T : List Nat} {b : Nat → Int32} {c j : Nat} (h : rk_fl T b c) (hj : j < c) : b j = nI (T.getD j 0) := by
  rw [h j, if_pos hj]
theorem rk_flw {T : List Nat} {b : Nat → Int32} {c : Nat} {v : Int32} (h : rk_fl T b c) (hv : v = nI (T.getD c 0)) : rk_fl T (upd b c v) (c + 1) := by
  intro j
  by_cases e : j = c
  · rw [e, pk_us, hv, if_pos (by omega)]
  · rw [pk_un e, h j]
    by_cases z : j < c
    · rw [if_pos z, if_pos (by omega)]
    · rw [if_neg z, if_neg (by omega)]
theorem rk_flk {T : List Nat} {b : Nat → Int32} {c d : Nat} (h : rk_fl T b c) (hc : c ≤ d) (hz : ∀ j, c ≤ j → j < d → T.getD j 0 = 0) : rk_fl T b d := by
  intro j
  rw [h j]
  by_cases z : j < c
  · rw [if_pos z, if_pos (by omega)]
  · rw [if_neg z]
    by_cases z2 : j < d
    · rw [if_pos z2, hz j (by omega) z2]
    · rw [if_neg z2]
theorem rk_ix {c d z o : Nat} (h : d ≤ c * z) : nI c * nI z - nI d + nI o = nI (c * z - d + o) := by rw [pk_mul, pk_sub h, nI_add]
theorem rk_tF : ∀ i, i < 8 → 1 ≤ i → i * rk_F.getD (i - 1) 0 = rk_F.getD i 0 := by decide +kernel
theorem rk_tB0 : ∀ a, a < 8 → rk_B.getD (8 * a) 0 = 1 := by decide +kernel
theorem rk_tB1 : ∀ a, a < 8 → ∀ b, b < 8 → 1 ≤ b → b ≤ a → rk_B.getD (8 * a + b) 0 = rk_B.getD (8 * a - 8 + b - 1) 0 + (if a ≤ b then 0 else rk_B.getD (8 * a - 8 + b) 0) := by decide +kernel
theorem rk_tBz : ∀ a, a < 8 → ∀ j, j < 64 → 8 * a + a + 1 ≤ j → j < 8 * (a + 1) → rk_B.getD j 0 = 0 := by decide +kernel
theorem rk_tE0 : ∀ g, g < 16 → rk_E.getD g 0 = 1 := by decide +kernel
theorem rk_tE1 : ∀ L, L < 8 → ∀ g, g < 16 → 1 ≤ L → g + L < 16 → rk_E.getD (16 * L + g) 0 = g * rk_E.getD (16 * L - 16 + g) 0 + rk_E.getD (16 * L - 15 + g) 0 := by decide +kernel
theorem rk_tEz : ∀ L, L < 8 → ∀ j, j < 128 → 16 * L + (16 - L) ≤ j → j < 16 * (L + 1) → rk_E.getD j 0 = 0 := by decide +kernel
theorem rk_tN1 : ∀ z, z < 8 → ∀ o, o < 8 → o ≤ z → rk_N.getD (8 * z + o) 0 = (if z = 0 then 1 else 0) + (if o = 0 then 0 else rk_N.getD (8 * z + o - 1) 0) + (if z ≤ o then 0 else rk_N.getD (8 * z - 8 + o) 0) := by decide +kernel
theorem rk_tNz : ∀ a, a < 8 → ∀ j, j < 64 → 8 * a + (a + 1) ≤ j → j < 8 * (a + 1) → rk_N.getD j 0 = 0 := by decide +kernel
section
variable {fs fz fc fl fu : Int32} {a1 a2 a3 a4 a5 a6 : Nat → Int32}
theorem rk_ft220 {post : St1 → Prop} (h5 : rk_fl rk_N a5 0) (H : ∀ b5, rk_fl rk_N b5 64 → post (fs, fz, fc, fl, fu, a1, a2, a3, a4, b5, a6)) : ∃ k, wX_fillTables_220 post fs fz fc fl fu k 0 a1 a2 a3 a4 a5 a6 := by
  refine pk_loop (fun k z b => wX_fillTables_220 post fs fz fc fl fu k (nI z) a1 a2 a3 a4 b a6) (fun z b => rk_fl rk_N b (8 * z)) 8 0 a5 (by omega) h5 ?_ ?_
  · exact fun k b hb => pk_le 8 8 (fun _ => H b hb) (fun z => absurd z (by omega))
  · intro k z b hz hb hw
    refine pk_le 8 z (fun t => absurd t (by omega)) (fun _ => ?_)
    refine pk_loop (fun k2 o b => wX_fillTables_228 post (wX_fillTables_220 post fs fz fc fl fu k) (nI z) fs fz fc fl fu k2 (nI o) a1 a2 a3 a4 b a6) (fun o b => rk_fl rk_N b (8 * z + o)) (z + 1) 0 b (by omega) hb ?_ ?_
    · intro k2 b hb
      exact pk_lt z (z + 1) (fun _ => nm_r (nI_1 z) (hw b (rk_flk hb (by omega) (fun j h1 h2 => rk_tNz z hz j (by omega) h1 h2)))) (fun t => absurd t (by omega))
    · intro k2 o b ho hb hw2
      have e1 : (8 : Int32) * nI z + nI o = nI (8 * z + o) := rk_mul 8 z o
      have T := rk_tN1 z hz o (by omega) (by omega)
      have f285 : ∀ y, y = nI (rk_N.getD (8 * z + o) 0) → wX_fillTables_285 post (wX_fillTables_220 post fs fz fc fl fu k) (wX_fillTables_228 post (wX_fillTables_220 post fs fz fc fl fu k) (nI z) fs fz fc fl fu k2) (nI z) (nI o) y fs fz fc fl fu a1 a2 a3 a4 b a6 := by
        intro y hy
        unfold wX_fillTables_285
        rw [e1, nI_clamp (by omega)]
        exact ⟨vp_in_nI (by omega) (by omega), nm_e (nm_r (nI_1 o) (hw2 _ (rk_flw hb hy)))⟩
      have f263 : ∀ y t, y = nI t → rk_N.getD (8 * z + o) 0 = t + (if z ≤ o then 0 else rk_N.getD (8 * z - 8 + o) 0) → wX_fillTables_263 post (wX_fillTables_220 post fs fz fc fl fu k) (wX_fillTables_228 post (wX_fillTables_220 post fs fz fc fl fu k) (nI z) fs fz fc fl fu k2) (nI z) (nI o) y fs fz fc fl fu a1 a2 a3 a4 b a6 := by
        intro y t hy ht
        unfold wX_fillTables_263
        refine pk_le z o (fun c => f285 y ?_) (fun c => ?_)
        · rw [if_pos c, Nat.add_zero] at ht
          rw [hy, ht]
        · rw [if_neg (by omega)] at ht
          have e2 : (8 : Int32) * nI z - 8 + nI o = nI (8 * z - 8 + o) := rk_ix (c := 8) (d := 8) (by omega)
          rw [e2, nI_clamp (by omega), rk_flr hb (by omega), hy]
          exact ⟨vp_in_nI (by omega) (by omega), nm_e (f285 _ (by rw [nI_add, ht]))⟩
      have f242 : ∀ y t, y = nI t → rk_N.getD (8 * z + o) 0 = t + (if o = 0 then 0 else rk_N.getD (8 * z + o - 1) 0) + (if z ≤ o then 0 else rk_N.getD (8 * z - 8 + o) 0) → wX_fillTables_242 post (wX_fillTables_220 post fs fz fc fl fu k) (wX_fillTables_228 post (wX_fillTables_220 post fs fz fc fl fu k) (nI z) fs fz fc fl fu k2) (nI z) (nI o) y fs fz fc fl fu a1 a2 a3 a4 b a6 := by
        intro y t hy ht
        unfold wX_fillTables_242
        refine pk_le o 0 (fun c => f263 y t hy ?_) (fun c => ?_)
        · rw [if_pos (by omega), Nat.add_zero] at ht
          exact ht
        · rw [if_neg (show ¬ o = 0 by omega)] at ht
          have e3 : nI (8 * z + o) - 1 = nI (8 * z + o - 1) := pk_sub (show 1 ≤ 8 * z + o by omega)
          rw [e1, e3, nI_clamp (by omega), rk_flr hb (by omega), hy]
          exact ⟨vp_in_nI (by omega) (by omega), nm_e (f263 _ (t + rk_N.getD (8 * z + o - 1) 0) (nI_add _ _) ht)⟩
      refine pk_lt z o (fun t => absurd t (by omega)) (fun _ => pk_eq z 0 (fun c => f242 1 1 rfl ?_) (fun c => f242 0 0 rfl ?_))
      · rw [if_pos c] at T
        exact T
      · rw [if_neg c] at T
        exact T
theorem rk_ft148 {post : St1 → Prop} (h5 : rk_fl rk_N a5 0) (h4 : rk_fl rk_E a4 16) (H : ∀ b4 b5, rk_fl rk_E b4 128 → rk_fl rk_N b5 64 → post (fs, fz, fc, fl, fu, a1, a2, a3, b4, b5, a6)) : ∃ k, wX_fillTables_148 post fs fz fc fl fu k 1 a1 a2 a3 a4 a5 a6 := by
  refine pk_loop (fun k L b => wX_fillTables_148 post fs fz fc fl fu k (nI L) a1 a2 a3 b a5 a6) (fun L b => 1 ≤ L ∧ rk_fl rk_E b (16 * L)) 8 1 a4 (by omega) ⟨by omega, h4⟩ ?_ ?_
  · exact fun k b hb => pk_le 8 8 (fun _ => rk_ft220 h5 (fun b5 hb5 => H b b5 hb.2 hb5)) (fun z => absurd z (by omega))
  · rintro k L b hL ⟨hL1, hb⟩ hw
    refine pk_le 8 L (fun t => absurd t (by omega)) (fun _ => ?_)
    refine pk_loop (fun k2 g b => wX_fillTables_156 post (wX_fillTables_148 post fs fz fc fl fu k) (nI L) fs fz fc fl fu k2 (nI g) a1 a2 a3 b a5 a6) (fun g b => rk_fl rk_E b (16 * L + g)) (16 - L) 0 b (by omega) hb ?_ ?_
    · intro k2 b hb
      exact pk_le 16 (16 - L + L) (fun _ => nm_r (nI_1 L) (hw b ⟨by omega, rk_flk hb (by omega) (fun j h1 h2 => rk_tEz L hL j (by omega) h1 h2)⟩)) (fun t => absurd t (by omega)) rfl (nI_add _ _)
    · intro k2 g b hg hb hw2
      have e1 : (16 : Int32) * nI L + nI g = nI (16 * L + g) := rk_mul 16 L g
      have e2 : (16 : Int32) * nI L - 16 + nI g = nI (16 * L - 16 + g) := rk_ix (c := 16) (d := 16) (by omega)
      have e3 : (16 : Int32) * nI L - 15 + nI g = nI (16 * L - 15 + g) := rk_ix (c := 16) (d := 15) (by omega)
      have T := rk_tE1 L hL g (by omega) hL1 (by omega)
      refine pk_le 16 (g + L) (fun t => absurd t (by omega)) (fun _ => ?_) rfl (nI_add _ _)
      rw [e1, e2, e3, nI_clamp (by omega), nI_clamp (by omega), nI_clamp (by omega), rk_flr hb (by omega), rk_flr hb (by omega)]
      refine ⟨vp_in_nI (by omega) (by omega), vp_in_nI (by omega) (by omega), vp_in_nI (by omega) (by omega), nm_e (nm_r (nI_1 g) (hw2 _ (rk_flw hb ?_)))⟩
      rw [pk_mul, nI_add, T]
theorem rk_ft127 {post : St1 → Prop} (h5 : rk_fl rk_N a5 0) (h4 : rk_fl rk_E a4 0) (H : ∀ b4 b5, rk_fl rk_E b4 128 → rk_fl rk_N b5 64 → post (fs, fz, fc, fl, fu, a1, a2, a3, b4, b5, a6)) : ∃ k, wX_fillTables_127 post fs fz fc fl fu k 0 a1 a2 a3 a4 a5 a6 := by
  refine pk_loop (fun k g b => wX_fillTables_127 post fs fz fc fl fu k (nI g) a1 a2 a3 b a5 a6) (fun g b => rk_fl rk_E b g) 16 0 a4 (by omega) h4 ?_ ?_
  · exact fun k b hb => pk_le 16 16 (fun _ => rk_ft148 h5 hb H) (fun z => absurd z (by omega))
  · intro k g b hg hb hw
    refine pk_le 16 g (fun t => absurd t (by omega)) (fun _ => ⟨pk_in g 128 (by omega), ?_⟩)
    rw [nI_clamp (by omega)]
    exact nm_e (nm_r (nI_1 g) (hw _ (rk_flw hb (by rw [rk_tE0 g hg]; rfl))))
theorem rk_ft39 {post : St1 → Prop} (h5 : rk_fl rk_N a5 0) (h4 : rk_fl rk_E a4 0) (h3 : rk_fl rk_B a3 0) (H : ∀ b3 b4 b5, rk_fl rk_B b3 64 → rk_fl rk_E b4 128 → rk_fl rk_N b5 64 → post (fs, fz, fc, fl, fu, a1, a2, b3, b4, b5, a6)) : ∃ k, wX_fillTables_39 post fs fz fc fl fu k 0 a1 a2 a3 a4 a5 a6 := by
  refine pk_loop (fun k a b => wX_fillTables_39 post fs fz fc fl fu k (nI a) a1 a2 b a4 a5 a6) (fun a b => rk_fl rk_B b (8 * a)) 8 0 a3 (by omega) h3 ?_ ?_
  · exact fun k b hb => pk_le 8 8 (fun _ => rk_ft127 h5 h4 (fun b4 b5 hb4 hb5 => H b b4 b5 hb hb4 hb5)) (fun z => absurd z (by omega))
  · intro k a b ha hb hw
    have e0 : (8 : Int32) * nI a = nI (8 * a) := pk_mul 8 a
    refine pk_le 8 a (fun t => absurd t (by omega)) (fun _ => ?_)
    rw [e0, nI_clamp (by omega)]
    refine ⟨vp_in_nI (by omega) (by omega), nm_e ?_⟩
    refine pk_loop (fun k2 c b => wX_fillTables_57 post (wX_fillTables_39 post fs fz fc fl fu k) (nI a) fs fz fc fl fu k2 (nI c) a1 a2 b a4 a5 a6) (fun c b => 1 ≤ c ∧ rk_fl rk_B b (8 * a + c)) (a + 1) 1 _ (by omega) ⟨by omega, rk_flw hb (by rw [rk_tB0 a ha]; rfl)⟩ ?_ ?_
    · intro k2 b hb
      exact pk_lt a (a + 1) (fun _ => nm_r (nI_1 a) (hw b (rk_flk hb.2 (by omega) (fun j h1 h2 => rk_tBz a ha j (by omega) h1 h2)))) (fun t => absurd t (by omega))
    · rintro k2 c b hc ⟨hc1, hb⟩ hw2
      have e1 : (8 : Int32) * nI a + nI c = nI (8 * a + c) := rk_mul 8 a c
      have e2 : (8 : Int32) * nI a - 8 + nI c = nI (8 * a - 8 + c) := rk_ix (c := 8) (d := 8) (by omega)
      have e3 : nI (8 * a - 8 + c) - 1 = nI (8 * a - 8 + c - 1) := pk_sub (show 1 ≤ 8 * a - 8 + c by omega)
      have T := rk_tB1 a ha c (by omega) hc1 (by omega)
      refine pk_lt a c (fun t => absurd t (by omega)) (fun _ => ?_)
      rw [e1, e2, e3, nI_clamp (by omega), nI_clamp (by omega), rk_flr hb (by omega)]
      refine ⟨vp_in_nI (by omega) (by omega), pk_le a c (fun z => ⟨vp_in_nI (by omega) (by omega), nm_e (nm_r (nI_1 c) (hw2 _ ⟨by omega, rk_flw hb ?_⟩))⟩) (fun z => ?_)⟩
      · rw [if_pos z] at T
        rw [T, Nat.add_zero]
        exact Int32.add_zero _
      · rw [if_neg (by omega)] at T
        rw [nI_clamp (by omega), rk_flr hb (by omega)]
        refine ⟨vp_in_nI (by omega) (by omega), vp_in_nI (by omega) (by omega), nm_e (nm_r (nI_1 c) (hw2 _ ⟨by omega, rk_flw hb ?_⟩))⟩
        rw [nI_add, T]
theorem rk_fill {post : St1 → Prop} (h6 : rk_fl rk_F a6 0) (h5 : rk_fl rk_N a5 0) (h4 : rk_fl rk_E a4 0) (h3 : rk_fl rk_B a3 0) (H : ∀ b3 b4 b5 b6, rk_TB b3 b4 b5 b6 → post (fs, fz, fc, fl, fu, a1, a2, b3, b4, b5, b6)) : wpX_fillTables post (fs, fz, fc, fl, fu, a1, a2, a3, a4, a5, a6) := by
  unfold wpX_fillTables
  refine nm_e ?_
  refine pk_loop (fun k i b => wX_fillTables_9 post fs fz fc fl fu k (nI i) a1 a2 a3 a4 a5 b) (fun i b => 1 ≤ i ∧ rk_fl rk_F b i) 8 1 _ (by omega) ⟨by omega, rk_flw h6 rfl⟩ ?_ ?_
  · exact fun k b hb => pk_le 8 8 (fun _ => rk_ft39 h5 h4 h3 (fun b3 b4 b5 g3 g4 g5 => H b3 b4 b5 b ⟨fun j hj => rk_flr g3 hj, fun j hj => rk_flr g4 hj, fun j hj => rk_flr g5 hj, fun j hj => rk_flr hb.2 hj⟩)) (fun z => absurd z (by omega))
  · rintro k i b hi ⟨h1, hb⟩ hw
    have e1 : nI i - 1 = nI (i - 1) := pk_sub (show 1 ≤ i from h1)
    refine pk_le 8 i (fun t => absurd t (by omega)) (fun _ => ?_)
    rw [e1, nI_clamp (by omega), nI_clamp (by omega), rk_flr hb (by omega)]
    refine ⟨vp_in_nI (by omega) (by omega), vp_in_nI (by omega) (by omega), nm_e (nm_r (nI_1 i) (hw _ ⟨by omega, rk_flw hb ?_⟩))⟩
    rw [pk_mul, rk_tF i hi h1]
end
end
section
/-! ===== the walk: choose and the law's own loop ===== -/
def rk_OB (u : St1) : Prop := ∃ (s n l : Nat) (fc fu : Int32) (a1 a2 a3 a4 a5 a6 : Nat → Int32), u = (nI s, nI n, fc, nI l, fu, a1, a2, a3, a4, a5, a6) ∧ rk_VC s n l ∧ rk_TB a3 a4 a5 a6 ∧ ((rk_cn s n l 0 0 = 0 ∧ fu = -2) ∨ ∃ p, rk_G s n l p l ∧ fu = nI (rk_rk s n l p l) ∧ rk_IT a1 p l)
theorem rk_ob {s n l : Nat} {fc : Int32} {a1 a2 a3 a4 a5 a6 : Nat → Int32} {p : Nat → Nat} {m : Nat} (vc : rk_VC s n l) (tb : rk_TB a3 a4 a5 a6) (g : rk_G s n l p l) (hm : rk_rk s n l p l = m) (it : rk_IT a1 p l) : rk_OB (nI s, nI n, fc, nI l, nI m, a1, a2, a3, a4, a5, a6) :=
  ⟨s, n, l, fc, nI m, a1, a2, a3, a4, a5, a6, rfl, vc, tb, Or.inr ⟨p, g, by rw [hm], it⟩⟩
theorem rk_ob0 {s n l : Nat} {fc : Int32} {a1 a2 a3 a4 a5 a6 : Nat → Int32} (vc : rk_VC s n l) (tb : rk_TB a3 a4 a5 a6) (h : rk_cn s n l 0 0 = 0) : rk_OB (nI s, nI n, fc, nI l, -2, a1, a2, a3, a4, a5, a6) :=
  ⟨s, n, l, fc, -2, a1, a2, a3, a4, a5, a6, rfl, vc, tb, Or.inl ⟨h, rfl⟩⟩
section
variable {fs fz fc fl fu : Int32} {a1 a2 a3 a4 a5 a6 : Nat → Int32}
theorem rk_ch100 {post : Int32 → St1 → Prop} {s n l : Nat} (vc : rk_VC s n l) (tb : rk_TB a3 a4 a5 a6) (H : ∀ u, rk_OB u → post 1 u) : wX_choose_100 post (nI l) (nI s) (nI n) fc fl fu a1 a2 a3 a4 a5 a6 := by
  have bd := rk_bnd vc
  unfold wX_choose_100
  refine rk_count vc tb (pk_le (rk_cn s n l 0 0) 0 (fun z => H _ (rk_ob0 vc tb (by omega))) (fun z => ?_))
  obtain ⟨p, g, hp⟩ := rk_ex vc z
  exact rk_go vc tb g hp (fun b1 hb => H _ (rk_ob vc tb g hp hb))
theorem rk_choose {post : Int32 → St1 → Prop} {s n k : Nat} (hs : s < 5) (h1 : 1 ≤ n) (h7 : n ≤ 7) (hk : k < 8) (tb : rk_TB a3 a4 a5 a6) (H : ∀ u, rk_OB u → post 1 u) (H0 : n < k → post 0 (fs, fz, fc, fl, fu, a1, a2, a3, a4, a5, a6)) : wpX_choose post (fs, fz, fc, fl, fu, a1, a2, a3, a4, a5, a6) (nI s) (nI n) (nI k) := by
  have sec : s = 0 ∨ s = 4 → wX_choose_31 post (nI s) (nI n) (nI k) fs fz fc fl fu a1 a2 a3 a4 a5 a6 := by
    intro hs
    unfold wX_choose_31
    refine br_f (by decide) (br_f (nI_pos (by omega)) (pk_le k n (fun z => ?_) H0))
    refine br_f (by decide) (br_f (by decide) (rk_ch100 (s := s) (n := n) (l := k) ?_ tb H))
    refine ⟨h1, h7, ?_⟩
    omega
  unfold wpX_choose
  refine br_f (nI_pos (by omega)) (pk_lt 4 s (fun z => absurd z (by omega)) (fun _ => pk_lt n 1 (fun z => absurd z (by omega)) (fun _ => pk_le n 7 (fun _ => ?_) (fun z => absurd z (by omega)))))
  refine pk_eq s 0 (fun z => sec (Or.inl z)) (fun z0 => pk_eq s 4 (fun z => sec (Or.inr z)) (fun z4 => ?_))
  refine br_t rfl (br_t rfl (br_t rfl (pk_eq s 3 (fun z3 => ?_) (fun z3 => ?_))))
  · have e : (2 : Int32) * nI n = nI (2 * n) := pk_mul 2 n
    rw [e]
    exact rk_ch100 (s := s) (n := n) (l := 2 * n) ⟨h1, h7, by omega⟩ tb H
  · exact rk_ch100 (s := s) (n := n) (l := n) ⟨h1, h7, by omega⟩ tb H
end
theorem rk_holds {post : Int32 → St1 → Prop} {u : St1} (ob : rk_OB u) (H : ∀ u, rk_OB u → post 1 u) : wpL_holds post u := by
  obtain ⟨s, n, l, fc, fu, a1, a2, a3, a4, a5, a6, rfl, vc, tb, h⟩ := ob
  rcases h with ⟨h0, rfl⟩ | ⟨p, g, rfl, it⟩
  · exact rk_holdsN vc tb (H _ (rk_ob0 vc tb h0))
  · exact rk_holdsY vc tb g rfl it (fun b1 b2 hb => H _ (rk_ob vc tb g rfl hb))
theorem rk_prevO {post : Int32 → St1 → Prop} {u : St1} (ob : rk_OB u) (H : ∀ r u, rk_OB u → post r u) : wpX_previous post u := by
  have ob' := ob
  obtain ⟨s, n, l, fc, fu, a1, a2, a3, a4, a5, a6, rfl, vc, tb, h⟩ := ob
  rcases h with ⟨h0, rfl⟩ | ⟨p, g, rfl, it⟩
  · unfold wpX_previous
    exact br_f (by decide) (H _ _ ob')
  · by_cases z : rk_rk s n l p l = 0
    · rw [z] at ob' ⊢
      unfold wpX_previous
      exact br_f (by decide) (H _ _ ob')
    · exact rk_previous vc tb g rfl (by omega) it (fun q b gq hq hb => H _ _ (rk_ob vc tb gq (by omega) hb))
theorem rk_nextO {post : Int32 → St1 → Prop} {u : St1} (ob : rk_OB u) (H : ∀ r u, rk_OB u → post r u) : wpX_next post u := by
  have ob' := ob
  obtain ⟨s, n, l, fc, fu, a1, a2, a3, a4, a5, a6, rfl, vc, tb, h⟩ := ob
  rcases h with ⟨h0, rfl⟩ | ⟨p, g, rfl, it⟩
  · unfold wpX_next
    exact rk_goingOn (i := 0) (p := fun _ => 0) vc tb rk_IT0 (rk_I0 vc) (br_t (by decide) (H _ _ ob'))
  · have bd := rk_bnd vc
    have hlt := rk_lt vc g
    by_cases z : rk_rk s n l p l + 1 < rk_cn s n l 0 0
    · exact rk_next vc tb g rfl z it (fun q b gq hq hb => H _ _ (rk_ob vc tb gq hq hb))
    · unfold wpX_next
      refine rk_goingOn (i := 0) (p := fun _ => 0) vc tb rk_IT0 (rk_I0 vc) (br_f (nI_pos (by omega)) ?_)
      rw [nI_1]
      exact br_f (nI_nlt (by have e : rk_cn s n l 0 (rk_sg s (fun _ => 0) 0) = rk_cn s n l 0 0 := rfl; omega) (by omega)) (H _ _ ob')
/-- how many objects the state has -/
theorem rk_countO {post : Int32 → Prop} {u : St1} (ob : rk_OB u) (H : ∀ c, c ≤ 5040 → (c = 0 → ∀ po : Int32 → St1 → Prop, (∀ r u, rk_OB u → po r u) → wpX_go po u 0) → (0 < c → ∀ m, m < c → ∀ po : Int32 → St1 → Prop, (∀ r u, rk_OB u → po r u) → wpX_go po u (nI m)) → post (nI c)) : wpX_count post u := by
  have ob' := ob
  obtain ⟨s, n, l, fc, fu, a1, a2, a3, a4, a5, a6, rfl, vc, tb, h⟩ := ob
  refine rk_count vc tb (H _ (rk_bnd vc) (fun z po hp => ?_) (fun z m hm po hp => ?_))
  · exact rk_goBad vc tb (Or.inr ⟨rfl, z⟩) (hp _ _ ob')
  · obtain ⟨p, g, hr⟩ := rk_ex vc hm
    exact rk_go vc tb g hr (fun b1 hb => hp _ _ (rk_ob vc tb g hr hb))
theorem rk_chooseO {post : Int32 → St1 → Prop} {u : St1} {s n k : Nat} (ob : rk_OB u) (hs : s < 5) (h1 : 1 ≤ n) (h7 : n ≤ 7) (hk : k < 8) (H : ∀ r u, rk_OB u → post r u) : wpX_choose post u (nI s) (nI n) (nI k) := by
  have ob' := ob
  obtain ⟨s', n', l, fc, fu, a1, a2, a3, a4, a5, a6, rfl, vc, tb, h⟩ := ob
  exact rk_choose hs h1 h7 hk tb (fun u hu => H _ u hu) (fun _ => H _ _ ob')
theorem rk_law148 {L : Nat} {xs : Nat → Int32} {J : Int32 → Int32 → Int32 → Int32 → Int32 → Int32 → (Nat → Int32) → (Nat → Int32) → (Nat → Int32) → (Nat → Int32) → (Nat → Int32) → (Nat → Int32) → Prop} {kc ks i : Nat} {fs fz fc fl fu : Int32} {a1 a2 a3 a4 a5 a6 : Nat → Int32}
    (ob : rk_OB (fs, fz, fc, fl, fu, a1, a2, a3, a4, a5, a6))
    (H : ∀ fs fz fc fl fu a1 a2 a3 a4 a5 a6, rk_OB (fs, fz, fc, fl, fu, a1, a2, a3, a4, a5, a6) → J (nI (i + 4)) fs fz fc fl fu a1 a2 a3 a4 a5 a6) :
    wL_law_148 (fun r => r = 1) L xs J (nI i) kc ks fs fz fc fl fu a1 a2 a3 a4 a5 a6 := by
  unfold wL_law_148
  refine rk_holds ob (fun u hu => ?_)
  obtain ⟨fs, fz, fc, fl, fu, a1, a2, a3, a4, a5, a6⟩ := u
  have e : nI i + 4 = nI (i + 4) := nI_add i 4
  exact br_f (by decide) (nm_r e (H _ _ _ _ _ _ _ _ _ _ _ hu))
theorem rk_law10 {L : Nat} {xs : Nat → Int32} {kc ks : Nat} (hL : L ≤ 260) : ∀ (f i : Nat) (fs fz fc fl fu : Int32) (a1 a2 a3 a4 a5 a6 : Nat → Int32), i ≤ L + 4 → L + 4 - i < f → rk_OB (fs, fz, fc, fl, fu, a1, a2, a3, a4, a5, a6) → wL_law_10 (fun r => r = 1) L xs kc ks f (nI i) fs fz fc fl fu a1 a2 a3 a4 a5 a6
  | 0, i, _, _, _, _, _, _, _, _, _, _, _, _, h, _ => absurd h (by omega)
  | f + 1, i, fs, fz, fc, fl, fu, a1, a2, a3, a4, a5, a6, hi, hf, ob => by
    have cond : (Int32.ofNat L - 4 < nI i) ↔ L < i + 4 := by
      have e : (Int32.ofNat L - 4).toInt = (L : Int) - 4 := pk_sub_toInt (a := L) (b := 4) (by omega) (by omega)
      rw [Int32.lt_iff_toInt_lt, e, nI_toInt (by omega)]
      omega
    rw [wL_law_10]
    refine ek_if cond (fun z => ?_) (fun z => ?_)
    · exact rk_holds ob (fun u hu => rfl)
    · have e1 : nI i + 1 = nI (i + 1) := nI_add i 1
      have e2 : nI i + 2 = nI (i + 2) := nI_add i 2
      have e3 : nI i + 3 = nI (i + 3) := nI_add i 3
      have hrec : ∀ fs fz fc fl fu a1 a2 a3 a4 a5 a6, rk_OB (fs, fz, fc, fl, fu, a1, a2, a3, a4, a5, a6) → wL_law_10 (fun r => r = 1) L xs kc ks f (nI (i + 4)) fs fz fc fl fu a1 a2 a3 a4 a5 a6 := fun fs fz fc fl fu a1 a2 a3 a4 a5 a6 h => rk_law10 hL f (i + 4) fs fz fc fl fu a1 a2 a3 a4 a5 a6 (by omega) (by omega) h
      rw [e1, e2, e3]
      refine ⟨vp_in_nI (by omega) (by omega), nm_e ⟨vp_in_nI (by omega) (by omega), nm_e ⟨vp_in_nI (by omega) (by omega), nm_e ?_⟩⟩⟩
      refine rk_countO ob (fun c hc hz hg => ⟨vp_in_nI (by omega) (by omega), ?_⟩)
      obtain ⟨j, hj, ej⟩ := pk_andE (xs (nI i).toNatClampNeg) (m := 7) 3 (by decide)
      refine nm_r ej ?_
      have gone : (nI c = 0 → wL_law_144 (fun r => r = 1) L xs (wL_law_10 (fun r => r = 1) L xs kc ks f) (nI i) 0 kc ks fs fz fc fl fu a1 a2 a3 a4 a5 a6) ∧ (¬ nI c = 0 → (¬ nI c = 0 ∧ wL_law_144 (fun r => r = 1) L xs (wL_law_10 (fun r => r = 1) L xs kc ks f) (nI i) ((xs (nI (i + 1)).toNatClampNeg &&& 65535) - (xs (nI (i + 1)).toNatClampNeg &&& 65535) / nI c * nI c) kc ks fs fz fc fl fu a1 a2 a3 a4 a5 a6)) := by
        refine pk_eq c 0 (fun hc0 => ?_) (fun hc0 => ⟨nI_ne0 (by omega) (by omega), ?_⟩)
        · unfold wL_law_144
          refine hz hc0 _ (fun r u hu => ?_)
          obtain ⟨fs, fz, fc, fl, fu, a1, a2, a3, a4, a5, a6⟩ := u
          exact rk_law148 hu hrec
        · obtain ⟨w, hw, ew⟩ := pk_andE (xs (nI (i + 1)).toNatClampNeg) (m := 65535) 16 (by decide)
          rw [ew, pk_rem (by omega) (by omega) (by omega)]
          unfold wL_law_144
          refine hg (by omega) (w % c) (Nat.mod_lt _ (by omega)) _ (fun r u hu => ?_)
          obtain ⟨fs, fz, fc, fl, fu, a1, a2, a3, a4, a5, a6⟩ := u
          exact rk_law148 hu hrec
      refine br_f (nI_pos (by omega)) (pk_lt 2 j (fun _ => gone) (fun hj2 => ?_))
      refine pk_eq j 0 (fun _ => ⟨by decide, by decide, by decide, ?_⟩) (fun j0 => pk_eq j 1 (fun _ => ?_) (fun j1 => pk_eq j 2 (fun _ => ?_) (fun j2 => absurd hj2 (by omega))))
      · obtain ⟨x, hx, ex⟩ := pk_andE (xs (nI (i + 1)).toNatClampNeg) (m := 255) 8 (by decide)
        obtain ⟨y, hy, ey⟩ := pk_andE (xs (nI (i + 2)).toNatClampNeg) (m := 255) 8 (by decide)
        obtain ⟨w, hw, ew⟩ := pk_andE (xs (nI (i + 3)).toNatClampNeg) (m := 255) 8 (by decide)
        have r5 : nI x - nI x / 5 * 5 = nI (x % 5) := pk_rem (d := 5) (by omega) (by omega) (by omega)
        have r7 : nI y - nI y / 7 * 7 = nI (y % 7) := pk_rem (d := 7) (by omega) (by omega) (by omega)
        have r8 : nI w - nI w / 8 * 8 = nI (w % 8) := pk_rem (d := 8) (by omega) (by omega) (by omega)
        have r1 : 1 + nI (y % 7) = nI (1 + y % 7) := nI_add 1 (y % 7)
        rw [ex, ey, ew, r5, r7, r8, r1]
        refine rk_chooseO ob (Nat.mod_lt _ (by omega)) (by omega) (by omega) (Nat.mod_lt _ (by omega)) (fun r u hu => ?_)
        obtain ⟨fs, fz, fc, fl, fu, a1, a2, a3, a4, a5, a6⟩ := u
        exact rk_law148 hu hrec
      · refine rk_nextO ob (fun r u hu => ?_)
        obtain ⟨fs, fz, fc, fl, fu, a1, a2, a3, a4, a5, a6⟩ := u
        exact rk_law148 hu hrec
      · refine rk_prevO ob (fun r u hu => ?_)
        obtain ⟨fs, fz, fc, fl, fu, a1, a2, a3, a4, a5, a6⟩ := u
        exact rk_law148 hu hrec
end
section
theorem i_vc (xs : Nat → Int32) (L : Nat) (hL : L ≤ 260) : wpL_law (fun r => r = 1) L xs := by
  unfold wpL_law
  refine ⟨6, 292, by omega, by omega, ?_⟩
  unfold wpX_init
  refine ⟨by omega, by omega, by omega, by omega, by omega, by omega, by omega, by omega, by omega, by omega, by omega, by omega, ?_⟩
  refine rk_fill rk_fl0 rk_fl0 rk_fl0 rk_fl0 (fun b3 b4 b5 b6 tb => ?_)
  refine rk_choose (s := 1) (n := 3) (k := 0) (by omega) (by omega) (by omega) (by omega) tb (fun u hu => ?_) (fun z => absurd z (by omega))
  obtain ⟨fs, fz, fc, fl, fu, a1, a2, a3, a4, a5, a6⟩ := u
  exact ⟨L + 5, rk_law10 hL (L + 5) 0 fs fz fc fl fu a1 a2 a3 a4 a5 a6 (by omega) (by omega) hu⟩
end
