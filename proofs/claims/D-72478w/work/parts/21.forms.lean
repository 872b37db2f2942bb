/-! SPECIFICATION: the simple forms of a river -/
set_option maxRecDepth 100000
abbrev Fm : Type := Int × Int × Int
def fmA (y : Int) (P : Nat) : Nat → List Fm
  | 0 => []
  | n + 1 => fmA y P n ++ (if P % (n + 1) = 0 ∧ Int.gcd (Int.gcd ((n + 1 : Nat) : Int) y : Nat) ((P / (n + 1) : Nat) : Int) = 1 then [(((n + 1 : Nat) : Int), y, -((P / (n + 1) : Nat) : Int))] else [])
def fmB (d y : Int) : List Fm := if y * y < d ∧ (d - y * y) % 4 = 0 then fmA y ((d - y * y) / 4).toNat ((d - y * y) / 4).toNat else []
def fmsN (d : Int) : Nat → List Fm
  | 0 => []
  | k + 1 => fmsN d k ++ fmB d ((k : Int) - 30)
def fms (d : Int) : List Fm := fmsN d 61
/-- a simple form of the river d -/
def isF (d : Int) (f : Fm) : Prop := 1 ≤ f.1 ∧ f.2.2 ≤ -1 ∧ f.2.1 * f.2.1 - 4 * f.1 * f.2.2 = d ∧ Int.gcd (Int.gcd f.1 f.2.1 : Nat) f.2.2 = 1
theorem mem_fmA {y : Int} {P n : Nat} {f : Fm} : f ∈ fmA y P n ↔ ∃ a : Nat, 1 ≤ a ∧ a ≤ n ∧ P % a = 0 ∧ Int.gcd (Int.gcd (a : Int) y : Nat) ((P / a : Nat) : Int) = 1 ∧ f = ((a : Int), y, -((P / a : Nat) : Int)) := by
  induction n with
  | zero =>
    constructor
    · intro h; cases h
    · rintro ⟨a, h1, h2, -⟩; omega
  | succ n ih =>
    unfold fmA
    rw [List.mem_append, ih]
    constructor
    · rintro (⟨a, h1, h2, h3⟩ | h)
      · exact ⟨a, h1, by omega, h3⟩
      · split at h
        · rename_i h2
          exact ⟨n + 1, by omega, Nat.le_refl _, h2.1, h2.2, List.mem_singleton.mp h⟩
        · cases h
    · rintro ⟨a, h1, h2, h3, h4, h5⟩
      by_cases e : a = n + 1
      · subst e
        exact Or.inr (by rw [if_pos ⟨h3, h4⟩]; exact List.mem_singleton.mpr h5)
      · exact Or.inl ⟨a, h1, by omega, h3, h4, h5⟩
theorem mem_fmB {d y : Int} (hd : 0 < d) {f : Fm} : f ∈ fmB d y ↔ isF d f ∧ f.2.1 = y := by
  obtain ⟨a, b, c⟩ := f
  unfold fmB
  constructor
  · intro h
    split at h
    · rename_i hy
      obtain ⟨n, h1, h2, h3, h4, h5⟩ := mem_fmA.mp h
      obtain ⟨rfl, rfl, rfl⟩ : a = (n : Int) ∧ b = y ∧ c = -((((d - y * y) / 4).toNat / n : Nat) : Int) := by
        have := h5
        simp only [Prod.mk.injEq] at this
        exact this
      refine ⟨⟨by show (1 : Int) ≤ (n : Int); omega, ?_, ?_, ?_⟩, rfl⟩
      · have h6 : 0 < ((d - b * b) / 4).toNat := by omega
        have h7 : 0 < ((d - b * b) / 4).toNat / n := Nat.div_pos (by omega) (by omega)
        show -((((d - b * b) / 4).toNat / n : Nat) : Int) ≤ -1
        omega
      · have h6 := Nat.div_add_mod ((d - b * b) / 4).toNat n
        rw [h3, Nat.add_zero] at h6
        have h7 : ((n : Int)) * ((((d - b * b) / 4).toNat / n : Nat) : Int) = (d - b * b) / 4 := by
          rw [← Int.natCast_mul, h6]; omega
        show b * b - 4 * (n : Int) * -((((d - b * b) / 4).toNat / n : Nat) : Int) = d
        rw [Int.mul_neg, Int.mul_assoc, h7]
        omega
      · show Int.gcd (Int.gcd (n : Int) b : Nat) (-((((d - b * b) / 4).toNat / n : Nat) : Int)) = 1
        rw [Int.gcd_neg]
        exact h4
    · cases h
  · rintro ⟨⟨h1, h2, h3, h4⟩, h5⟩
    dsimp only at h1 h2 h3 h4 h5
    subst h5
    have e : a * -c = (d - b * b) / 4 := by
      have : d - b * b = 4 * (a * -c) := by rw [← h3]; grind
      omega
    have e0 : d - b * b = 4 * (a * -c) := by rw [← h3]; grind
    have epos : 0 < a * -c := Int.mul_pos (by omega) (by omega)
    rw [if_pos ⟨by omega, by omega⟩]
    refine mem_fmA.mpr ⟨a.toNat, by omega, ?_, ?_, ?_, ?_⟩
    · have : a * 1 ≤ a * -c := Int.mul_le_mul_of_nonneg_left (by omega) (by omega)
      omega
    all_goals
      have en : ((d - b * b) / 4).toNat = a.toNat * (-c).toNat := by
        apply Int.ofNat.inj
        show (((d - b * b) / 4).toNat : Int) = ((a.toNat * (-c).toNat : Nat) : Int)
        rw [Int.natCast_mul, Int.toNat_of_nonneg (by omega), Int.toNat_of_nonneg (by omega), Int.toNat_of_nonneg (by omega), e]
      have ed : ((d - b * b) / 4).toNat / a.toNat = (-c).toNat := by rw [en]; exact Nat.mul_div_cancel_left _ (by omega)
    · rw [en]; exact Nat.mul_mod_right _ _
    · rw [ed, Int.toNat_of_nonneg (by omega), Int.toNat_of_nonneg (by omega), Int.gcd_neg]
      exact h4
    · rw [ed, Int.toNat_of_nonneg (by omega), Int.toNat_of_nonneg (by omega), Int.neg_neg]
theorem mem_fmsN {d : Int} (hd : 0 < d) {f : Fm} {k : Nat} : f ∈ fmsN d k ↔ isF d f ∧ -30 ≤ f.2.1 ∧ f.2.1 < (k : Int) - 30 := by
  induction k with
  | zero =>
    constructor
    · intro h; cases h
    · rintro ⟨-, h1, h2⟩; omega
  | succ k ih =>
    unfold fmsN
    rw [List.mem_append, ih, mem_fmB hd]
    constructor
    · rintro (⟨h1, h2, h3⟩ | ⟨h1, h2⟩)
      · exact ⟨h1, h2, by omega⟩
      · exact ⟨h1, by omega, by omega⟩
    · rintro ⟨h1, h2, h3⟩
      by_cases e : f.2.1 = (k : Int) - 30
      · exact Or.inr ⟨h1, e⟩
      · exact Or.inl ⟨h1, h2, by omega⟩
theorem sq_lt {b : Int} (h : b * b < 900) : -30 < b ∧ b < 30 := by
  constructor
  · rcases Int.lt_or_le (-30) b with q | q
    · exact q
    · have : 30 * 30 ≤ (-b) * (-b) := Int.mul_le_mul (by omega) (by omega) (by omega) (by omega)
      rw [Int.neg_mul_neg] at this
      omega
  · rcases Int.lt_or_le b 30 with q | q
    · exact q
    · have : 30 * 30 ≤ b * b := Int.mul_le_mul (by omega) (by omega) (by omega) (by omega)
      omega
theorem isF_sq {d : Int} {f : Fm} (h : isF d f) : f.2.1 * f.2.1 < d := by
  obtain ⟨h1, h2, h3, -⟩ := h
  have : 0 < f.1 * -f.2.2 := Int.mul_pos (by omega) (by omega)
  rw [Int.mul_neg] at this
  rw [Int.mul_assoc] at h3
  omega
theorem mem_fms {d : Int} (hd : 0 < d) (hd2 : d ≤ 900) {f : Fm} : f ∈ fms d ↔ isF d f := by
  unfold fms
  rw [mem_fmsN hd]
  constructor
  · exact fun h => h.1
  · intro h
    have := sq_lt (b := f.2.1) (by have := isF_sq h; omega)
    exact ⟨h, by omega, by omega⟩
/-! how many -/
def dvs (P : Nat) : Nat → Nat
  | 0 => 0
  | n + 1 => dvs P n + (if P % (n + 1) = 0 then 1 else 0)
theorem fmA_len (y : Int) (P n : Nat) : (fmA y P n).length ≤ dvs P n := by
  induction n with
  | zero => exact Nat.le_refl _
  | succ n ih =>
    unfold fmA dvs
    rw [List.length_append]
    split
    · rename_i h
      rw [if_pos h.1]
      simp; omega
    · simp; omega
theorem dvs_18 : ∀ P, P < 226 → dvs P P ≤ 18 := by decide +kernel
theorem fmB_len {d y : Int} (hd : d ≤ 900) : (fmB d y).length ≤ 18 := by
  unfold fmB
  split
  · have h0 : 0 ≤ y * y := by
      rcases Int.le_total 0 y with h | h
      · exact Int.mul_nonneg h h
      · exact Int.mul_nonneg_of_nonpos_of_nonpos h h
    exact Nat.le_trans (fmA_len _ _ _) (dvs_18 _ (by omega))
  · simp
theorem fmsN_len {d : Int} (hd : d ≤ 900) (k : Nat) : (fmsN d k).length ≤ 18 * k := by
  induction k with
  | zero => exact Nat.le_refl _
  | succ k ih =>
    unfold fmsN
    rw [List.length_append]
    have := fmB_len (d := d) (y := (k : Int) - 30) hd
    omega
theorem fms_len {d : Int} (hd : d ≤ 900) : (fms d).length ≤ 1098 := fmsN_len hd 61
/-! no form twice -/
theorem fmA_nodup (y : Int) (P n : Nat) : (fmA y P n).Nodup := by
  induction n with
  | zero => exact List.nodup_nil
  | succ n ih =>
    unfold fmA
    split
    · refine List.nodup_append.mpr ⟨ih, by simp, fun x hx z hz => ?_⟩
      obtain ⟨a, h1, h2, -, -, h5⟩ := mem_fmA.mp hx
      rw [List.mem_singleton.mp hz, h5]
      intro e
      simp only [Prod.mk.injEq] at e
      omega
    · rw [List.append_nil]; exact ih
theorem fmB_nodup (d y : Int) : (fmB d y).Nodup := by
  unfold fmB
  split
  · exact fmA_nodup _ _ _
  · exact List.nodup_nil
theorem fmsN_nodup {d : Int} (hd : 0 < d) (k : Nat) : (fmsN d k).Nodup := by
  induction k with
  | zero => exact List.nodup_nil
  | succ k ih =>
    unfold fmsN
    refine List.nodup_append.mpr ⟨ih, fmB_nodup _ _, fun x hx z hz => ?_⟩
    have h1 := (mem_fmsN hd).mp hx
    have h2 := (mem_fmB hd).mp hz
    intro e
    rw [e] at h1
    omega
theorem fms_nodup {d : Int} (hd : 0 < d) : (fms d).Nodup := fmsN_nodup hd 61
/-! the next one -/
def isSq (d : Int) : Prop := ∃ x : Int, x * x = d
def fLeft (f : Fm) : Bool := decide (0 < f.1 + f.2.1 + f.2.2)
def nextF (f : Fm) : Fm := if 0 < f.1 + f.2.1 + f.2.2 then (f.1 + f.2.1 + f.2.2, f.2.1 + 2 * f.2.2, f.2.2) else (f.1, f.2.1 + 2 * f.1, f.1 + f.2.1 + f.2.2)
def backF (f : Fm) : Fm := (f.1, -f.2.1, f.2.2)
def mirrF (f : Fm) : Fm := (-f.2.2, -f.2.1, -f.1)
theorem prim_of {a b c a' b' c' : Int} (h : Int.gcd (Int.gcd a b : Nat) c = 1) (hd : ∀ g : Int, g ∣ a' → g ∣ b' → g ∣ c' → g ∣ a ∧ g ∣ b ∧ g ∣ c) : Int.gcd (Int.gcd a' b' : Nat) c' = 1 := by
  have g1 : ((Int.gcd (Int.gcd a' b' : Nat) c' : Nat) : Int) ∣ ((Int.gcd a' b' : Nat) : Int) := Int.gcd_dvd_left ..
  have g2 : ((Int.gcd (Int.gcd a' b' : Nat) c' : Nat) : Int) ∣ c' := Int.gcd_dvd_right ..
  have g3 := Int.dvd_trans g1 (Int.gcd_dvd_left a' b')
  have g4 := Int.dvd_trans g1 (Int.gcd_dvd_right a' b')
  obtain ⟨k1, k2, k3⟩ := hd _ g3 g4 g2
  have k4 : ((Int.gcd (Int.gcd a' b' : Nat) c' : Nat) : Int) ∣ ((Int.gcd a b : Nat) : Int) := Int.dvd_coe_gcd k1 k2
  have k5 : ((Int.gcd (Int.gcd a' b' : Nat) c' : Nat) : Int) ∣ ((Int.gcd (Int.gcd a b : Nat) c : Nat) : Int) := Int.dvd_coe_gcd k4 k3
  rw [h] at k5
  have k6 : Int.gcd (Int.gcd a' b' : Nat) c' ∣ 1 := Int.natCast_dvd_natCast.mp k5
  exact Nat.dvd_one.mp k6
theorem nextF_isF {d : Int} (hs : ¬ isSq d) {f : Fm} (h : isF d f) : isF d (nextF f) := by
  obtain ⟨a, b, c⟩ := f
  obtain ⟨h1, h2, h3, h4⟩ := h
  dsimp only at h1 h2 h3 h4
  have hne : a + b + c ≠ 0 := by
    intro e
    refine hs ⟨a - c, ?_⟩
    have eb : b = -(a + c) := by omega
    rw [← h3, eb]
    grind
  unfold nextF
  dsimp only
  split
  · rename_i hp
    refine ⟨by show 1 ≤ a + b + c; omega, h2, ?_, ?_⟩
    · show (b + 2 * c) * (b + 2 * c) - 4 * (a + b + c) * c = d
      rw [← h3]; grind
    · refine prim_of h4 (fun g d1 d2 d3 => ?_)
      have e1 : g ∣ b := by
        have := Int.dvd_sub d2 (Int.dvd_trans d3 (Int.dvd_mul_left 2 c))
        rwa [show b + 2 * c - 2 * c = b by omega] at this
      have e2 : g ∣ a := by
        have := Int.dvd_sub (Int.dvd_sub d1 e1) d3
        rwa [show a + b + c - b - c = a by omega] at this
      exact ⟨e2, e1, d3⟩
  · rename_i hp
    refine ⟨h1, by show a + b + c ≤ -1; omega, ?_, ?_⟩
    · show (b + 2 * a) * (b + 2 * a) - 4 * a * (a + b + c) = d
      rw [← h3]; grind
    · refine prim_of h4 (fun g d1 d2 d3 => ?_)
      have e1 : g ∣ b := by
        have := Int.dvd_sub d2 (Int.dvd_trans d1 (Int.dvd_mul_left 2 a))
        rwa [show b + 2 * a - 2 * a = b by omega] at this
      have e2 : g ∣ c := by
        have := Int.dvd_sub (Int.dvd_sub d3 d1) e1
        rwa [show a + b + c - a - b = c by omega] at this
      exact ⟨d1, e1, e2⟩
theorem nextF_inj {d : Int} {f g : Fm} (hf : isF d f) (hg : isF d g) (e : nextF f = nextF g) : f = g := by
  obtain ⟨a, b, c⟩ := f
  obtain ⟨a', b', c'⟩ := g
  obtain ⟨h1, h2, -⟩ := hf
  obtain ⟨k1, k2, -⟩ := hg
  dsimp only at h1 h2 k1 k2
  unfold nextF at e
  dsimp only at e
  split at e <;> split at e <;> simp only [Prod.mk.injEq] at e ⊢ <;> omega
theorem backF_isF {d : Int} {f : Fm} (h : isF d f) : isF d (backF f) := by
  obtain ⟨a, b, c⟩ := f
  obtain ⟨h1, h2, h3, h4⟩ := h
  refine ⟨h1, h2, ?_, prim_of h4 (fun g d1 d2 d3 => ⟨d1, Int.dvd_neg.mp d2, d3⟩)⟩
  show -b * -b - 4 * a * c = d
  rw [Int.neg_mul_neg]; exact h3
theorem mirrF_isF {d : Int} {f : Fm} (h : isF d f) : isF d (mirrF f) := by
  obtain ⟨a, b, c⟩ := f
  obtain ⟨h1, h2, h3, h4⟩ := h
  dsimp only at h1 h2 h3 h4
  refine ⟨by show 1 ≤ -c; omega, by show -a ≤ -1; omega, ?_, prim_of h4 (fun g d1 d2 d3 => ⟨Int.dvd_neg.mp d3, Int.dvd_neg.mp d2, Int.dvd_neg.mp d1⟩)⟩
  show -b * -b - 4 * -c * -a = d
  rw [← h3]; grind
