/-! SPECIFICATION: a form flows -/
set_option maxRecDepth 100000
def flT (f : Fm) : Int := if (0 < f.1 ↔ 0 < f.2.1) then -1 else 1
def flM (f : Fm) : Int := f.1 + f.2.2 + flT f * f.2.1
def flS (f : Fm) : Fm := if iabs f.2.2 ≤ iabs f.1 then (flM f, f.2.1 + 2 * flT f * f.2.2, f.2.2) else (f.1, f.2.1 + 2 * flT f * f.1, flM f)
def flF : Nat → Fm → Nat × Fm
  | 0, f => (0, f)
  | k + 1, f => if (0 < f.1 ↔ 0 < f.2.2) then ((flF k (flS f)).1 + 1, (flF k (flS f)).2) else (0, f)
def flMu (f : Fm) : Nat := f.1.natAbs + f.2.2.natAbs
def flR (f : Fm) : Nat × Fm := flF (flMu f + 1) f
/-- a form that flows: of the discriminant d, small -/
def FlI (d : Int) (f : Fm) : Prop := f.2.1 * f.2.1 - 4 * f.1 * f.2.2 = d ∧ (-999 ≤ f.1 ∧ f.1 ≤ 999) ∧ (-999 ≤ f.2.1 ∧ f.2.1 ≤ 999) ∧ -999 ≤ f.2.2 ∧ f.2.2 ≤ 999
theorem FlI.ne {d : Int} {f : Fm} (hs : ¬ isSq d) (h : FlI d f) : f.1 ≠ 0 ∧ f.2.2 ≠ 0 := by
  obtain ⟨h1, -⟩ := h
  constructor
  · intro e
    rw [e] at h1
    exact hs ⟨f.2.1, by rw [← h1]; simp⟩
  · intro e
    rw [e] at h1
    exact hs ⟨f.2.1, by rw [← h1]; simp⟩
theorem sq_gt {x p q : Int} (hx : 0 ≤ x) (hq : 0 ≤ q) (hpq : q ≤ p) (h : 4 * (p * q) < x * x) : 2 * q < x := by
  rcases Int.lt_or_le (2 * q) x with r | r
  · exact r
  · have h1 : x * x ≤ (2 * q) * (2 * q) := Int.mul_le_mul r r hx (by omega)
    have h2 : q * q ≤ p * q := Int.mul_le_mul_of_nonneg_right hpq hq
    have h3 : (2 * q) * (2 * q) = 4 * (q * q) := by grind
    omega
theorem flS_I {d : Int} {f : Fm} (hd : 0 < d) (hs : ¬ isSq d) (h : FlI d f) (ha : 0 < f.1 ↔ 0 < f.2.2) : FlI d (flS f) ∧ ((0 < (flS f).1 ↔ 0 < (flS f).2.2) → flMu (flS f) < flMu f) := by
  obtain ⟨hn1, hn2⟩ := h.ne hs
  obtain ⟨a, b, c⟩ := f
  obtain ⟨h1, h2, h3, h4⟩ := h
  dsimp only at h1 h2 h3 h4 ha hn1 hn2
  -- the size of b
  have hb : ∀ p q : Int, 0 ≤ q → q ≤ p → p * q = a * c → 2 * q < iabs b := by
    intro p q hq hpq e
    refine sq_gt (by unfold iabs; split <;> omega) hq hpq ?_
    have e2 : iabs b * iabs b = b * b := by unfold iabs; split; exact Int.neg_mul_neg b b; rfl
    rw [e2, e]
    have : 4 * a * c = 4 * (a * c) := Int.mul_assoc 4 a c
    omega
  have ht : flT (a, b, c) = -1 ∨ flT (a, b, c) = 1 := by unfold flT; split <;> simp
  have htb : flT (a, b, c) * b = if 0 < a then -iabs b else iabs b := by
    unfold flT iabs
    dsimp only
    split <;> split <;> split <;> omega
  have tt : flT (a, b, c) * flT (a, b, c) = 1 := by rcases ht with q | q <;> rw [q] <;> rfl
  unfold flS
  dsimp only
  by_cases hc : iabs c ≤ iabs a
  · rw [if_pos hc]
    have hbc := hb (iabs a) (iabs c) (by unfold iabs; split <;> omega) hc (by unfold iabs; split <;> split <;> first | rfl | exact Int.neg_mul_neg a c | omega)
    have e2 : b + 2 * flT (a, b, c) * c = flT (a, b, c) * (flT (a, b, c) * b + 2 * c) := by
      rw [Int.mul_add, ← Int.mul_assoc, tt]; grind
    have hb2 : -999 ≤ b + 2 * flT (a, b, c) * c ∧ b + 2 * flT (a, b, c) * c ≤ 999 := by
      rw [e2, htb]
      rcases ht with q | q <;> rw [q] <;> unfold iabs at * <;> split <;> split at hbc <;> split at hbc <;> omega
    refine ⟨⟨?_, ⟨?_, ?_⟩, hb2, h4⟩, ?_⟩
    · show (b + 2 * flT (a, b, c) * c) * (b + 2 * flT (a, b, c) * c) - 4 * flM (a, b, c) * c = d
      unfold flM
      dsimp only
      rcases ht with q | q <;> rw [q, ← h1] <;> grind
    · show -999 ≤ flM (a, b, c)
      unfold flM; dsimp only; rw [htb]
      unfold iabs at *; split <;> split at hbc <;> split at hbc <;> omega
    · show flM (a, b, c) ≤ 999
      unfold flM; dsimp only; rw [htb]
      unfold iabs at *; split <;> split at hbc <;> split at hbc <;> omega
    · intro hm
      unfold flMu flM at *
      dsimp only at hm ⊢
      rw [htb] at hm ⊢
      unfold iabs at *; split at hm <;> split at hbc <;> split at hbc <;> omega
  · rw [if_neg hc]
    have hbc := hb (iabs c) (iabs a) (by unfold iabs; split <;> omega) (by omega) (by rw [Int.mul_comm a c]; unfold iabs; split <;> split <;> first | rfl | exact Int.neg_mul_neg c a | omega)
    have e2 : b + 2 * flT (a, b, c) * a = flT (a, b, c) * (flT (a, b, c) * b + 2 * a) := by
      rw [Int.mul_add, ← Int.mul_assoc, tt]; grind
    have hb2 : -999 ≤ b + 2 * flT (a, b, c) * a ∧ b + 2 * flT (a, b, c) * a ≤ 999 := by
      rw [e2, htb]
      rcases ht with q | q <;> rw [q] <;> unfold iabs at * <;> split <;> split at hbc <;> split at hbc <;> omega
    refine ⟨⟨?_, h2, hb2, ?_, ?_⟩, ?_⟩
    · show (b + 2 * flT (a, b, c) * a) * (b + 2 * flT (a, b, c) * a) - 4 * a * flM (a, b, c) = d
      unfold flM
      dsimp only
      rcases ht with q | q <;> rw [q, ← h1] <;> grind
    · show -999 ≤ flM (a, b, c)
      unfold flM; dsimp only; rw [htb]
      unfold iabs at *; split <;> split at hbc <;> split at hbc <;> omega
    · show flM (a, b, c) ≤ 999
      unfold flM; dsimp only; rw [htb]
      unfold iabs at *; split <;> split at hbc <;> split at hbc <;> omega
    · intro hm
      unfold flMu flM at *
      dsimp only at hm ⊢
      rw [htb] at hm ⊢
      unfold iabs at *; split at hm <;> split at hbc <;> split at hbc <;> omega
/-- one step, then the rest -/
theorem flF_enough {d : Int} (hd : 0 < d) (hs : ¬ isSq d) : ∀ (k j : Nat) (f : Fm), FlI d f → flMu f < k → k ≤ j → flF j f = flF k f := by
  intro k
  induction k with
  | zero => intro j f _ h; omega
  | succ k ih =>
    intro j f hf h1 h2
    obtain ⟨j, rfl⟩ : ∃ i, j = i + 1 := ⟨j - 1, by omega⟩
    unfold flF
    by_cases ha : (0 < f.1 ↔ 0 < f.2.2)
    · rw [if_pos ha, if_pos ha]
      obtain ⟨g1, g2⟩ := flS_I hd hs hf ha
      by_cases hb : (0 < (flS f).1 ↔ 0 < (flS f).2.2)
      · rw [ih j (flS f) g1 (by have := g2 hb; omega) (by omega)]
      · have stop : ∀ i, flF i (flS f) = (0, flS f) := by
          intro i
          cases i with
          | zero => rfl
          | succ i => unfold flF; rw [if_neg hb]
        rw [stop, stop]
    · rw [if_neg ha, if_neg ha]
theorem flR_eq {d : Int} (hd : 0 < d) (hs : ¬ isSq d) {f : Fm} (hf : FlI d f) : flR f = if (0 < f.1 ↔ 0 < f.2.2) then ((flR (flS f)).1 + 1, (flR (flS f)).2) else (0, f) := by
  unfold flR
  by_cases ha : (0 < f.1 ↔ 0 < f.2.2)
  · rw [if_pos ha]
    obtain ⟨g1, g2⟩ := flS_I hd hs hf ha
    have e : flF (flMu f + 1) f = ((flF (flMu f) (flS f)).1 + 1, (flF (flMu f) (flS f)).2) := by
      show (if (0 < f.1 ↔ 0 < f.2.2) then _ else _) = _
      rw [if_pos ha]
    rw [e]
    by_cases hb : (0 < (flS f).1 ↔ 0 < (flS f).2.2)
    · have hlt := g2 hb
      rw [flF_enough hd hs (flMu (flS f) + 1) (flMu f) (flS f) g1 (by omega) (by omega)]
    · have stop : ∀ i, flF i (flS f) = (0, flS f) := by
        intro i
        cases i with
        | zero => rfl
        | succ i => unfold flF; rw [if_neg hb]
      rw [stop, stop]
  · rw [if_neg ha]
    unfold flF
    rw [if_neg ha]
def flUp (f : Fm) : Fm := if 0 < f.1 then f else (f.2.2, -f.2.1, f.1)
def sFlow (d a b c : Int) (told : Bool) : Int :=
  if 0 < d then (if ((-999 ≤ a ∧ a ≤ 999) ∧ (-999 ≤ b ∧ b ≤ 999) ∧ (-999 ≤ c ∧ c ≤ 999)) ∧ b * b - 4 * a * c = d ∧ Int.gcd (Int.gcd a b : Nat) c = 1 then (if told then ((flR (a, b, c)).1 : Int) else nof (fl d) (flUp (flR (a, b, c)).2)) else OUT) else STA
