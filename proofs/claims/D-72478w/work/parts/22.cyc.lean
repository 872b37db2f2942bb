/-! SPECIFICATION: cycles of a permutation of the numbers below n -/
set_option maxRecDepth 100000
theorem pigeon : ∀ (n : Nat) (f : Nat → Nat), (∀ i, i ≤ n → f i < n) → ∃ i j, i < j ∧ j ≤ n ∧ f i = f j := by
  intro n
  induction n with
  | zero => intro f h; exact absurd (h 0 (Nat.le_refl _)) (Nat.not_lt_zero _)
  | succ n ih =>
    intro f h
    by_cases e : ∃ i, i ≤ n ∧ f i = f (n + 1)
    · obtain ⟨i, h1, h2⟩ := e
      exact ⟨i, n + 1, by omega, Nat.le_refl _, h2⟩
    · have hne : ∀ i, i ≤ n → f i ≠ f (n + 1) := fun i hi q => e ⟨i, hi, q⟩
      obtain ⟨i, j, h1, h2, h3⟩ := ih (fun i => if f i = n then f (n + 1) else f i) (fun i hi => by
        have a1 := h i (by omega)
        have a2 := h (n + 1) (Nat.le_refl _)
        have a3 := hne i hi
        split <;> omega)
      refine ⟨i, j, h1, by omega, ?_⟩
      have b1 := hne i (by omega)
      have b2 := hne j h2
      split at h3 <;> split at h3 <;> omega
section PERM
variable {nx : Nat → Nat} {n : Nat}
def it (nx : Nat → Nat) : Nat → Nat → Nat
  | 0, k => k
  | i + 1, k => nx (it nx i k)
def per (nx : Nat → Nat) (n k : Nat) : Nat := fstN (fun i => decide (it nx (i + 1) k = k)) n + 1
def inOrb (nx : Nat → Nat) (n k j : Nat) : Bool := decide (fstN (fun i => decide (it nx i k = j)) (per nx n k) < per nx n k)
abbrev isPerm (nx : Nat → Nat) (n : Nat) : Prop := (∀ k, k < n → nx k < n) ∧ ∀ k j, k < n → j < n → nx k = nx j → k = j
theorem it_lt (h : isPerm nx n) {k : Nat} (hk : k < n) (i : Nat) : it nx i k < n := by
  induction i with
  | zero => exact hk
  | succ i ih => exact h.1 _ ih
theorem it_add (i j k : Nat) : it nx (i + j) k = it nx i (it nx j k) := by
  induction i with
  | zero => rw [Nat.zero_add]; rfl
  | succ i ih =>
    rw [Nat.succ_add]
    show nx (it nx (i + j) k) = nx (it nx i (it nx j k))
    rw [ih]
theorem it_cancel (h : isPerm nx n) {k j : Nat} (hk : k < n) (hj : j < n) (i : Nat) (e : it nx i k = it nx i j) : k = j := by
  induction i with
  | zero => exact e
  | succ i ih => exact ih (h.2 _ _ (it_lt h hk i) (it_lt h hj i) e)
theorem per_spec (h : isPerm nx n) {k : Nat} (hk : k < n) : 1 ≤ per nx n k ∧ per nx n k ≤ n ∧ it nx (per nx n k) k = k ∧ ∀ i, 1 ≤ i → i < per nx n k → it nx i k ≠ k := by
  obtain ⟨i, j, h1, h2, h3⟩ := pigeon n (fun i => it nx i k) (fun i _ => it_lt h hk i)
  have e : it nx (j - i) k = k := by
    have h4 : it nx i (it nx (j - i) k) = it nx i k := by
      rw [← it_add, show i + (j - i) = j by omega]; exact h3.symm
    exact it_cancel h (it_lt h hk _) hk i h4
  have hs := fstN_spec (fun i => decide (it nx (i + 1) k = k)) n
  have hlt : fstN (fun i => decide (it nx (i + 1) k = k)) n < n := by
    rcases Nat.lt_or_ge (fstN (fun i => decide (it nx (i + 1) k = k)) n) n with q | q
    · exact q
    · have := hs.1 (j - i - 1) (by omega)
      rw [show j - i - 1 + 1 = j - i by omega] at this
      exact absurd e (of_decide_eq_false this)
  refine ⟨by unfold per; omega, by unfold per; omega, ?_, fun i h5 h6 => ?_⟩
  · exact of_decide_eq_true (hs.2 hlt)
  · have := hs.1 (i - 1) (by unfold per at h6; omega)
    rw [show i - 1 + 1 = i by omega] at this
    exact of_decide_eq_false this
theorem it_ne (h : isPerm nx n) {k : Nat} (hk : k < n) {i j : Nat} (hij : i < j) (hj : j < per nx n k) : it nx i k ≠ it nx j k := by
  intro e
  have h4 : it nx i (it nx (j - i) k) = it nx i k := by
    rw [← it_add, show i + (j - i) = j by omega]; exact e.symm
  exact (per_spec h hk).2.2.2 (j - i) (by omega) (by omega) (it_cancel h (it_lt h hk _) hk i h4)
theorem inOrb_iff {k j : Nat} : inOrb nx n k j = true ↔ ∃ i, i < per nx n k ∧ it nx i k = j := by
  unfold inOrb
  rw [decide_eq_true_iff]
  constructor
  · intro h
    exact ⟨_, h, of_decide_eq_true ((fstN_spec (fun i => decide (it nx i k = j)) (per nx n k)).2 h)⟩
  · rintro ⟨i, h1, h2⟩
    rcases Nat.lt_or_ge (fstN (fun i => decide (it nx i k = j)) (per nx n k)) (per nx n k) with q | q
    · exact q
    · have := (fstN_spec (fun i => decide (it nx i k = j)) (per nx n k)).1 i (by omega)
      exact absurd h2 (of_decide_eq_false this)
theorem inOrb_nx (h : isPerm nx n) {k j : Nat} (hk : k < n) (hj : j < n) : inOrb nx n k (nx j) = inOrb nx n k j := by
  have hp := per_spec h hk
  rw [Bool.eq_iff_iff, inOrb_iff, inOrb_iff]
  constructor
  · rintro ⟨i, h1, h2⟩
    by_cases e : i = 0
    · subst e
      refine ⟨per nx n k - 1, by omega, h.2 _ _ (it_lt h hk _) hj ?_⟩
      rw [← h2]
      show it nx (per nx n k - 1 + 1) k = k
      rw [show per nx n k - 1 + 1 = per nx n k by omega]; exact hp.2.2.1
    · refine ⟨i - 1, by omega, h.2 _ _ (it_lt h hk _) hj ?_⟩
      rw [← h2]
      show it nx (i - 1 + 1) k = it nx i k
      rw [show i - 1 + 1 = i by omega]
  · rintro ⟨i, h1, h2⟩
    by_cases e : i + 1 = per nx n k
    · refine ⟨0, by omega, ?_⟩
      rw [← h2]
      show k = it nx (i + 1) k
      rw [e]; exact hp.2.2.1.symm
    · exact ⟨i + 1, by omega, by rw [← h2]; rfl⟩
/-- the cycles' numbers, and their first ones -/
def stC (nx : Nat → Nat) (n : Nat) (s : (Nat → Int) × List Nat) (k : Nat) : (Nat → Int) × List Nat := if s.1 k = NON then (fun j => if inOrb nx n k j then (s.2.length : Int) else s.1 j, s.2 ++ [k]) else s
def cyN (nx : Nat → Nat) (n : Nat) : Nat → (Nat → Int) × List Nat
  | 0 => (fun _ => NON, [])
  | k + 1 => stC nx n (cyN nx n k) k
theorem getD_app_lt {l : List Nat} {x c : Nat} (h : c < l.length) : (l ++ [x]).getD c 0 = l.getD c 0 := by
  rw [List.getD_eq_getElem?_getD, List.getElem?_append_left h, List.getD_eq_getElem?_getD]
theorem getD_app_eq {l : List Nat} {x : Nat} : (l ++ [x]).getD l.length 0 = x := by
  rw [List.getD_eq_getElem?_getD, List.getElem?_append_right (Nat.le_refl _), Nat.sub_self]
  rfl
theorem inOrb_self (h : isPerm nx n) {k : Nat} (hk : k < n) : inOrb nx n k k = true := inOrb_iff.mpr ⟨0, (per_spec h hk).1, rfl⟩
/-- what holds of them: numbers are the same along a cycle; those below k have one; a number is below the count; it is c just along the c-th first one -/
def CyI (nx : Nat → Nat) (n k : Nat) (s : (Nat → Int) × List Nat) : Prop :=
  (∀ j, j < n → s.1 (nx j) = s.1 j) ∧ (∀ j, j < k → s.1 j ≠ NON) ∧ (∀ j, j < n → s.1 j = NON ∨ ∃ c, c < s.2.length ∧ s.1 j = (c : Int)) ∧ (∀ c, c < s.2.length → s.2.getD c 0 < k) ∧ (∀ c j, c < s.2.length → j < n → (s.1 j = (c : Int) ↔ inOrb nx n (s.2.getD c 0) j = true)) ∧ s.2.length ≤ k
theorem cyN_I (h : isPerm nx n) : ∀ k, k ≤ n → CyI nx n k (cyN nx n k) := by
  intro k
  induction k with
  | zero =>
    intro _
    exact ⟨fun _ _ => rfl, fun j hj => absurd hj (Nat.not_lt_zero _), fun _ _ => Or.inl rfl, fun c hc => absurd hc (Nat.not_lt_zero _), fun c j hc => absurd hc (Nat.not_lt_zero _), Nat.le_refl _⟩
  | succ k ih =>
    intro hk
    obtain ⟨a1, a2, a3, a4, a5, a6⟩ := ih (by omega)
    show CyI nx n (k + 1) (stC nx n (cyN nx n k) k)
    generalize cyN nx n k = s at a1 a2 a3 a4 a5 a6
    unfold stC
    by_cases e : s.1 k = NON
    · rw [if_pos e]
      have ho := inOrb_self h (show k < n by omega)
      -- a cell of k's cycle has no number as yet
      have hn : ∀ j, inOrb nx n k j = true → s.1 j = NON := by
        intro j hj
        obtain ⟨i, -, rfl⟩ := inOrb_iff.mp hj
        have : ∀ i, s.1 (it nx i k) = NON := by
          intro i
          induction i with
          | zero => exact e
          | succ i ih2 => show s.1 (nx (it nx i k)) = NON; rw [a1 _ (it_lt h (by omega) i), ih2]
        exact this i
      refine ⟨fun j hj => ?_, fun j hj => ?_, fun j hj => ?_, fun c hc => ?_, fun c j hc hj => ?_, ?_⟩
      · dsimp only
        rw [inOrb_nx h (by omega) hj, a1 j hj]
      · dsimp only
        split
        · unfold NON; omega
        · rename_i h2
          by_cases e2 : j = k
          · subst e2; exact absurd ho h2
          · exact a2 j (by omega)
      · dsimp only
        split
        · exact Or.inr ⟨s.2.length, by simp, rfl⟩
        · rcases a3 j hj with q | ⟨c, q1, q2⟩
          · exact Or.inl q
          · exact Or.inr ⟨c, by simp; omega, q2⟩
      · have hc2 : c < s.2.length + 1 := by simpa using hc
        dsimp only
        by_cases e2 : c = s.2.length
        · subst e2; rw [getD_app_eq]; omega
        · rw [getD_app_lt (by omega)]
          have := a4 c (by omega)
          omega
      · have hc2 : c < s.2.length + 1 := by simpa using hc
        dsimp only
        by_cases e2 : c = s.2.length
        · subst e2
          rw [getD_app_eq]
          constructor
          · intro q
            split at q
            · rename_i h2; exact h2
            · rcases a3 j hj with q2 | ⟨c, q1, q2⟩
              · rw [q2] at q; unfold NON at q; omega
              · rw [q2] at q; omega
          · intro q
            rw [if_pos q]
        · rw [getD_app_lt (by omega), ← a5 c j (by omega) hj]
          constructor
          · intro q
            split at q
            · omega
            · exact q
          · intro q
            rw [if_neg (fun h2 => by rw [hn j h2] at q; unfold NON at q; omega)]
            exact q
      · simp; omega
    · rw [if_neg e]
      refine ⟨a1, fun j hj => ?_, a3, fun c hc => by have := a4 c hc; omega, a5, by omega⟩
      by_cases e2 : j = k
      · subst e2; exact e
      · exact a2 j (by omega)
end PERM
/-! forms by their numbers -/
abbrev fat (l : List Fm) (k : Nat) : Fm := l.getD k (0, 0, 0)
def ix (l : List Fm) (f : Fm) : Nat := fstN (fun k => decide (fat l k = f)) l.length
def nof (l : List Fm) (f : Fm) : Int := if ix l f < l.length then (ix l f : Int) else NON
def nxt (l : List Fm) (k : Nat) : Nat := ix l (nextF (fat l k))
theorem ix_mem {l : List Fm} {f : Fm} (h : f ∈ l) : ix l f < l.length ∧ fat l (ix l f) = f := by
  obtain ⟨i, hi, he⟩ := List.getElem_of_mem h
  have hs := fstN_spec (fun k => decide (fat l k = f)) l.length
  have hlt : ix l f < l.length := by
    rcases Nat.lt_or_ge (ix l f) l.length with q | q
    · exact q
    · have h2 := hs.1 i (by unfold ix at q; omega)
      have h3 : fat l i = f := by rw [← he]; unfold fat; rw [List.getD_eq_getElem?_getD, List.getElem?_eq_getElem hi]; rfl
      exact absurd h3 (of_decide_eq_false h2)
  exact ⟨hlt, of_decide_eq_true (hs.2 hlt)⟩
theorem fat_mem {l : List Fm} {k : Nat} (h : k < l.length) : fat l k ∈ l := by
  unfold fat
  rw [List.getD_eq_getElem?_getD, List.getElem?_eq_getElem h]
  exact List.getElem_mem h
theorem fat_inj {l : List Fm} (hn : l.Nodup) {i j : Nat} (hi : i < l.length) (hj : j < l.length) (e : fat l i = fat l j) : i = j := by
  unfold fat at e
  rw [List.getD_eq_getElem?_getD, List.getElem?_eq_getElem hi, List.getD_eq_getElem?_getD, List.getElem?_eq_getElem hj] at e
  exact (List.getElem_inj hn).mp e
/-- a river's forms -/
def fl (d : Int) : List Fm := if d = 0 then [] else fms d
def RivOK (d : Int) : Prop := d = 0 ∨ (5 ≤ d ∧ d ≤ 900 ∧ ¬ isSq d)
theorem fl_mem {d : Int} (h : RivOK d) {f : Fm} (hf : f ∈ fl d) : isF d f ∧ f ∈ fms d ∧ d ≠ 0 := by
  unfold fl at hf
  split at hf
  · cases hf
  · rename_i h0
    rcases h with h | ⟨h1, h2, -⟩
    · exact absurd h h0
    · exact ⟨(mem_fms (by omega) h2).mp hf, hf, h0⟩
theorem fl_of {d : Int} (h : RivOK d) (h0 : d ≠ 0) {f : Fm} (hf : isF d f) : f ∈ fl d := by
  unfold fl
  rw [if_neg h0]
  rcases h with h | ⟨h1, h2, -⟩
  · exact absurd h h0
  · exact (mem_fms (by omega) h2).mpr hf
theorem fl_next {d : Int} (h : RivOK d) {f : Fm} (hf : f ∈ fl d) : nextF f ∈ fl d := by
  obtain ⟨a, b, c⟩ := fl_mem h hf
  rcases h with h | ⟨h1, h2, h3⟩
  · exact absurd h c
  · exact fl_of (Or.inr ⟨h1, h2, h3⟩) c (nextF_isF h3 a)
theorem fl_back {d : Int} (h : RivOK d) {f : Fm} (hf : f ∈ fl d) : backF f ∈ fl d := by
  obtain ⟨a, b, c⟩ := fl_mem h hf
  exact fl_of h c (backF_isF a)
theorem fl_mirr {d : Int} (h : RivOK d) {f : Fm} (hf : f ∈ fl d) : mirrF f ∈ fl d := by
  obtain ⟨a, b, c⟩ := fl_mem h hf
  exact fl_of h c (mirrF_isF a)
theorem fl_len {d : Int} (h : RivOK d) : (fl d).length ≤ 1098 := by
  unfold fl
  split
  · exact Nat.zero_le _
  · rename_i h0
    rcases h with h | ⟨h1, h2, h3⟩
    · exact absurd h h0
    · exact fms_len h2
theorem fl_nodup {d : Int} (h : RivOK d) : (fl d).Nodup := by
  unfold fl
  split
  · exact List.nodup_nil
  · rename_i h0
    rcases h with h | ⟨h1, h2, h3⟩
    · exact absurd h h0
    · exact fms_nodup (by omega)
theorem fl_perm {d : Int} (h : RivOK d) : isPerm (nxt (fl d)) (fl d).length := by
  refine ⟨fun k hk => (ix_mem (fl_next h (fat_mem hk))).1, fun k j hk hj e => ?_⟩
  have h1 := (ix_mem (fl_next h (fat_mem hk))).2
  have h2 := (ix_mem (fl_next h (fat_mem hj))).2
  have h3 : nextF (fat (fl d) k) = nextF (fat (fl d) j) := by
    rw [← h1, ← h2]
    show fat _ (nxt (fl d) k) = fat _ (nxt (fl d) j)
    rw [e]
  exact fat_inj (fl_nodup h) hk hj (nextF_inj (fl_mem h (fat_mem hk)).1 (fl_mem h (fat_mem hj)).1 h3)
/-- a form's numbers are small -/
def FB (f : Fm) : Prop := (-1000 ≤ f.1 ∧ f.1 ≤ 1000) ∧ (-1000 ≤ f.2.1 ∧ f.2.1 ≤ 1000) ∧ -1000 ≤ f.2.2 ∧ f.2.2 ≤ 1000
theorem isF_FB {d : Int} (hd : d ≤ 900) {f : Fm} (h : isF d f) : FB f := by
  obtain ⟨a, b, c⟩ := f
  have h5 := isF_sq h
  obtain ⟨h1, h2, h3, -⟩ := h
  dsimp only at h1 h2 h3 h5
  have hb := sq_lt (b := b) (by omega)
  have e0 : d - b * b = 4 * (a * -c) := by rw [← h3]; grind
  have hbb : 0 ≤ b * b := by
    rcases Int.le_total 0 b with h | h
    · exact Int.mul_nonneg h h
    · exact Int.mul_nonneg_of_nonpos_of_nonpos h h
  have l1 : a * 1 ≤ a * -c := Int.mul_le_mul_of_nonneg_left (by omega) (by omega)
  have l2 : 1 * -c ≤ a * -c := Int.mul_le_mul_of_nonneg_right (by omega) (by omega)
  exact ⟨⟨by show -1000 ≤ a; omega, by show a ≤ 1000; omega⟩, ⟨by show -1000 ≤ b; omega, by show b ≤ 1000; omega⟩, by show -1000 ≤ c; omega, by show c ≤ 1000; omega⟩
theorem fl_FB {d : Int} (h : RivOK d) {f : Fm} (hf : f ∈ fl d) : FB f := by
  obtain ⟨a, b, c⟩ := fl_mem h hf
  rcases h with h | ⟨h1, h2, h3⟩
  · exact absurd h c
  · exact isF_FB h2 a
/-- the cycles of a river -/
def rc (d : Int) : (Nat → Int) × List Nat := cyN (nxt (fl d)) (fl d).length (fl d).length
theorem rc_I {d : Int} (h : RivOK d) : CyI (nxt (fl d)) (fl d).length (fl d).length (rc d) := cyN_I (fl_perm h) _ (Nat.le_refl _)
