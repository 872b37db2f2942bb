/-! words as texts; the least turn tells words that are alike -/
set_option maxRecDepth 100000
def cN (b : Bool) : Nat := if b then 82 else 76
theorem codeB_N (b : Bool) : codeB b = (cN b : Nat) := by cases b <;> rfl
theorem codeB_inj {a b : Bool} : codeB a = codeB b ↔ a = b := by cases a <;> cases b <;> simp [codeB]
theorem codeB_b (b : Bool) : 76 ≤ codeB b ∧ codeB b ≤ 82 := by cases b <;> simp [codeB]
theorem codeB_L {b : Bool} : codeB b = 76 ↔ b = false := by cases b <;> simp [codeB]
def txt (w : List Bool) : Tx := w.map cN
theorem txt_len (w : List Bool) : (txt w).length = w.length := by simp [txt]
theorem txt_ok (w : List Bool) : okT (txt w) := by
  intro c hc
  obtain ⟨b, -, rfl⟩ := List.mem_map.mp hc
  cases b <;> decide
theorem txt_at (w : List Bool) {k : Nat} (h : k < w.length) : ((tl (txt w) k : Nat) : Int) = codeB (wl w k) := by
  rw [codeB_N, wl_lt h]
  unfold tl txt
  rw [List.getD_eq_getElem?_getD, List.getElem?_map, List.getElem?_eq_getElem h]
  rfl
theorem txt_app (u w : List Bool) : txt (u ++ w) = txt u ++ txt w := by simp [txt]
theorem txt_push (u : List Bool) (b : Bool) : txt (u ++ [b]) = txt u ++ [cN b] := by simp [txt]
theorem txt_inj {u w : List Bool} (h : txt u = txt w) : u = w := by
  have hl : u.length = w.length := by rw [← txt_len u, h, txt_len]
  apply List.ext_getElem hl
  intro k h1 h2
  have e1 := txt_at u h1
  rw [h, txt_at w h2] at e1
  have := codeB_inj.mp e1
  rw [wl_lt h1, wl_lt h2] at this
  exact this.symm
theorem txt_repW (w : List Bool) (n : Nat) : txt (repW w n) = repT (txt w) n := by
  induction n with
  | zero => rfl
  | succ n ih => show txt (repW w n ++ w) = repT (txt w) n ++ txt w; rw [txt_app, ih]
/-- words are told by their length and letters -/
theorem w_ext {u w : List Bool} (h : u.length = w.length) (h2 : ∀ k, k < u.length → wl u k = wl w k) : u = w := by
  apply List.ext_getElem h
  intro k h3 h4
  have := h2 k h3
  rw [wl_lt h3, wl_lt h4] at this
  exact this
theorem take_push {w : List Bool} {k : Nat} (h : k < w.length) : w.take (k + 1) = w.take k ++ [wl w k] := by
  rw [wl_lt h, List.take_succ_eq_append_getElem h]
/-- a table with one more letter behind -/
def tMul (q : Int × Int × Int × Int) (b : Bool) : Int × Int × Int × Int := if b then (q.1, q.1 + q.2.1, q.2.2.1, q.2.2.1 + q.2.2.2) else (q.1 + q.2.1, q.2.1, q.2.2.1 + q.2.2.2, q.2.2.2)
theorem wTab_push (u : List Bool) (b : Bool) : wTab (u ++ [b]) = tMul (wTab u) b := by
  induction u with
  | nil => cases b <;> rfl
  | cons x u ih =>
    show (match wTab (u ++ [b]) with | (a, b, c, d) => if x then (a + c, b + d, c, d) else (a, b, c + a, d + b)) = tMul (match wTab u with | (a, b, c, d) => if x then (a + c, b + d, c, d) else (a, b, c + a, d + b)) b
    rw [ih]
    obtain ⟨p, q, r, s⟩ := wTab u
    cases x <;> cases b <;> simp only [tMul, if_true, if_false, Bool.false_eq_true] <;> (congr 1 <;> first | omega | (congr 1 <;> first | omega | (congr 1 <;> omega)) | rfl)
/-! the order of turns -/
def lex (n : Nat) (f g : Nat → Bool) : Prop := (∀ k, k < n → f k = g k) ∨ ∃ d, d < n ∧ (∀ k, k < d → f k = g k) ∧ f d = false ∧ g d = true
theorem lex.rf {n : Nat} {f : Nat → Bool} : lex n f f := Or.inl (fun _ _ => rfl)
theorem lex.tr {n : Nat} {f g h : Nat → Bool} (h1 : lex n f g) (h2 : lex n g h) : lex n f h := by
  rcases h1 with h1 | ⟨d, hd, h1, h1f, h1t⟩
  · rcases h2 with h2 | ⟨e, he, h2, h2f, h2t⟩
    · exact Or.inl (fun k hk => (h1 k hk).trans (h2 k hk))
    · exact Or.inr ⟨e, he, fun k hk => (h1 k (by omega)).trans (h2 k hk), (h1 e he).trans h2f, h2t⟩
  · rcases h2 with h2 | ⟨e, he, h2, h2f, h2t⟩
    · exact Or.inr ⟨d, hd, fun k hk => (h1 k hk).trans (h2 k (by omega)), h1f, (h2 d hd).symm.trans h1t⟩
    · rcases Nat.lt_trichotomy d e with q | q | q
      · exact Or.inr ⟨d, hd, fun k hk => (h1 k hk).trans (h2 k (by omega)), h1f, (h2 d q).symm.trans h1t⟩
      · rw [← q, h1t] at h2f
        cases h2f
      · exact Or.inr ⟨e, he, fun k hk => (h1 k (by omega)).trans (h2 k hk), (h1 e q).trans h2f, h2t⟩
theorem lex.anti {n : Nat} {f g : Nat → Bool} (h1 : lex n f g) (h2 : lex n g f) : ∀ k, k < n → f k = g k := by
  rcases h1 with h1 | ⟨d, hd, h1, h1f, h1t⟩
  · exact h1
  · rcases h2 with h2 | ⟨e, he, h2, h2f, h2t⟩
    · exact fun k hk => (h2 k hk).symm
    · rcases Nat.lt_trichotomy d e with q | q | q
      · have := h2 d q
        rw [h1f, h1t] at this
        cases this
      · rw [← q, h1t] at h2f
        cases h2f
      · have := h1 e q
        rw [h2f, h2t] at this
        cases this
theorem unl_spec (w : List Bool) (a b : Nat) : (∀ j, j < unl w a b → wc w (a + j) = wc w (b + j)) ∧ (unl w a b < w.length → wc w (a + unl w a b) ≠ wc w (b + unl w a b)) ∧ unl w a b ≤ w.length := by
  have h := fstN_spec (fun k => wc w (a + k) != wc w (b + k)) w.length
  exact ⟨fun j hj => bne_eq_false_iff_eq.mp (h.1 j hj), fun hj => bne_iff_ne.mp (h.2 hj), fstN_le _ _⟩
theorem unl_eq {w : List Bool} {a b k : Nat} (hk : k ≤ w.length) (h1 : ∀ j, j < k → wc w (a + j) = wc w (b + j)) (h2 : k < w.length → wc w (a + k) ≠ wc w (b + k)) : unl w a b = k :=
  fstN_eq hk (fun j hj => bne_eq_false_iff_eq.mpr (h1 j hj)) (fun hj => bne_iff_ne.mpr (h2 hj))
theorem bi_le {p q : Bool} (h : p ≠ q) (h2 : bi p - bi q ≤ 0) : p = false ∧ q = true := by
  cases p <;> cases q <;> simp_all [bi]
theorem wcmp_le {w : List Bool} {a b : Nat} (h : wcmp w a b ≤ 0) : lex w.length (fun k => wc w (a + k)) (fun k => wc w (b + k)) := by
  obtain ⟨h1, h2, h3⟩ := unl_spec w a b
  by_cases e : unl w a b < w.length
  · unfold wcmp at h
    rw [if_pos e] at h
    obtain ⟨e1, e2⟩ := bi_le (h2 e) h
    exact Or.inr ⟨_, e, h1, e1, e2⟩
  · exact Or.inl (fun k hk => h1 k (by omega))
theorem wcmp_ge {w : List Bool} {a b : Nat} (h : 0 ≤ wcmp w a b) : lex w.length (fun k => wc w (b + k)) (fun k => wc w (a + k)) := by
  obtain ⟨h1, h2, h3⟩ := unl_spec w a b
  by_cases e : unl w a b < w.length
  · unfold wcmp at h
    rw [if_pos e] at h
    obtain ⟨e1, e2⟩ := bi_le (Ne.symm (h2 e)) (by omega)
    exact Or.inr ⟨_, e, fun k hk => (h1 k hk).symm, e1, e2⟩
  · exact Or.inl (fun k hk => (h1 k (by omega)).symm)
theorem wcmp_neg {w : List Bool} {a b : Nat} : wcmp w a b < 0 ↔ unl w a b < w.length ∧ wc w (a + unl w a b) = false := by
  obtain ⟨h1, h2, h3⟩ := unl_spec w a b
  unfold wcmp
  by_cases e : unl w a b < w.length
  · rw [if_pos e]
    have h4 := h2 e
    revert h4
    show wc w (a + unl w a b) ≠ wc w (b + unl w a b) → (bi (wc w (a + unl w a b)) - bi (wc w (b + unl w a b)) < 0 ↔ _ ∧ wc w (a + unl w a b) = false)
    generalize wc w (a + unl w a b) = p
    generalize wc w (b + unl w a b) = q
    cases p <;> cases q <;> simp [bi, e]
  · rw [if_neg e]
    simp [e]
theorem wLeastN_min (w : List Bool) (m : Nat) : ∀ j, j ≤ m → lex w.length (fun k => wc w (wLeastN w m + k)) (fun k => wc w (j + k)) := by
  induction m with
  | zero =>
    intro j hj
    have : j = 0 := by omega
    subst this
    exact lex.rf
  | succ m ih =>
    intro j hj
    show lex w.length (fun k => wc w ((if wcmp w (m + 1) (wLeastN w m) < 0 then m + 1 else wLeastN w m) + k)) _
    split
    · rename_i h
      by_cases e : j = m + 1
      · subst e; exact lex.rf
      · exact (wcmp_le (by omega)).tr (ih j (by omega))
    · rename_i h
      by_cases e : j = m + 1
      · subst e; exact wcmp_ge (by omega)
      · exact ih j (by omega)
theorem wLeast_lt {w : List Bool} (h : 0 < w.length) : wLeast w < w.length := by
  have := wLeastN_le w (w.length - 1)
  unfold wLeast
  omega
theorem wLeast_min {w : List Bool} (h : 0 < w.length) (j : Nat) : lex w.length (fun k => wc w (wLeast w + k)) (fun k => wc w (j + k)) := by
  have h1 := wLeastN_min w (w.length - 1) (j % w.length) (by have := Nat.mod_lt j h; omega)
  have e : (fun k => wc w (j % w.length + k)) = (fun k => wc w (j + k)) := by
    funext k
    exact wc_mod w j k
  rw [e] at h1
  exact h1
theorem wc_add_len (w : List Bool) (k : Nat) : wc w (k + w.length) = wc w k := by
  unfold wc
  rw [Nat.add_mod_right]
theorem wc_lt {w : List Bool} {k : Nat} (h : k < w.length) : wc w k = wl w k := by
  unfold wc
  rw [Nat.mod_eq_of_lt h]
theorem wAlike_iff {u v : List Bool} (h : 0 < u.length) : wAlike u v = true ↔ u.length = v.length ∧ ∃ b, ∀ k, k < u.length → wc u (b + k) = wl v k := by
  have all : ∀ (p : Nat → Bool) (n : Nat), allN p n = true ↔ ∀ k, k < n → p k = true := by
    intro p n
    induction n with
    | zero => exact ⟨fun _ k hk => absurd hk (Nat.not_lt_zero _), fun _ => rfl⟩
    | succ n ih =>
      rw [allN_s, Bool.and_eq_true, ih]
      constructor
      · intro hh k hk
        by_cases e : k = n
        · rw [e]; exact hh.2
        · exact hh.1 k (by omega)
      · exact fun hh => ⟨fun k hk => hh k (by omega), hh n (by omega)⟩
  unfold wAlike wTurn
  rw [decide_eq_true_eq]
  have hs := fstN_spec (fun b => allN (fun k => wc u (b + k) == wl v k) u.length) u.length
  constructor
  · intro hh
    by_cases e : u.length = v.length ∧ wTurnN u v < u.length
    · refine ⟨e.1, wTurnN u v, fun k hk => ?_⟩
      have := (all _ _).mp (hs.2 e.2) k hk
      exact eq_of_beq this
    · rw [if_neg e] at hh
      exact absurd rfl hh
  · rintro ⟨e1, b, hb⟩
    have lt : wTurnN u v < u.length := by
      rcases Nat.lt_or_ge (wTurnN u v) u.length with q | q
      · exact q
      · have h2 := hs.1 (b % u.length) (Nat.lt_of_lt_of_le (Nat.mod_lt b h) q)
        have h3 : allN (fun k => wc u (b % u.length + k) == wl v k) u.length = true := (all _ _).mpr (fun k hk => by rw [wc_mod, hb k hk]; exact beq_self_eq_true _)
        rw [h3] at h2
        cases h2
    rw [if_pos ⟨e1, lt⟩]
    omega
theorem turned_eq {u v : List Bool} {a c : Nat} : wTurned u a = wTurned v c ↔ u.length = v.length ∧ ∀ k, k < u.length → wc u (k + a) = wc v (k + c) := by
  constructor
  · intro h
    have hl : u.length = v.length := by rw [← wTurned_len u a, h, wTurned_len]
    refine ⟨hl, fun k hk => ?_⟩
    rw [← wTurned_at u a hk, h, wTurned_at v c (by omega)]
  · rintro ⟨hl, h⟩
    apply w_ext (by rw [wTurned_len, wTurned_len, hl])
    intro k hk
    rw [wTurned_len] at hk
    rw [wTurned_at u a hk, wTurned_at v c (by omega), h k hk]
theorem least_alike {u v : List Bool} (hu : 0 < u.length) (hv : 0 < v.length) : wTurned u (wLeast u) = wTurned v (wLeast v) ↔ wAlike u v = true := by
  rw [turned_eq, wAlike_iff hu]
  constructor
  · rintro ⟨hl, h⟩
    refine ⟨hl, wLeast u + (v.length - wLeast v), fun k hk => ?_⟩
    have hc := wLeast_lt hv
    have per : ∀ k, wc u (k + wLeast u) = wc v (k + wLeast v) := by
      intro k
      have h1 : wc u (k + wLeast u) = wc u (k % u.length + wLeast u) := (wc_mod u k _).symm
      have h2 : wc v (k + wLeast v) = wc v (k % v.length + wLeast v) := (wc_mod v k _).symm
      rw [h1, h2, ← hl]
      exact h _ (Nat.mod_lt _ hu)
    have := per (k + (v.length - wLeast v))
    rw [show k + (v.length - wLeast v) + wLeast v = k + v.length by omega, wc_add_len, wc_lt (w := v) (k := k) (by omega)] at this
    rw [← this]
    exact congrArg (wc u) (by omega)
  · rintro ⟨hl, b, hb⟩
    refine ⟨hl, fun k hk => ?_⟩
    have sv : ∀ j, (fun k => wc v (j + k)) = (fun k => wc u (b + j + k)) := by
      intro j
      funext k
      have h1 := hb ((j + k) % u.length) (Nat.mod_lt _ hu)
      have h2 : wc v (j + k) = wl v ((j + k) % u.length) := by unfold wc; rw [hl]
      rw [h2, ← h1, Nat.add_comm b, wc_mod, Nat.add_comm _ b, Nat.add_assoc]
    have m1 := wLeast_min hu (b + wLeast v)
    have m2 := wLeast_min hv (wLeast u + (u.length - b % u.length))
    rw [sv, sv, ← hl] at m2
    have e3 : (fun k => wc u (b + (wLeast u + (u.length - b % u.length)) + k)) = (fun k => wc u (wLeast u + k)) := by
      funext k
      have hb2 := Nat.mod_lt b hu
      have hb3 := Nat.div_add_mod b u.length
      unfold wc
      have : b + (wLeast u + (u.length - b % u.length)) + k = (wLeast u + k) + u.length * (b / u.length + 1) := by
        rw [Nat.mul_add, Nat.mul_one]
        omega
      rw [this, Nat.add_mul_mod_self_left]
    rw [e3] at m2
    have := m1.anti m2 k hk
    rw [Nat.add_comm k, Nat.add_comm k]
    have e4 := congrFun (sv (wLeast v)) k
    rw [e4]
    exact this
