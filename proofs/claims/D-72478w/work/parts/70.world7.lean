/-! maths of what is told of all; drawn roads -/
set_option maxRecDepth 100000
theorem sumN_swap (f : Nat → Nat → Int) (n : Nat) : ∀ m, sumN (fun i => sumN (fun j => f i j) m) n = sumN (fun j => sumN (fun i => f i j) n) m := by
  intro m
  induction m with
  | zero =>
    show sumN (fun i => 0) n = 0
    exact sumN_0
  | succ m ih =>
    show sumN (fun i => sumN (fun j => f i j) m + f i m) n = sumN (fun j => sumN (fun i => f i j) n) m + sumN (fun i => f i m) n
    rw [sumN_add, ih]
theorem crossT_comm (u v : List Bool) (i j : Nat) : crossT u v i j = crossT v u j i := by
  unfold crossT
  rw [Nat.mul_comm]
  congr 1
  exact fstN_congr (fun k _ => bne_comm)
theorem isX_comm {u v : List Bool} {i j : Nat} (hi : i < u.length) (hj : j < v.length) : isX u v i j = isX v u j i := by
  unfold isX
  by_cases hne : wl u i = wl v j
  · rw [hne]; simp
  · have hd := fstN_spec (fun t => wb u i (t + 1) != wb v j (t + 1)) (u.length * v.length)
    have hlt : fstN (fun t => wb u i (t + 1) != wb v j (t + 1)) (u.length * v.length) < u.length * v.length := by
      rcases Nat.lt_or_ge (fstN (fun t => wb u i (t + 1) != wb v j (t + 1)) (u.length * v.length)) (u.length * v.length) with q | q
      · exact q
      · have hp : 0 < u.length * v.length := Nat.mul_pos (by omega) (by omega)
        have h3 := hd.1 (u.length * v.length - 1) (by omega)
        rw [show u.length * v.length - 1 + 1 = u.length * v.length by omega] at h3
        have h4 := bne_eq_false_iff_eq.mp h3
        rw [wb_wrap u hi, Nat.mul_comm, wb_wrap v hj] at h4
        exact absurd h4 hne
    have h5 : wb u i (crossT u v i j) ≠ wb v j (crossT u v i j) := bne_iff_ne.mp (hd.2 hlt)
    rw [← crossT_comm u v i j]
    generalize crossT u v i j = t at h5
    revert h5 hne
    generalize wl u i = a
    generalize wl v j = b
    generalize wb u i t = c
    generalize wb v j t = d
    cases a <;> cases b <;> cases c <;> cases d <;> simp
theorem sCross_comm (u v : List Bool) : sCross u v = sCross v u := by
  unfold sCross
  rw [sumN_swap (fun i j => bi (isX u v i j)) u.length v.length]
  exact sumN_congr (fun j hj => sumN_congr (fun i hi => by rw [isX_comm hi hj]))
theorem wAlike_comm {u v : List Bool} (hu : 0 < u.length) (hv : 0 < v.length) : wAlike u v = wAlike v u := by
  rw [Bool.eq_iff_iff, ← least_alike hu hv, ← least_alike hv hu]
  exact eq_comm
/-- the road ahead of the n-th that is drawn -/
def wW (s : Int) : Nat → List Bool
  | 0 => [false]
  | n + 1 => wD s n
theorem wW_len (s : Int) (n : Nat) : 0 < (wW s n).length ∧ (wW s n).length ≤ 20 := by
  cases n with
  | zero => exact (by decide : 0 < ([false] : List Bool).length ∧ ([false] : List Bool).length ≤ 20)
  | succ n => show 0 < (dW _).length ∧ (dW _).length ≤ 20; rw [dW_len]; decide
theorem wD_len (s : Int) (n : Nat) : 0 < (wD s n).length ∧ (wD s n).length ≤ 20 := by
  show 0 < (dW _).length ∧ (dW _).length ≤ 20; rw [dW_len]; decide
theorem crD_eq (s : Int) (n : Nat) : crD s n = if wClosed (wD s n) = true ∧ wClosed (wW s n) = true then sCross (wW s n) (wD s n) else 0 := by
  unfold crD
  cases n with
  | zero =>
    rw [if_neg (fun q => by have q2 : false = true := q.2; cases q2), if_neg (fun q => by have q2 : wClosed [false] = true := q.2; exact absurd q2 (by decide))]
  | succ n =>
    show (if wClosed (wD s (n + 1)) = true ∧ wClosed (wD s n) = true then sCross (wD s (n + 1)) (wD s (n + 1 - 1)) else 0) = _
    rw [Nat.add_sub_cancel, sCross_comm]
    rfl
theorem mix1 (l : List Int) (v h : Int) : mixL (l ++ [v]) h = 31 * mixL l h + w32 v := by
  rw [mixL_app]
  rfl
theorem mixR (a : List Int) (f : Nat → Int) (k : Nat) (h : Int) : mixL (a ++ rowL f (k + 1)) h = 31 * mixL (a ++ rowL f k) h + w32 (f k) := by
  rw [rowL_s, ← List.append_assoc, mix1]
theorem and_bi (a b : Bool) : iI (bi a) &&& iI (bi b) = iI (bi (a && b)) := by cases a <;> cases b <;> decide
theorem r_andB {Z : ZC} {y : MethodName} {cc : ByteArray} {nL : Nat} {rt : Option FieldType} {R : Room} {Γ : Gh → Prop} {n s pc : Nat} {lv : List (Option Value)} {st : List Value} {a b : Bool} (C : CC Z y cc nL rt R) (d : decode cc pc = .ok (.iand, 1)) (k : WW Z nL Γ n s (pc + 1) lv (.int (iI (bi (a && b))) :: st)) : WW Z nL Γ n s pc lv (.int (iI (bi b)) :: .int (iI (bi a)) :: st) := r_iand C d (by rw [and_bi]; exact k)
/-- a road that is looked at and forgotten -/
theorem ROAD.frz {G : Gh} {xh a : Nat} {w : List Bool} (h : ROAD G xh a 12 w) : ∃ G', (ROAD G' xh a 0 w ∧ FR [12] G G') ∧ ∀ c q, G' c = some q → ∃ t, G c = some (t, q.2) ∧ (q.1 ≠ 0 → t ≠ 0) := by
  obtain ⟨s, tb, h1, h2, h3⟩ := h
  have f1 : FR [12] G (gup G a (0, .inl (4, [.ref s, .ref tb, .ref xh]))) := FR.up h1 (by decide) 0
  refine ⟨gup G a (0, .inl (4, [.ref s, .ref tb, .ref xh])), ⟨⟨s, tb, gup_eq _ _ _, h2.fr f1 (by decide), h3.fr f1 (by decide)⟩, f1⟩, ?_⟩
  intro c q hc
  by_cases e : c = a
  · subst e
    rw [gup_eq] at hc
    cases hc
    exact ⟨12, h1, fun h => absurd rfl h⟩
  · rw [gup_ne _ _ e] at hc
    exact ⟨q.1, hc, fun h => h⟩
