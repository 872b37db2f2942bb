/-! SPECIFICATION, on: what is told of forms and cycles -/
set_option maxRecDepth 100000
theorem sumN_0 {n : Nat} : sumN (fun _ => 0) n = 0 := by
  induction n with
  | zero => rfl
  | succ n ih => show sumN _ n + 0 = 0; rw [ih]; rfl
theorem sumN_add (f g : Nat → Int) (n : Nat) : sumN (fun k => f k + g k) n = sumN f n + sumN g n := by
  induction n with
  | zero => rfl
  | succ n ih => show sumN _ n + (f n + g n) = (sumN f n + f n) + (sumN g n + g n); rw [ih]; omega
theorem sumN_one (g : Nat → Int) (x : Nat) : ∀ n, sumN (fun j => if x = j then g j else 0) n = if x < n then g x else 0 := by
  intro n
  induction n with
  | zero => rw [if_neg (by omega)]; rfl
  | succ n ih =>
    show sumN _ n + (if x = n then g n else 0) = _
    rw [ih]
    by_cases e : x = n
    · subst e; rw [if_neg (by omega), if_pos rfl, if_pos (by omega)]; omega
    · rw [if_neg e]
      by_cases e2 : x < n
      · rw [if_pos e2, if_pos (by omega)]; omega
      · rw [if_neg e2, if_neg (by omega)]; rfl
/-- a sum along a cycle -/
theorem sum_orb {nx : Nat → Nat} {n k : Nat} (h : isPerm nx n) (hk : k < n) (g : Nat → Int) : ∀ i, i ≤ per nx n k → sumN (fun j => if mrk nx k i j then g j else 0) n = sumN (fun t => g (it nx t k)) i := by
  intro i
  induction i with
  | zero =>
    intro _
    rw [show (fun j => if mrk nx k 0 j = true then g j else 0) = fun _ => (0 : Int) from funext fun j => by rw [mrk_0]; rfl]
    exact sumN_0
  | succ i ih =>
    intro hi
    have hno : mrk nx k i (it nx i k) = false := by
      rw [Bool.eq_false_iff]
      intro q
      obtain ⟨t, t1, t2⟩ := mrk_iff.mp q
      exact it_ne h hk t1 (by omega) t2
    have e : (fun j => if mrk nx k (i + 1) j = true then g j else 0) = fun j => (if mrk nx k i j then g j else 0) + (if it nx i k = j then g j else 0) := by
      funext j
      rw [mrk_s]
      by_cases q : it nx i k = j
      · subst q; rw [hno]; simp
      · rw [decide_eq_false q, Bool.or_false, if_neg q, Int.add_zero]
    rw [e, sumN_add, ih (by omega), sumN_one, if_pos (it_lt h hk i)]
    rfl
theorem nof_no {l : List Fm} {f : Fm} (h : ¬ f ∈ l) : nof l f = NON := by
  unfold nof
  split
  · rename_i q
    have e := of_decide_eq_true ((fstN_spec (fun k => decide (fat l k = f)) l.length).2 q)
    exact absurd (e ▸ fat_mem q) h
  · rfl
abbrev nR (d : Int) : Nat := (fl d).length
abbrev nC (d : Int) : Nat := (rc d).2.length
abbrev fC (d : Int) (c : Nat) : Nat := (rc d).2.getD c 0
/-- the form at a place of a cycle -/
abbrev aC (d : Int) (c i : Nat) : Nat := it (nxt (fl d)) i (fC d c)
abbrev pC (d : Int) (c : Nat) : Nat := per (nxt (fl d)) (nR d) (fC d c)
/-- a cycle's word -/
def wC (d : Int) (c : Nat) : List Bool := (List.range (pC d c)).map (fun i => !fLeft (fat (fl d) (aC d c i)))
theorem wC_len (d : Int) (c : Nat) : (wC d c).length = pC d c := by simp [wC]
theorem wC_at (d : Int) (c : Nat) {i : Nat} (h : i < pC d c) : wl (wC d c) i = !fLeft (fat (fl d) (aC d c i)) := by
  rw [wl_lt (by rw [wC_len]; exact h)]
  simp [wC]
theorem fC_lt {d : Int} (h : RivOK d) {c : Nat} (hc : c < nC d) : fC d c < nR d := (rc_I h).2.2.2.1 c hc
theorem nC_le {d : Int} (h : RivOK d) : nC d ≤ nR d := (rc_I h).2.2.2.2.2
theorem cy_iff {d : Int} (h : RivOK d) {c j : Nat} (hc : c < nC d) (hj : j < nR d) : (rc d).1 j = (c : Int) ↔ inOrb (nxt (fl d)) (nR d) (fC d c) j = true := (rc_I h).2.2.2.2.1 c j hc hj
theorem cy_i {d : Int} (h : RivOK d) {j : Nat} (hj : j < nR d) : (rc d).1 j ≠ NON ∧ ∃ c, c < nC d ∧ (rc d).1 j = (c : Int) := by
  have h1 := (rc_I h).2.1 j hj
  rcases (rc_I h).2.2.1 j hj with q | q
  · exact absurd q h1
  · exact ⟨h1, q⟩
theorem pC_b {d : Int} (h : RivOK d) {c : Nat} (hc : c < nC d) : 1 ≤ pC d c ∧ pC d c ≤ nR d := ⟨(per_spec (fl_perm h) (fC_lt h hc)).1, (per_spec (fl_perm h) (fC_lt h hc)).2.1⟩
/-- a count over all forms of a cycle is one along its word -/
theorem cnt_C {d : Int} (h : RivOK d) {c : Nat} (hc : c < nC d) (p : Nat → Bool) : cnt (fun k => decide ((rc d).1 k = (c : Int)) && p k) (nR d) = cnt (fun i => p (aC d c i)) (pC d c) := by
  unfold cnt
  rw [← sum_orb (fl_perm h) (fC_lt h hc) (fun j => bi (p j)) (pC d c) (Nat.le_refl _)]
  refine sumN_congr (fun k hk => ?_)
  have e : decide ((rc d).1 k = (c : Int)) = mrk (nxt (fl d)) (fC d c) (pC d c) k := by
    rw [Bool.eq_iff_iff, decide_eq_true_iff]
    exact cy_iff h hc hk
  show bi (decide ((rc d).1 k = (c : Int)) && p k) = _
  rw [e]
  cases mrk (nxt (fl d)) (fC d c) (pC d c) k <;> simp [bi]
theorem sumN_c (x : Int) (n : Nat) : sumN (fun _ => x) n = x * n := by
  induction n with
  | zero => simp [sumN]
  | succ n ih =>
    show sumN _ n + x = _
    rw [ih]; push_cast; rw [Int.mul_add]; omega
theorem size_C {d : Int} (h : RivOK d) {c : Nat} (hc : c < nC d) : cnt (fun k => decide ((rc d).1 k = (c : Int))) (nR d) = (wC d c).length := by
  have e := cnt_C h hc (fun _ => true)
  rw [show (fun k => decide ((rc d).1 k = (c : Int)) && true) = fun k => decide ((rc d).1 k = (c : Int)) from funext fun k => Bool.and_true _] at e
  rw [e, wC_len]
  show sumN (fun _ => bi true) _ = _
  rw [sumN_c]
  show 1 * _ = _
  omega
theorem lefts_C {d : Int} (h : RivOK d) {c : Nat} (hc : c < nC d) : cnt (fun k => decide ((rc d).1 k = (c : Int)) && fLeft (fat (fl d) k)) (nR d) = wLefts (wC d c) := by
  rw [cnt_C h hc]
  unfold wLefts
  rw [wC_len]
  exact cnt_congr (fun i hi => by rw [wC_at d c hi, Bool.not_not])
def sNow (d : Int) (k : Nat) (what : Int) : Int :=
  if what = 0 then (fat (fl d) k).1 else if what = 1 then (fat (fl d) k).2.1 else if what = 2 then (fat (fl d) k).2.2 else if what = 3 then (rc d).1 k
  else if what = 4 then (nxt (fl d) k : Int) else if what = 5 then (if fLeft (fat (fl d) k) then 76 else 82) else if what = 6 then nof (fl d) (backF (fat (fl d) k)) else nof (fl d) (mirrF (fat (fl d) k))
def sSimple (d f what : Int) : Int := if 0 ≤ f ∧ f ≤ (nR d : Int) - 1 then (if 0 ≤ what ∧ what ≤ 7 then sNow d f.toNat what else OUT) else UNK
def cTold (d : Int) (c : Nat) (what : Int) : Int :=
  if what = 0 then (fC d c : Int) else if what = 1 then ((wC d c).length : Int) else if what = 2 then wLefts (wC d c)
  else if what = 3 then (rc d).1 (ix (fl d) (backF (fat (fl d) (fC d c)))) else (rc d).1 (ix (fl d) (mirrF (fat (fl d) (fC d c))))
def sCycle (d c what : Int) : Int := if 0 ≤ c ∧ c ≤ (nC d : Int) - 1 then (if 0 ≤ what ∧ what ≤ 4 then cTold d c.toNat what else OUT) else UNK
def sStep (d c k : Int) : Int := if 0 ≤ c ∧ c ≤ (nC d : Int) - 1 then (if 0 ≤ k ∧ k ≤ ((wC d c.toNat).length : Int) - 1 then (if wl (wC d c.toNat) k.toNat then 82 else 76) else UNK) else UNK
/-- the trace by a number -/
def trS (m : Int) (s : Int × Int × Int × Int) (r : Bool) : Int × Int × Int × Int := if r then (s.1, (s.1 + s.2.1) % m, s.2.2.1, (s.2.2.1 + s.2.2.2) % m) else ((s.1 + s.2.1) % m, s.2.1, (s.2.2.1 + s.2.2.2) % m, s.2.2.2)
def trN (m : Int) (w : List Bool) : Nat → Int × Int × Int × Int
  | 0 => (1, 0, 0, 1)
  | i + 1 => trS m (trN m w i) (wl w i)
def trW (m : Int) (w : List Bool) : Int := ((trN m w w.length).1 + (trN m w w.length).2.2.2) % m
theorem trN_b {m : Int} (hm : 2 ≤ m) (w : List Bool) (i : Nat) : (0 ≤ (trN m w i).1 ∧ (trN m w i).1 < m) ∧ (0 ≤ (trN m w i).2.1 ∧ (trN m w i).2.1 < m) ∧ (0 ≤ (trN m w i).2.2.1 ∧ (trN m w i).2.2.1 < m) ∧ 0 ≤ (trN m w i).2.2.2 ∧ (trN m w i).2.2.2 < m := by
  induction i with
  | zero => exact ⟨⟨by show (0 : Int) ≤ 1; omega, by show (1 : Int) < m; omega⟩, ⟨by show (0 : Int) ≤ 0; omega, by show (0 : Int) < m; omega⟩, ⟨by show (0 : Int) ≤ 0; omega, by show (0 : Int) < m; omega⟩, by show (0 : Int) ≤ 1; omega, by show (1 : Int) < m; omega⟩
  | succ i ih =>
    obtain ⟨h1, h2, h3, h4⟩ := ih
    have b1 : 0 ≤ ((trN m w i).1 + (trN m w i).2.1) % m ∧ ((trN m w i).1 + (trN m w i).2.1) % m < m := ⟨Int.emod_nonneg _ (by omega), Int.emod_lt_of_pos _ (by omega)⟩
    have b2 : 0 ≤ ((trN m w i).2.2.1 + (trN m w i).2.2.2) % m ∧ ((trN m w i).2.2.1 + (trN m w i).2.2.2) % m < m := ⟨Int.emod_nonneg _ (by omega), Int.emod_lt_of_pos _ (by omega)⟩
    show _ ∧ _ ∧ _ ∧ _
    unfold trN trS
    split
    · exact ⟨h1, b1, h3, b2⟩
    · exact ⟨b1, h2, b2, h4⟩
def sTrace (d c m : Int) : Int := if 0 ≤ c ∧ c ≤ (nC d : Int) - 1 then (if 2 ≤ m ∧ m ≤ 1000 then trW m (wC d c.toNat) else OUT) else UNK
def sLay (ws : Wss) (d c : Int) : Int × Wss := if 0 ≤ c ∧ c ≤ (nC d : Int) - 1 then sCome ws (wC d c.toNat) else (UNK, ws)
def sWhere (ws : Wss) (d r : Int) : Int := if 0 ≤ r ∧ r ≤ (ws.length : Int) - 1 then (if wClosed (wsat ws r) = true ∧ 0 < d then nof (fl d) (wFa (wsat ws r), wFb (wsat ws r), wFc (wsat ws r)) else STA) else UNK
