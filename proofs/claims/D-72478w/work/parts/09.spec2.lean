/-! SPECIFICATION, on: tables, forms, crossings, the roads -/
abbrev tq : List Nat := [15, 16, 17, 18, 19, 20, 21, 22, 23, 24, 25, 26, 27, 28, 29, 30, 31, 32, 33, 34]
abbrev NON : Int := -2000000001
abbrev UNK : Int := -2000000101
abbrev OUT : Int := -2000000102
abbrev STA : Int := -2000000103
abbrev FUL : Int := -2000000104
theorem wOther_ff (w : List Bool) : wOther w false false = w := by
  unfold wOther
  rw [if_neg (by decide)]
  simp
/-- the state's table is that of w -/
def TabAt (st : MSt) (w : List Bool) : Prop := st.1 22 = (wTab w).1 ∧ st.1 23 = (wTab w).2.1 ∧ st.1 24 = (wTab w).2.2.1 ∧ st.1 25 = (wTab w).2.2.2
theorem wTab_b (w : List Bool) : (1 ≤ (wTab w).1 ∧ (wTab w).1 ≤ 2 ^ w.length) ∧ (0 ≤ (wTab w).2.1 ∧ (wTab w).2.1 ≤ 2 ^ w.length) ∧ (0 ≤ (wTab w).2.2.1 ∧ (wTab w).2.2.1 ≤ 2 ^ w.length) ∧ 1 ≤ (wTab w).2.2.2 ∧ (wTab w).2.2.2 ≤ 2 ^ w.length := by
  induction w with
  | nil => exact ⟨⟨by decide, by decide⟩, ⟨by decide, by decide⟩, ⟨by decide, by decide⟩, by decide, by decide⟩
  | cons x w ih =>
    obtain ⟨⟨a1, a2⟩, ⟨b1, b2⟩, ⟨c1, c2⟩, d1, d2⟩ := ih
    have e : wTab (x :: w) = if x then ((wTab w).1 + (wTab w).2.2.1, (wTab w).2.1 + (wTab w).2.2.2, (wTab w).2.2.1, (wTab w).2.2.2) else ((wTab w).1, (wTab w).2.1, (wTab w).2.2.1 + (wTab w).1, (wTab w).2.2.2 + (wTab w).2.1) := rfl
    have p : (2 : Int) ^ (x :: w).length = 2 ^ w.length + 2 ^ w.length := by
      rw [List.length_cons, Int.pow_succ]; omega
    rw [e, p]
    cases x with
    | true => exact ⟨⟨by show 1 ≤ _ + _; omega, by show _ + _ ≤ _; omega⟩, ⟨by show 0 ≤ _ + _; omega, by show _ + _ ≤ _; omega⟩, ⟨by show 0 ≤ (wTab w).2.2.1; omega, by show (wTab w).2.2.1 ≤ _; omega⟩, by show 1 ≤ (wTab w).2.2.2; omega, by show (wTab w).2.2.2 ≤ _; omega⟩
    | false => exact ⟨⟨by show 1 ≤ (wTab w).1; omega, by show (wTab w).1 ≤ _; omega⟩, ⟨by show 0 ≤ (wTab w).2.1; omega, by show (wTab w).2.1 ≤ _; omega⟩, ⟨by show 0 ≤ _ + _; omega, by show _ + _ ≤ _; omega⟩, by show 1 ≤ _ + _; omega, by show _ + _ ≤ _; omega⟩
theorem wTab_20 {w : List Bool} (h : w.length ≤ 20) : (1 ≤ (wTab w).1 ∧ (wTab w).1 ≤ 1048576) ∧ (0 ≤ (wTab w).2.1 ∧ (wTab w).2.1 ≤ 1048576) ∧ (0 ≤ (wTab w).2.2.1 ∧ (wTab w).2.2.1 ≤ 1048576) ∧ 1 ≤ (wTab w).2.2.2 ∧ (wTab w).2.2.2 ≤ 1048576 := by
  have p : (2 : Int) ^ w.length ≤ 1048576 := by
    have h1 : ∀ n : Nat, n < 21 → (2 : Int) ^ n ≤ 1048576 := by decide +kernel
    exact h1 _ (by omega)
  obtain ⟨⟨a1, a2⟩, ⟨b1, b2⟩, ⟨c1, c2⟩, d1, d2⟩ := wTab_b w
  exact ⟨⟨a1, by omega⟩, ⟨b1, by omega⟩, ⟨c1, by omega⟩, d1, by omega⟩
/-- a word with a left letter has c > 0, one with a right letter b > 0 -/
theorem wTab_L {w : List Bool} (h : false ∈ w) : 1 ≤ (wTab w).2.2.1 := by
  induction w with
  | nil => cases h
  | cons x w ih =>
    have b := wTab_b w
    have e : wTab (x :: w) = if x then ((wTab w).1 + (wTab w).2.2.1, (wTab w).2.1 + (wTab w).2.2.2, (wTab w).2.2.1, (wTab w).2.2.2) else ((wTab w).1, (wTab w).2.1, (wTab w).2.2.1 + (wTab w).1, (wTab w).2.2.2 + (wTab w).2.1) := rfl
    rw [e]
    cases x with
    | true =>
      show 1 ≤ (wTab w).2.2.1
      exact ih (by simpa using h)
    | false =>
      show 1 ≤ (wTab w).2.2.1 + (wTab w).1
      omega
theorem wTab_R {w : List Bool} (h : true ∈ w) : 1 ≤ (wTab w).2.1 := by
  induction w with
  | nil => cases h
  | cons x w ih =>
    have b := wTab_b w
    have e : wTab (x :: w) = if x then ((wTab w).1 + (wTab w).2.2.1, (wTab w).2.1 + (wTab w).2.2.2, (wTab w).2.2.1, (wTab w).2.2.2) else ((wTab w).1, (wTab w).2.1, (wTab w).2.2.1 + (wTab w).1, (wTab w).2.2.2 + (wTab w).2.1) := rfl
    rw [e]
    cases x with
    | false =>
      show 1 ≤ (wTab w).2.1
      exact ih (by simpa using h)
    | true =>
      show 1 ≤ (wTab w).2.1 + (wTab w).2.2.2
      omega
theorem cnt_pos {p : Nat → Bool} {n : Nat} (h : 0 < cnt p n) : ∃ k, k < n ∧ p k = true := by
  induction n with
  | zero => exact absurd h (by simp [cnt, sumN])
  | succ n ih =>
    rw [cnt_s] at h
    by_cases e : p n = true
    · exact ⟨n, by omega, e⟩
    · have e2 : p n = false := by simpa using e
      rw [e2] at h
      obtain ⟨k, h1, h2⟩ := ih (by simpa [bi] using h)
      exact ⟨k, by omega, h2⟩
theorem cnt_lt {p : Nat → Bool} {n : Nat} (h : cnt p n < n) : ∃ k, k < n ∧ p k = false := by
  induction n with
  | zero => exact absurd h (by simp [cnt, sumN])
  | succ n ih =>
    rw [cnt_s] at h
    by_cases e : p n = false
    · exact ⟨n, by omega, e⟩
    · have e2 : p n = true := by simpa using e
      rw [e2] at h
      have h3 : bi true = 1 := rfl
      obtain ⟨k, h1, h2⟩ := ih (by omega)
      exact ⟨k, by omega, h2⟩
theorem wClosed_t {w : List Bool} (h : wClosed w = true) : 1 ≤ (wTab w).2.1 ∧ 1 ≤ (wTab w).2.2.1 := by
  unfold wClosed at h
  have h := of_decide_eq_true h
  obtain ⟨h1, h2⟩ := h
  obtain ⟨k, k1, k2⟩ := cnt_pos h1
  obtain ⟨j, j1, j2⟩ := cnt_lt h2
  refine ⟨wTab_R ?_, wTab_L ?_⟩
  · have : w[j] = true := by
      have := wl_lt j1
      rw [this] at j2
      simpa using j2
    rw [← this]
    exact List.getElem_mem j1
  · have : w[k] = false := by
      have := wl_lt k1
      rw [this] at k2
      simpa using k2
    rw [← this]
    exact List.getElem_mem k1
/-- the form of a closed word -/
def wG (w : List Bool) : Int := ((Int.gcd ((Int.gcd (wTab w).2.2.1 ((wTab w).2.2.2 - (wTab w).1) : Nat) : Int) (wTab w).2.1 : Nat) : Int)
def wFa (w : List Bool) : Int := (wTab w).2.2.1.tdiv (wG w)
def wFb (w : List Bool) : Int := ((wTab w).2.2.2 - (wTab w).1).tdiv (wG w)
def wFc (w : List Bool) : Int := (-(wTab w).2.1).tdiv (wG w)
theorem igcd_le {a b : Int} (h : a ≠ 0) : 1 ≤ ((Int.gcd a b : Nat) : Int) ∧ ((Int.gcd a b : Nat) : Int) ≤ a.natAbs := by
  have h1 : 0 < Int.gcd a b := by
    rcases Nat.eq_zero_or_pos (Int.gcd a b) with h0 | h0
    · exact absurd (Int.gcd_eq_zero_iff.mp h0).1 h
    · exact h0
  have h2 : Int.gcd a b ≤ a.natAbs := Nat.le_of_dvd (by omega) (Int.gcd_dvd_natAbs_left a b)
  omega
theorem wG_b {w : List Bool} (hw : w.length ≤ 20) (h : wClosed w = true) : 1 ≤ wG w ∧ wG w ≤ 1048576 := by
  have hb := wTab_20 hw
  have hc := wClosed_t h
  have h1 := igcd_le (a := (wTab w).2.2.1) (b := (wTab w).2.2.2 - (wTab w).1) (by omega)
  have h2 := igcd_le (a := ((Int.gcd (wTab w).2.2.1 ((wTab w).2.2.2 - (wTab w).1) : Nat) : Int)) (b := (wTab w).2.1) (by omega)
  unfold wG
  omega
def fTold (w : List Bool) (what : Int) : Int := if what = 0 then wFa w else if what = 1 then wFb w else if what = 2 then wFc w else if what = 3 then wG w else wFb w * wFb w - 4 * wFa w * wFc w
def tTold (w : List Bool) (what : Int) : Int := if what = 0 then (wTab w).1 else if what = 1 then (wTab w).2.1 else if what = 2 then (wTab w).2.2.1 else (wTab w).2.2.2
def eTold (w : List Bool) (what : Int) : Int := if what = 0 then (wTab w).1 + (wTab w).2.1 else (wTab w).2.2.1 + (wTab w).2.2.2
/-- a word read backwards from a place -/
def wb (w : List Bool) (i t : Nat) : Bool := wl w (((i : Int) - t) % (w.length : Int)).toNat
def crossT (u v : List Bool) (i j : Nat) : Nat := fstN (fun t => wb u i (t + 1) != wb v j (t + 1)) (u.length * v.length) + 1
def isX (u v : List Bool) (i j : Nat) : Bool := (wl u i != wl v j) && (wb u i (crossT u v i j) == wl v j)
def sCross (u v : List Bool) : Int := sumN (fun i => sumN (fun j => bi (isX u v i j)) v.length) u.length
/-! the roads -/
def RoadsAre (st : MSt) (ws : List (List Bool)) : Prop := st.1 2 = ws.length ∧ ws.length ≤ 6 ∧ ∀ r : Nat, r < ws.length → RoadIs st r (ws.getD r [])
abbrev wsat (ws : List (List Bool)) (r : Int) : List Bool := ws.getD r.toNat []
theorem RoadsAre.x {ks : List Nat} {st st' : MSt} {ws : List (List Bool)} (h : RoadsAre st ws) (e : eqx ks st st') (h2 : 2 ∉ ks) (h3 : 3 ∉ ks) (h4 : 4 ∉ ks) : RoadsAre st' ws := ⟨(e 2 h2).1.trans h.1, h.2.1, fun r hr => (h.2.2 r hr).x e h3 h4⟩
theorem RoadsAre.at {st : MSt} {ws : List (List Bool)} {r : Int} (h : RoadsAre st ws) (hr : 0 ≤ r ∧ r ≤ (ws.length : Int) - 1) : RoadIs st r (wsat ws r) ∧ (0 ≤ r ∧ r < 6) := by
  have h1 := h.2.2 r.toNat (by omega)
  rw [Int.toNat_of_nonneg hr.1] at h1
  exact ⟨h1, by have := h.2.1; omega⟩
def isR (ws : List (List Bool)) (r : Int) : Prop := 0 ≤ r ∧ r ≤ (ws.length : Int) - 1
def sRoad (ws : List (List Bool)) (r what : Int) : Int := if 0 ≤ r ∧ r ≤ (ws.length : Int) - 1 then (if 0 ≤ what ∧ what ≤ 9 then wTold (wsat ws r) what else OUT) else UNK
def sSign (ws : List (List Bool)) (r k : Int) : Int := if 0 ≤ r ∧ r ≤ (ws.length : Int) - 1 then (if 0 ≤ k ∧ k ≤ ((wsat ws r).length : Int) - 1 then (if wl (wsat ws r) k.toNat then 82 else 76) else UNK) else UNK
def sTable (ws : List (List Bool)) (r what : Int) : Int := if 0 ≤ r ∧ r ≤ (ws.length : Int) - 1 then (if 0 ≤ what ∧ what ≤ 3 then tTold (wsat ws r) what else OUT) else UNK
def sForm (ws : List (List Bool)) (r what : Int) : Int := if 0 ≤ r ∧ r ≤ (ws.length : Int) - 1 then (if 0 ≤ what ∧ what ≤ 4 then (if wClosed (wsat ws r) then fTold (wsat ws r) what else STA) else OUT) else UNK
def sEnd (ws : List (List Bool)) (r what : Int) : Int := if 0 ≤ r ∧ r ≤ (ws.length : Int) - 1 then (if 0 ≤ what ∧ what ≤ 1 then eTold (wsat ws r) what else OUT) else UNK
def sAlike (ws : List (List Bool)) (r q : Int) : Int := if 0 ≤ r ∧ r ≤ (ws.length : Int) - 1 then (if 0 ≤ q ∧ q ≤ (ws.length : Int) - 1 then wTurn (wsat ws r) (wsat ws q) else UNK) else UNK
def sCr (ws : List (List Bool)) (r q : Int) : Int := if 0 ≤ r ∧ r ≤ (ws.length : Int) - 1 then (if 0 ≤ q ∧ q ≤ (ws.length : Int) - 1 then (if wClosed (wsat ws r) then (if wClosed (wsat ws q) then sCross (wsat ws r) (wsat ws q) else STA) else STA) else UNK) else UNK
