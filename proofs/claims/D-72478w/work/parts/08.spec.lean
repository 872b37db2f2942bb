/-! SPECIFICATION: what both sides compute; counting loops -/
theorem loopN (n : Nat) (P : Nat → Prop) (hs : ∀ i, i ≤ n → (i < n → P (i + 1)) → P i) : ∀ i, i ≤ n → P i :=
  ind_lt (fun i : Nat => n - i) (fun i => i ≤ n) P (fun i hi ih => hs i hi (fun h => ih (i + 1) h (by omega)))
theorem r_tcase {Z : ZC} {nL : Nat} {Γ : Gh → Prop} {n s pc : Nat} {lv : List (Option Value)} {sk : List Value} {a : Int} (c : Int) (kt : a = c → WW Z nL Γ n s pc lv (.int (iI a) :: sk)) (kf : a ≠ c → WW Z nL Γ n s pc lv (.int (iI a) :: sk)) : WW Z nL Γ n s pc lv (.int (iI a) :: sk) := by
  by_cases h : a = c
  · exact kt h
  · exact kf h
def bi (b : Bool) : Int := if b then 1 else 0
theorem bi_c (b : Bool) : bi b = 0 ∨ bi b = 1 := by cases b <;> simp [bi]
theorem bi_0 {b : Bool} : bi b = 0 ↔ b = false := by cases b <;> simp [bi]
theorem bi_1 {b : Bool} : bi b = 1 ↔ b = true := by cases b <;> simp [bi]
theorem bi_inj {a b : Bool} : bi a = bi b ↔ a = b := by cases a <;> cases b <;> simp [bi]
/-- a word's letter, false: L, true: R -/
abbrev wl (w : List Bool) (j : Nat) : Bool := w.getD j false
/-- its letter, turned round -/
abbrev wc (w : List Bool) (j : Nat) : Bool := w.getD (j % w.length) false
def sumN (f : Nat → Int) : Nat → Int
  | 0 => 0
  | n + 1 => sumN f n + f n
/-- how many below n -/
def cnt (p : Nat → Bool) (n : Nat) : Int := sumN (fun k => bi (p k)) n
theorem cnt_s (p : Nat → Bool) (n : Nat) : cnt p (n + 1) = cnt p n + bi (p n) := rfl
theorem cnt_b (p : Nat → Bool) (n : Nat) : 0 ≤ cnt p n ∧ cnt p n ≤ n := by
  induction n with
  | zero => exact ⟨Int.le_refl _, Int.le_refl _⟩
  | succ n ih =>
    rw [cnt_s]
    rcases bi_c (p n) with h | h <;> rw [h] <;> omega
theorem sumN_congr {f g : Nat → Int} {n : Nat} (h : ∀ k, k < n → f k = g k) : sumN f n = sumN g n := by
  induction n with
  | zero => rfl
  | succ n ih =>
    show sumN f n + f n = sumN g n + g n
    rw [ih (fun k hk => h k (by omega)), h n (by omega)]
theorem cnt_congr {p q : Nat → Bool} {n : Nat} (h : ∀ k, k < n → p k = q k) : cnt p n = cnt q n := sumN_congr (fun k hk => by rw [h k hk])
/-- the first place below n, n if there is none -/
def fstN (p : Nat → Bool) : Nat → Nat
  | 0 => 0
  | n + 1 => if fstN p n < n then fstN p n else if p n then n else n + 1
theorem fstN_le (p : Nat → Bool) (n : Nat) : fstN p n ≤ n := by
  induction n with
  | zero => exact Nat.le_refl _
  | succ n ih =>
    unfold fstN
    split
    · omega
    · split <;> omega
theorem fstN_eq {p : Nat → Bool} {n i : Nat} (hi : i ≤ n) (h : ∀ j, j < i → p j = false) (he : i < n → p i = true) : fstN p n = i := by
  induction n with
  | zero =>
    have : i = 0 := by omega
    rw [this]; rfl
  | succ n ih =>
    unfold fstN
    by_cases hn : i ≤ n
    · by_cases e : i = n
      · subst e
        have h1 : fstN p i = i := ih (Nat.le_refl _) (fun h => by omega)
        rw [h1, if_neg (by omega), if_pos (he (by omega))]
      · have h1 : fstN p n = i := ih hn (fun h => he (by omega))
        rw [h1, if_pos (by omega)]
    · have e : i = n + 1 := by omega
      subst e
      have h1 : fstN p n = n := by
        have : ∀ m, m ≤ n → fstN p m = m := by
          intro m
          induction m with
          | zero => intro _; rfl
          | succ m ih2 =>
            intro hm
            unfold fstN
            rw [ih2 (by omega), if_neg (by omega), if_neg (by rw [h m (by omega)]; decide)]
        exact this n (Nat.le_refl _)
      rw [h1, if_neg (by omega), if_neg (by rw [h n (by omega)]; decide)]
theorem fstN_spec (p : Nat → Bool) (n : Nat) : (∀ j, j < fstN p n → p j = false) ∧ (fstN p n < n → p (fstN p n) = true) := by
  induction n with
  | zero => exact ⟨fun j h => absurd h (Nat.not_lt_zero _), fun h => absurd h (Nat.not_lt_zero _)⟩
  | succ n ih =>
    unfold fstN
    split
    · rename_i h
      exact ⟨ih.1, fun _ => ih.2 h⟩
    · rename_i h
      have e : fstN p n = n := by have := fstN_le p n; omega
      split
      · rename_i h2
        exact ⟨fun j hj => ih.1 j (by omega), fun _ => h2⟩
      · rename_i h2
        refine ⟨fun j hj => ?_, fun h => by omega⟩
        by_cases e2 : j = n
        · subst e2; simpa using h2
        · exact ih.1 j (by omega)
theorem fstN_congr {p q : Nat → Bool} {n : Nat} (h : ∀ k, k < n → p k = q k) : fstN p n = fstN q n := by
  induction n with
  | zero => rfl
  | succ n ih =>
    unfold fstN
    rw [ih (fun k hk => h k (by omega)), h n (by omega)]
/-! the reference's state -/
/-- all but these fields stay -/
def eqx (ks : List Nat) (st st' : MSt) : Prop := ∀ k, k ∉ ks → st'.1 k = st.1 k ∧ st'.2 k = st.2 k
theorem eqx.rf {ks : List Nat} {st : MSt} : eqx ks st st := fun _ _ => ⟨rfl, rfl⟩
theorem eqx.tr {ks : List Nat} {a b c : MSt} (h1 : eqx ks a b) (h2 : eqx ks b c) : eqx ks a c := fun k hk => ⟨(h2 k hk).1.trans (h1 k hk).1, (h2 k hk).2.trans (h1 k hk).2⟩
theorem eqx.wk {ks ls : List Nat} {a b : MSt} (h : eqx ks a b) (hs : ∀ k, k ∈ ks → k ∈ ls) : eqx ls a b := fun k hk => h k (fun h2 => hk (hs k h2))
theorem eqx.iput {ks : List Nat} {a b : MSt} {k : Nat} {z : Int} (h : eqx ks a b) (hk : k ∈ ks) : eqx ks a (iput b k z) := fun j hj => ⟨(show (if j = k then z else b.1 j) = _ by rw [if_neg (fun (e : j = k) => hj (e ▸ hk))]; exact (h j hj).1), (h j hj).2⟩
theorem eqx.aput {ks : List Nat} {a b : MSt} {k : Nat} {i z : Int} (h : eqx ks a b) (hk : k ∈ ks) : eqx ks a (aput b k i z) := fun j hj => ⟨(h j hj).1, by
  rw [← (h j hj).2]
  funext x
  show (if j = k ∧ x = i then z else b.2 j x) = _
  rw [if_neg (fun (e : j = k ∧ x = i) => hj (e.1 ▸ hk))]⟩
theorem iput_eq (st : MSt) (k : Nat) (z : Int) : (iput st k z).1 k = z := if_pos rfl
theorem iput_ne (st : MSt) {k j : Nat} (z : Int) (h : j ≠ k) : (iput st k z).1 j = st.1 j := if_neg h
theorem iput_2 (st : MSt) (k : Nat) (z : Int) : (iput st k z).2 = st.2 := rfl
theorem aput_1 (st : MSt) (k : Nat) (i z : Int) : (aput st k i z).1 = st.1 := rfl
theorem aput_eq (st : MSt) (k : Nat) (i z : Int) : (aput st k i z).2 k i = z := if_pos ⟨rfl, rfl⟩
theorem aput_nk (st : MSt) {k q : Nat} (i z : Int) (h : q ≠ k) : (aput st k i z).2 q = st.2 q := by
  funext x
  exact if_neg (fun e => h e.1)
theorem aput_nj (st : MSt) (k : Nat) {i j : Int} (z : Int) (h : j ≠ i) : (aput st k i z).2 k j = st.2 k j := if_neg (fun e => h e.2)
/-- the road r of the reference has the word w -/
def RoadIs (st : MSt) (r : Int) (w : List Bool) : Prop := st.2 3 r = w.length ∧ (0 < w.length ∧ w.length ≤ 20) ∧ ∀ j : Nat, j < w.length → st.2 4 (20 * r + j) = bi (wl w j)
/-- the word w is looked at -/
def LookAt (st : MSt) (w : List Bool) : Prop := st.1 18 = w.length ∧ (0 < w.length ∧ w.length ≤ 20) ∧ ∀ j : Nat, j < w.length → st.2 19 j = bi (wl w j)
/-- the word w is the other one -/
def OtherAt (st : MSt) (w : List Bool) : Prop := st.1 20 = w.length ∧ (0 < w.length ∧ w.length ≤ 20) ∧ ∀ j : Nat, j < w.length → st.2 21 j = bi (wl w j)
theorem LookAt.of {st st' : MSt} {w : List Bool} (h : LookAt st w) (h1 : st'.1 18 = st.1 18) (h2 : st'.2 19 = st.2 19) : LookAt st' w := ⟨h1.trans h.1, h.2.1, fun j hj => by rw [h2]; exact h.2.2 j hj⟩
theorem OtherAt.of {st st' : MSt} {w : List Bool} (h : OtherAt st w) (h1 : st'.1 20 = st.1 20) (h2 : st'.2 21 = st.2 21) : OtherAt st' w := ⟨h1.trans h.1, h.2.1, fun j hj => by rw [h2]; exact h.2.2 j hj⟩
theorem LookAt.x {ks : List Nat} {st st' : MSt} {w : List Bool} (h : LookAt st w) (e : eqx ks st st') (h1 : 18 ∉ ks) (h2 : 19 ∉ ks) : LookAt st' w := h.of (e 18 h1).1 (e 19 h2).2
theorem OtherAt.x {ks : List Nat} {st st' : MSt} {w : List Bool} (h : OtherAt st w) (e : eqx ks st st') (h1 : 20 ∉ ks) (h2 : 21 ∉ ks) : OtherAt st' w := h.of (e 20 h1).1 (e 21 h2).2
theorem RoadIs.x {ks : List Nat} {st st' : MSt} {r : Int} {w : List Bool} (h : RoadIs st r w) (e : eqx ks st st') (h1 : 3 ∉ ks) (h2 : 4 ∉ ks) : RoadIs st' r w := by
  obtain ⟨a, b, c⟩ := h
  exact ⟨by rw [(e 3 h1).2]; exact a, b, fun j hj => by rw [(e 4 h2).2]; exact c j hj⟩
/-! words -/
def wLefts (w : List Bool) : Int := cnt (fun k => !wl w k) w.length
def wClosed (w : List Bool) : Bool := decide (0 < wLefts w ∧ wLefts w < w.length)
/-- where two turns of a word are unlike first -/
def unl (w : List Bool) (a b : Nat) : Nat := fstN (fun k => wc w (a + k) != wc w (b + k)) w.length
def wcmp (w : List Bool) (a b : Nat) : Int := if unl w a b < w.length then bi (wc w (a + unl w a b)) - bi (wc w (b + unl w a b)) else 0
def wPeriod (w : List Bool) : Nat := fstN (fun k => unl w (k + 1) 0 == w.length) w.length + 1
def wLeastN (w : List Bool) : Nat → Nat
  | 0 => 0
  | m + 1 => if wcmp w (m + 1) (wLeastN w m) < 0 then m + 1 else wLeastN w m
def wLeast (w : List Bool) : Nat := wLeastN w (w.length - 1)
def allN (p : Nat → Bool) : Nat → Bool
  | 0 => true
  | n + 1 => allN p n && p n
/-- the least turn of w that is o, w.length if there is none -/
def wTurnN (w o : List Bool) : Nat := fstN (fun b => allN (fun k => wc w (b + k) == wl o k) w.length) w.length
def wTurn (w o : List Bool) : Int := if w.length = o.length ∧ wTurnN w o < w.length then wTurnN w o else -2000000001
def wOther (w : List Bool) (bk mr : Bool) : List Bool := (if bk then w.reverse else w).map (fun b => b != mr)
def wAlike (w o : List Bool) : Bool := decide (wTurn w o ≠ -2000000001)
/-- the table, from the right -/
def wTab : List Bool → Int × Int × Int × Int
  | [] => (1, 0, 0, 1)
  | x :: w => match wTab w with
    | (a, b, c, d) => if x then (a + c, b + d, c, d) else (a, b, c + a, d + b)
def wTrace (w : List Bool) : Int := (wTab w).1 + (wTab w).2.2.2
def wTold (w : List Bool) (what : Int) : Int :=
  if what = 0 then w.length else if what = 1 then wLefts w else if what = 2 then w.length - wLefts w else if what = 3 then wPeriod w
  else if what = 4 then wLeast w else if what = 5 then wTrace w else if what = 6 then bi (wClosed w)
  else if what = 7 then bi (wAlike w (wOther w true false)) else if what = 8 then bi (wAlike w (wOther w false true)) else bi (wAlike w (wOther w true true))
theorem LookAt.cyc {st : MSt} {w : List Bool} (h : LookAt st w) (h0 : 0 < w.length) (a k : Nat) : st.2 19 (((a : Int) + (k : Int)) % (w.length : Int)) = bi (wc w (a + k)) := by
  have e : ((a : Int) + (k : Int)) % (w.length : Int) = (((a + k) % w.length : Nat) : Int) := by push_cast; rfl
  rw [e, h.2.2 _ (Nat.mod_lt _ h0)]
theorem wc_mod (w : List Bool) (a k : Nat) : wc w (a % w.length + k) = wc w (a + k) := by
  unfold wc
  rw [Nat.mod_add_mod]
theorem unl_mod (w : List Bool) (a b : Nat) : unl w (a % w.length) b = unl w a b := by
  unfold unl
  exact fstN_congr (fun k _ => by rw [wc_mod])
theorem wcmp_mod (w : List Bool) (a b : Nat) : wcmp w (a % w.length) b = wcmp w a b := by
  unfold wcmp
  rw [unl_mod, wc_mod]
theorem wcmp_b (w : List Bool) (a b : Nat) : -1 ≤ wcmp w a b ∧ wcmp w a b ≤ 1 := by
  unfold wcmp
  split
  · rcases bi_c (wc w (a + unl w a b)) with h | h <;> rcases bi_c (wc w (b + unl w a b)) with h2 | h2 <;> rw [h, h2] <;> omega
  · omega
theorem wcmp_0 (w : List Bool) (a b : Nat) : wcmp w a b = 0 ↔ unl w a b = w.length := by
  unfold wcmp
  split
  · rename_i h
    have h2 := (fstN_spec (fun k => wc w (a + k) != wc w (b + k)) w.length).2 h
    simp only [bne_iff_ne] at h2
    constructor
    · intro h3
      exact absurd (bi_inj.mp (by omega : bi (wc w (a + unl w a b)) = bi (wc w (b + unl w a b)))) h2
    · intro h3; omega
  · rename_i h
    have := fstN_le (fun k => wc w (a + k) != wc w (b + k)) w.length
    constructor
    · intro _; unfold unl at *; omega
    · intro _; rfl
theorem wPeriod_b (w : List Bool) (h : 0 < w.length) : 1 ≤ wPeriod w ∧ wPeriod w ≤ w.length ∧ unl w (wPeriod w) 0 = w.length := by
  have hn : unl w (w.length - 1 + 1) 0 = w.length := by
    unfold unl
    refine fstN_eq (Nat.le_refl _) (fun j hj => ?_) (fun h => absurd h (Nat.lt_irrefl _))
    have : wc w (w.length - 1 + 1 + j) = wc w (0 + j) := by
      unfold wc
      rw [show w.length - 1 + 1 + j = j + w.length by omega, Nat.add_mod_right, Nat.zero_add]
    rw [this]; simp
  have hs := fstN_spec (fun k => unl w (k + 1) 0 == w.length) w.length
  have hlt : fstN (fun k => unl w (k + 1) 0 == w.length) w.length < w.length := by
    rcases Nat.lt_or_ge (fstN (fun k => unl w (k + 1) 0 == w.length) w.length) w.length with h1 | h1
    · exact h1
    · have h2 := hs.1 (w.length - 1) (by omega)
      simp only [beq_eq_false_iff_ne] at h2
      exact absurd hn h2
  refine ⟨by unfold wPeriod; omega, by unfold wPeriod; omega, ?_⟩
  have h3 := hs.2 hlt
  unfold wPeriod
  simpa using h3
theorem wPeriod_lt (w : List Bool) (k : Nat) (h1 : 1 ≤ k) (h2 : k < wPeriod w) : unl w k 0 ≠ w.length := by
  have hs := (fstN_spec (fun k => unl w (k + 1) 0 == w.length) w.length).1 (k - 1) (by unfold wPeriod at h2; omega)
  simp only [beq_eq_false_iff_ne] at hs
  rwa [show k - 1 + 1 = k by omega] at hs
theorem wPeriod_eq (w : List Bool) (k : Nat) (h0 : 0 < w.length) (h1 : 1 ≤ k) (h2 : ∀ j, 1 ≤ j → j < k → unl w j 0 ≠ w.length) (h3 : unl w k 0 = w.length) : wPeriod w = k := by
  have b := wPeriod_b w h0
  rcases Nat.lt_trichotomy (wPeriod w) k with h | h | h
  · exact absurd b.2.2 (h2 _ b.1 h)
  · exact h
  · exact absurd h3 (wPeriod_lt w k h1 h)
theorem wLeastN_le (w : List Bool) (m : Nat) : wLeastN w m ≤ m := by
  induction m with
  | zero => exact Nat.le_refl _
  | succ m ih =>
    unfold wLeastN
    split <;> omega
theorem wOther_len (w : List Bool) (bk mr : Bool) : (wOther w bk mr).length = w.length := by
  unfold wOther
  cases bk <;> simp
theorem wl_lt {w : List Bool} {j : Nat} (h : j < w.length) : wl w j = w[j] := by simp [wl, h]
theorem wOther_at (w : List Bool) (bk mr : Bool) {j : Nat} (h : j < w.length) : wl (wOther w bk mr) j = (wl w (if bk then w.length - 1 - j else j) != mr) := by
  cases bk with
  | false =>
    have e : wOther w false mr = w.map (fun b => b != mr) := rfl
    rw [e, wl_lt (by simpa using h), List.getElem_map, if_neg (by decide), wl_lt h]
  | true =>
    have e : wOther w true mr = w.reverse.map (fun b => b != mr) := rfl
    rw [e, wl_lt (by simpa using h), List.getElem_map, List.getElem_reverse, if_pos rfl, wl_lt (by omega)]
theorem wTab_drop {w : List Bool} {j : Nat} (h : j < w.length) : wTab (w.drop j) = (match wTab (w.drop (j + 1)) with | (a, b, c, d) => if wl w j then (a + c, b + d, c, d) else (a, b, c + a, d + b)) := by
  rw [List.drop_eq_getElem_cons h, wl_lt h]
  rfl
theorem wLefts_b (w : List Bool) : 0 ≤ wLefts w ∧ wLefts w ≤ w.length := cnt_b _ _
theorem allN_s (p : Nat → Bool) (n : Nat) : allN p (n + 1) = (allN p n && p n) := rfl
theorem wTurnN_le (w o : List Bool) : wTurnN w o ≤ w.length := fstN_le _ _
