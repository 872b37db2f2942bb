/-! SPECIFICATION, on: roads become others, come, go; reading -/
def wTurned (w : List Bool) (by' : Nat) : List Bool := (List.range w.length).map (fun k => wc w (k + by'))
theorem wTurned_len (w : List Bool) (b : Nat) : (wTurned w b).length = w.length := by simp [wTurned]
theorem wTurned_at (w : List Bool) (b : Nat) {k : Nat} (hk : k < w.length) : wl (wTurned w b) k = wc w (k + b) := by
  rw [wl_lt (by rw [wTurned_len]; exact hk)]
  simp [wTurned]
def wChanged (w : List Bool) (how : Int) : List Bool := if how = 0 then wOther w true false else if how = 1 then wOther w false true else wTurned w (wLeast w)
theorem wChanged_len (w : List Bool) (how : Int) : (wChanged w how).length = w.length := by
  unfold wChanged
  split
  · exact wOther_len _ _ _
  · split
    · exact wOther_len _ _ _
    · exact wTurned_len _ _
theorem wl_app (u w : List Bool) (k : Nat) : wl (u ++ w) k = if k < u.length then wl u k else wl w (k - u.length) := by
  unfold wl
  rw [List.getD_eq_getElem?_getD, List.getElem?_append]
  split <;> simp
def repW (w : List Bool) : Nat → List Bool
  | 0 => []
  | n + 1 => repW w n ++ w
theorem repW_len (w : List Bool) (n : Nat) : (repW w n).length = n * w.length := by
  induction n with
  | zero => simp [repW]
  | succ n ih => simp [repW, ih, Nat.succ_mul]
def cutF : Nat → Nat → Nat → List Bool
  | 0, _, _ => []
  | f + 1, p, q => if p = q then [] else if q < p then true :: cutF f (p - q) q else false :: cutF f p (q - p)
def cutW (p q : Nat) : List Bool := cutF (p + q) p q
theorem cutF_more (f : Nat) : ∀ (p q k : Nat), 1 ≤ p → 1 ≤ q → p + q ≤ f → cutF (f + k) p q = cutF f p q := by
  induction f with
  | zero => intro p q k h1 h2 h3; omega
  | succ f ih =>
    intro p q k h1 h2 h3
    rw [show f + 1 + k = (f + k) + 1 by omega]
    unfold cutF
    split
    · rfl
    · split
      · rw [ih (p - q) q k (by omega) h2 (by omega)]
      · rw [ih p (q - p) k h1 (by omega) (by omega)]
/-- one letter ahead, the rest behind -/
theorem cutW_eq {p q : Nat} (h1 : 1 ≤ p) (h2 : 1 ≤ q) : cutW p q = if p = q then [] else if q < p then true :: cutW (p - q) q else false :: cutW p (q - p) := by
  have e : cutW p q = cutF ((p + q - 1) + 1) p q := by unfold cutW; rw [show p + q - 1 + 1 = p + q by omega]
  rw [e]
  unfold cutF
  split
  · rfl
  · split
    · rename_i h3 h4
      have := cutF_more (p - q + q) (p - q) q (q - 1) (by omega) h2 (Nat.le_refl _)
      rw [show p - q + q + (q - 1) = p + q - 1 by omega] at this
      rw [this]; rfl
    · rename_i h3 h4
      have := cutF_more (p + (q - p)) p (q - p) (p - 1) h1 (by omega) (Nat.le_refl _)
      rw [show p + (q - p) + (p - 1) = p + q - 1 by omega] at this
      rw [this]; rfl
theorem cutF_le (f : Nat) : ∀ (p q : Nat), (cutF f p q).length ≤ f := by
  induction f with
  | zero => intro p q; exact Nat.le_refl _
  | succ f ih =>
    intro p q
    unfold cutF
    split
    · simp
    · split
      · have := ih (p - q) q; simp; omega
      · have := ih p (q - p); simp; omega
theorem cutW_le (p q : Nat) (hp : p ≤ 99) (hq : q ≤ 99) : (cutW p q).length ≤ 198 := by
  have := cutF_le (p + q) p q
  unfold cutW; omega
abbrev Wss : Type := List (List Bool)
/-- a road comes, if there is room -/
def sCome (ws : Wss) (w : List Bool) : Int × Wss := if 20 < w.length then (STA, ws) else if ws.length = 6 then (FUL, ws) else ((ws.length : Int), ws ++ [w])
def sTurn (ws : Wss) (r b : Int) : Int × Wss := if 0 ≤ r ∧ r ≤ (ws.length : Int) - 1 then (if 0 ≤ b ∧ b ≤ ((wsat ws r).length : Int) - 1 then ((wPeriod (wsat ws r) : Int), ws.set r.toNat (wTurned (wsat ws r) b.toNat)) else (OUT, ws)) else (UNK, ws)
def sChange (ws : Wss) (r h : Int) : Int × Wss := if 0 ≤ r ∧ r ≤ (ws.length : Int) - 1 then (if 0 ≤ h ∧ h ≤ 2 then (wTrace (wChanged (wsat ws r) h), ws.set r.toNat (wChanged (wsat ws r) h)) else (OUT, ws)) else (UNK, ws)
def sJoin (ws : Wss) (r q : Int) : Int × Wss := if 0 ≤ r ∧ r ≤ (ws.length : Int) - 1 then (if 0 ≤ q ∧ q ≤ (ws.length : Int) - 1 then sCome ws (wsat ws r ++ wsat ws q) else (UNK, ws)) else (UNK, ws)
def sTimes (ws : Wss) (r n : Int) : Int × Wss := if 0 ≤ r ∧ r ≤ (ws.length : Int) - 1 then (if 2 ≤ n ∧ n ≤ 5 then sCome ws (repW (wsat ws r) n.toNat) else (OUT, ws)) else (UNK, ws)
def sCut (ws : Wss) (p q : Int) : Int × Wss := if (1 ≤ p ∧ p ≤ 99) ∧ (1 ≤ q ∧ q ≤ 99) ∧ ((Int.gcd p q : Nat) : Int) ≤ 1 ∧ p ≠ q then sCome ws (cutW p.toNat q.toNat) else (OUT, ws)
def sDrop (ws : Wss) : Int × Wss := if ws.length = 0 then (STA, ws) else ((ws.length : Int) - 1, ws.dropLast)
/-! reading a page -/
def rdStep (s : List Bool × Bool) (c : Nat) : Option (List Bool × Bool) :=
  if c = 76 ∨ c = 82 then (if s.1.length = 20 then none else some (s.1 ++ [decide (c = 82)], true))
  else if s.2 = true ∧ 50 ≤ c ∧ c ≤ 57 ∧ s.1.length + (c - 49) ≤ 20 then some (s.1 ++ List.replicate (c - 49) (wl s.1 (s.1.length - 1)), false) else none
def rdAll : List Nat → (List Bool × Bool) → Nat × List Bool
  | [], s => (0, s.1)
  | c :: r, s => match rdStep s c with
    | none => (0, s.1)
    | some s' => ((rdAll r s').1 + 1, (rdAll r s').2)
def rd (page : List Nat) : Nat × List Bool := rdAll page ([], false)
def PageAt (st : MSt) (pg : List Nat) : Prop := st.1 0 = pg.length ∧ pg.length ≤ 20 ∧ ∀ j : Nat, j < pg.length → st.2 1 j = (pg.getD j 0 : Nat) ∧ 32 ≤ pg.getD j 0 ∧ pg.getD j 0 ≤ 126
theorem PageAt.x {ks : List Nat} {st st' : MSt} {pg : List Nat} (h : PageAt st pg) (e : eqx ks st st') (h0 : 0 ∉ ks) (h1 : 1 ∉ ks) : PageAt st' pg := ⟨(e 0 h0).1.trans h.1, h.2.1, fun j hj => by rw [(e 1 h1).2]; exact h.2.2 j hj⟩
/-- the new word as far as it is laid -/
def NewAt (st : MSt) (u : List Bool) : Prop := st.1 15 = u.length ∧ u.length ≤ 20 ∧ ∀ k : Nat, k < u.length → st.2 16 k = bi (wl u k)
theorem NewAt.x {ks : List Nat} {st st' : MSt} {u : List Bool} (h : NewAt st u) (e : eqx ks st st') (h1 : 15 ∉ ks) (h2 : 16 ∉ ks) : NewAt st' u := ⟨(e 15 h1).1.trans h.1, h.2.1, fun j hj => by rw [(e 16 h2).2]; exact h.2.2 j hj⟩
/-- one letter more -/
theorem NewAt.push {st : MSt} {u : List Bool} (h : NewAt st u) (hl : u.length < 20) (b : Bool) : NewAt (iput (aput st 16 (u.length : Int) (bi b)) 15 ((u.length : Int) + 1)) (u ++ [b]) := by
  refine ⟨by rw [iput_eq]; simp, by simp; omega, fun k hk => ?_⟩
  have hk2 : k < u.length + 1 := by simpa using hk
  rw [iput_2, wl_app]
  by_cases e : k < u.length
  · rw [if_pos e, aput_nj _ _ _ (by omega)]
    exact h.2.2 k e
  · have e2 : k = u.length := by omega
    subst e2
    rw [if_neg e, aput_eq, Nat.sub_self]
    rfl
theorem NewAt.zero (st : MSt) : NewAt (iput st 15 0) [] := ⟨iput_eq _ _ _, by decide, fun k hk => absurd hk (Nat.not_lt_zero _)⟩
/-- the road r is written anew -/
def Stored (st st' : MSt) (r : Int) (w : List Bool) : Prop := eqx [4] st st' ∧ (∀ j : Int, (j < 20 * r ∨ 20 * r + 20 ≤ j) → st'.2 4 j = st.2 4 j) ∧ ∀ k : Nat, k < w.length → st'.2 4 (20 * r + k) = bi (wl w k)
theorem RoadsAre.store {st st' : MSt} {ws : Wss} {r : Int} {w : List Bool} (h : RoadsAre st ws) (hr : 0 ≤ r ∧ r ≤ (ws.length : Int) - 1) (hl : w.length = (wsat ws r).length) (hs : Stored st st' r w) : RoadsAre st' (ws.set r.toNat w) := by
  obtain ⟨e, s1, s2⟩ := hs
  refine ⟨by rw [(e 2 (by decide)).1, List.length_set]; exact h.1, by rw [List.length_set]; exact h.2.1, fun q hq => ?_⟩
  rw [List.length_set] at hq
  by_cases e2 : q = r.toNat
  · have e3 : (ws.set r.toNat w).getD q [] = w := by rw [e2, List.getD_eq_getElem?_getD, List.getElem?_set_self (by omega)]; rfl
    have e4 : (q : Int) = r := by omega
    have h1 := (h.at hr).1
    rw [e3, e4]
    exact ⟨by rw [(e 3 (by decide)).2, hl]; exact h1.1, by rw [hl]; exact h1.2.1, s2⟩
  · have e3 : (ws.set r.toNat w).getD q [] = ws.getD q [] := by rw [List.getD_eq_getElem?_getD, List.getElem?_set_ne (fun z => e2 z.symm), List.getD_eq_getElem?_getD]
    obtain ⟨a1, a2, a3⟩ := h.2.2 q hq
    rw [e3]
    refine ⟨by rw [(e 3 (by decide)).2]; exact a1, a2, fun j hj => ?_⟩
    rw [s1 _ (by omega)]
    exact a3 j hj
theorem RoadsAre.push {st st' : MSt} {ws : Wss} {w : List Bool} (h : RoadsAre st ws) (hl : ws.length < 6) (hw : 0 < w.length ∧ w.length ≤ 20) (h2 : st'.1 2 = (ws.length : Int) + 1) (h3 : ∀ j : Int, j ≠ ws.length → st'.2 3 j = st.2 3 j) (h3' : st'.2 3 ws.length = w.length) (h4 : ∀ j : Int, j < 20 * ws.length → st'.2 4 j = st.2 4 j) (h4' : ∀ k : Nat, k < w.length → st'.2 4 (20 * (ws.length : Int) + k) = bi (wl w k)) : RoadsAre st' (ws ++ [w]) := by
  refine ⟨by rw [h2]; simp, by simp; omega, fun q hq => ?_⟩
  have hq2 : q < ws.length + 1 := by simpa using hq
  by_cases e : q = ws.length
  · subst e
    have e3 : (ws ++ [w]).getD ws.length [] = w := by simp
    rw [e3]
    exact ⟨h3', hw, h4'⟩
  · have e3 : (ws ++ [w]).getD q [] = ws.getD q [] := by rw [List.getD_eq_getElem?_getD, List.getElem?_append_left (by omega), List.getD_eq_getElem?_getD]
    obtain ⟨a1, a2, a3⟩ := h.2.2 q (by omega)
    rw [e3]
    exact ⟨by rw [h3 _ (by omega)]; exact a1, a2, fun j hj => by rw [h4 _ (by omega)]; exact a3 j hj⟩
