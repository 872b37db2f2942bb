/-! the component's cycles; rivers that are laid -/
set_option maxRecDepth 100000
def CLS (G : Gh) (xh : Nat) (cls ks : List Nat) (w : Nat → List Bool) : Prop := cls.length = ks.length ∧ ∀ c : Nat, c < ks.length → CYC G xh (cls.getD c 0) (ks.getD c 0 : Nat) (w (ks.getD c 0))
theorem CLS.fr {G G' : Gh} {xh : Nat} {cls ks : List Nat} {w : Nat → List Bool} {ts : List Nat} (h : CLS G xh cls ks w) (hf : FR ts G G') (h0 : 0 ∉ ts) (h8 : 8 ∉ ts) : CLS G' xh cls ks w := ⟨h.1, fun c hc => (h.2 c hc).fr hf h0 h8⟩
theorem CLS.nil {G : Gh} {xh : Nat} {w : Nat → List Bool} : CLS G xh [] [] w := ⟨rfl, fun c hc => absurd hc (Nat.not_lt_zero _)⟩
theorem CLS.push {G : Gh} {xh x k : Nat} {cls ks : List Nat} {w : Nat → List Bool} (h : CLS G xh cls ks w) (hx : CYC G xh x (k : Nat) (w k)) : CLS G xh (cls ++ [x]) (ks ++ [k]) w := by
  refine ⟨by simp [h.1], fun c hc => ?_⟩
  have hl : (ks ++ [k]).length = ks.length + 1 := by simp
  by_cases e : c = ks.length
  · subst e
    rw [getD_app_eq (l := ks), ← h.1, getD_last]
    exact hx
  · rw [getD_app_lt (l := ks) (by omega), getD_app_lt (l := cls) (by rw [h.1]; omega)]
    exact h.2 c (by omega)
theorem CLS.obj {G : Gh} {xh : Nat} {cls ks : List Nat} {w : Nat → List Bool} (h : CLS G xh cls ks w) : ∀ j : Nat, j < cls.length → isObj G (.ref (cls.getD j 0)) := fun j hj => by
  obtain ⟨s, m, h1, -⟩ := h.2 j (by rw [← h.1]; exact hj)
  exact Or.inr ⟨_, _, _, _, rfl, h1⟩
/-- a cycle and its word are made: nobody writes them any more -/
theorem CYC.frz {G0 G : Gh} {xh a s m : Nat} {k : Int} {w : List Bool} {ts : List Nat} (h9 : 9 ∈ ts) (h12 : 12 ∈ ts) (h1 : G a = some (12, .inl (6, [.int (iI k), .ref s, .ref xh]))) (h2 : SB G s 9 (txt w) m) (hf : FR ts G0 G) : ∃ G', (CYC G' xh a k w ∧ FR ts G0 G' ∧ ∀ c q, G c = some q → q.1 ≠ 9 → q.1 ≠ 12 → G' c = some q) ∧ ∀ c q, G' c = some q → ∃ t, G c = some (t, q.2) ∧ (q.1 ≠ 0 → t ≠ 0) := by
  obtain ⟨o1, o2, o3, b, f, mb, k1, k2, k3⟩ := h2
  have n1 : s ≠ b := fun e => by rw [e, k2] at k1; cases k1
  have n2 : a ≠ s := fun e => by rw [e, k1] at h1; cases h1
  have n3 : a ≠ b := fun e => by rw [e, k2] at h1; cases h1
  refine ⟨gup (gup (gup G b (8, .inr (1, m, f))) s (8, .inl (9, [.ref b, .int (iI 0), .int (iI mb), .int (iI ((txt w).length : Nat))]))) a (0, .inl (6, [.int (iI k), .ref s, .ref xh])), ⟨⟨s, m, gup_eq _ _ _, o1, o2, o3, b, f, mb, ?_, ?_, k3⟩, ?_, ?_⟩, ?_⟩
  · rw [gup_ne _ _ (Ne.symm n2), gup_eq]
  · rw [gup_ne _ _ (Ne.symm n3), gup_ne _ _ (Ne.symm n1), gup_eq]
  · intro c q hc hq
    have hg := hf c q hc hq
    rw [gup_ne _ _ (fun e => by rw [e, h1] at hg; cases hg; exact hq h12), gup_ne _ _ (fun e => by rw [e, k1] at hg; cases hg; exact hq h9), gup_ne _ _ (fun e => by rw [e, k2] at hg; cases hg; exact hq h9)]
    exact hg
  · intro c q hg q9 q12
    rw [gup_ne _ _ (fun e => by rw [e, h1] at hg; cases hg; exact q12 rfl), gup_ne _ _ (fun e => by rw [e, k1] at hg; cases hg; exact q9 rfl), gup_ne _ _ (fun e => by rw [e, k2] at hg; cases hg; exact q9 rfl)]
    exact hg
  · intro c q hc
    by_cases e1 : c = a
    · subst e1
      rw [gup_eq] at hc
      cases hc
      exact ⟨12, h1, fun h => absurd rfl h⟩
    · rw [gup_ne _ _ e1] at hc
      by_cases e2 : c = s
      · subst e2
        rw [gup_eq] at hc
        cases hc
        exact ⟨9, k1, fun _ => by decide⟩
      · rw [gup_ne _ _ e2] at hc
        by_cases e3 : c = b
        · subst e3
          rw [gup_eq] at hc
          cases hc
          exact ⟨9, k2, fun _ => by decide⟩
        · rw [gup_ne _ _ e3] at hc
          exact ⟨q.1, hc, fun h => h⟩
/-- the forms so far, while they are laid -/
def LFI (X : XE) (G0 : Gh) (A : Nat → Nat) (l : List Fm) (m : Nat) (G : Gh) : Prop := ∃ fls, LST X G (A 7) 5 fls m ∧ FLS G fls l (fun _ => NON) (fun _ => 0) (fun _ => 0) (fun _ => 0) ∧ FR [5] G0 G
theorem gcap_b {m : Nat} (h : m ≤ 1100) : gcap m ≤ 1700 := by unfold gcap; split <;> omega
/-- the laid forms know their next, back, mirror -/
abbrev nxZ (l : List Fm) : Nat → Int := fun j => (nxt l j : Int)
abbrev bkZ (l : List Fm) : Nat → Int := fun j => nof l (backF (fat l j))
abbrev mrZ (l : List Fm) : Nat → Int := fun j => nof l (mirrF (fat l j))
def cut0 (f : Nat → Int) (k : Nat) : Nat → Int := fun j => if j < k then f j else 0
theorem cut0_s (f : Nat → Int) (k : Nat) : updz (cut0 f k) k (f k) = cut0 f (k + 1) := by
  funext j
  unfold updz cut0
  by_cases e : j = k
  · rw [if_pos e, e, if_pos (by omega)]
  · rw [if_neg e]
    by_cases e2 : j < k
    · rw [if_pos e2, if_pos (by omega)]
    · rw [if_neg e2, if_neg (by omega)]
theorem cut0_0 (f : Nat → Int) : cut0 f 0 = fun _ => 0 := by
  funext j
  unfold cut0
  rw [if_neg (Nat.not_lt_zero _)]
