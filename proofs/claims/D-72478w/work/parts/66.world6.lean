/-! the component's world changes -/
set_option maxRecDepth 100000
section CWR
variable {X : XE} {G G' : Gh} {xh : Nat} {x : AS} {A : Nat → Nat} {dr : Int} {rls : List Nat} {rm : Nat} {fls : List Nat} {fm : Nat} {cls : List Nat} {cm : Nat}
def setpg (x : AS) (pg : List Nat) : AS := (pg, x.2)
def setrd (x : AS) (r : Int) : AS := (x.1, x.2.1, r, x.2.2.2)
/-- another page -/
theorem CW.page {ts : List Nat} {pg' : List Nat} (h : CW X G xh x A dr rls rm fls fm cls cm) (hf : FR ts G G') (ht : ∀ t, t ∈ ts → t = 4 ∨ 9 ≤ t) (hp : SB G' (A 5) 4 pg' 20) (hc : ∀ c ∈ pg', 32 ≤ c ∧ c ≤ 126) : CW X G' xh (setpg x pg') A dr rls rm fls fm cls cm := by
  have n : ∀ k, k < 9 → k ≠ 4 → k ∉ ts := fun k hk h2 q => by have := ht k q; omega
  exact ⟨h.xo.fr hf (n 0 (by decide) (by decide)) (n 1 (by decide) (by decide)), h.ko.fr hf (n 0 (by decide) (by decide)), ⟨h.rl.fr hf (n 0 (by decide) (by decide)) (n 2 (by decide) (by decide)), h.hmr, h.rs.fr hf (n 0 (by decide) (by decide)) (n 3 (by decide) (by decide)), h.rk⟩, ⟨hp, hc⟩, ⟨h.fll.fr hf (n 0 (by decide) (by decide)) (n 5 (by decide) (by decide)), h.hmf, h.fs.fr hf (n 6 (by decide) (by decide))⟩, ⟨h.cl.fr hf (n 0 (by decide) (by decide)) (n 7 (by decide) (by decide)), h.hmc, h.cs.fr hf (n 0 (by decide) (by decide)) (n 8 (by decide) (by decide))⟩, h.rv⟩
/-- other numbers in the object -/
theorem CW.self {ts : List Nat} {rdn' dr' : Int} (h : CW X G xh x A dr rls rm fls fm cls cm) (hf : FR ts G G') (ht : ∀ t, t ∈ ts → t = 1 ∨ 9 ≤ t) (ho : G' xh = some (1, .inl (0, xfs A rdn' x.d dr'))) : CW X G' xh (setrd x rdn') A dr' rls rm fls fm cls cm := by
  have n : ∀ k, k < 9 → k ≠ 1 → k ∉ ts := fun k hk h2 q => by have := ht k q; omega
  have n0 := n 0 (by decide) (by decide)
  exact ⟨⟨ho, h.xo.2.1.fr hf n0, h.xo.2.2.1.fr hf n0, h.xo.2.2.2.fr hf n0⟩, h.ko.fr hf n0, ⟨h.rl.fr hf n0 (n 2 (by decide) (by decide)), h.hmr, h.rs.fr hf n0 (n 3 (by decide) (by decide)), h.rk⟩, ⟨h.pg.fr hf (n 4 (by decide) (by decide)), h.ch⟩, ⟨h.fll.fr hf n0 (n 5 (by decide) (by decide)), h.hmf, h.fs.fr hf (n 6 (by decide) (by decide))⟩, ⟨h.cl.fr hf n0 (n 7 (by decide) (by decide)), h.hmc, h.cs.fr hf n0 (n 8 (by decide) (by decide))⟩, h.rv⟩
theorem setrd_self (x : AS) : setrd x x.rdn = x := rfl
end CWR
theorem rdStep_len {s s' : List Bool × Bool} {c : Nat} (h : rdStep s c = some s') : s.1.length ≤ s'.1.length := by
  obtain ⟨u, may⟩ := s
  by_cases hc : c = 76 ∨ c = 82
  · by_cases hl : u.length = 20
    · rw [rd_full hc hl] at h; cases h
    · rw [rd_letter hc hl] at h; cases h; simp
  · by_cases hr : may = true ∧ 50 ≤ c ∧ c ≤ 57 ∧ u.length + (c - 49) ≤ 20
    · rw [rd_run hc hr] at h; cases h; simp
    · rw [rd_no hc hr] at h; cases h
theorem rdAll_len (r : List Nat) : ∀ s : List Bool × Bool, s.1.length ≤ (rdAll r s).2.length := by
  induction r with
  | nil => intro s; exact Nat.le_refl _
  | cons c r ih =>
    intro s
    show _ ≤ ((match rdStep s c with | none => (0, s.1) | some s' => ((rdAll r s').1 + 1, (rdAll r s').2)) : Nat × List Bool).2.length
    cases hs : rdStep s c with
    | none => exact Nat.le_refl _
    | some s' => exact Nat.le_trans (rdStep_len hs) (ih s')
/-- nothing is read, or a letter at least -/
theorem rd_zero (pg : List Nat) : (rd pg).1 = 0 ↔ (rd pg).2.length = 0 := by
  unfold rd
  cases pg with
  | nil => exact ⟨fun _ => rfl, fun _ => rfl⟩
  | cons c r =>
    have e : rdAll (c :: r) ([], false) = (match rdStep ([], false) c with | none => (0, []) | some s' => ((rdAll r s').1 + 1, (rdAll r s').2)) := rfl
    rw [e]
    by_cases hc : c = 76 ∨ c = 82
    · rw [rd_letter hc (by decide)]
      constructor
      · intro h; exact absurd h (Nat.succ_ne_zero _)
      · intro h
        have := rdAll_len r ([] ++ [decide (c = 82)], true)
        have h2 : (rdAll r ([] ++ [decide (c = 82)], true)).2.length = 0 := h
        rw [h2] at this
        simp at this
    · rw [rd_no hc (by simp)]
      exact ⟨fun _ => rfl, fun _ => rfl⟩
theorem cutW_pos {p q : Nat} (h1 : 1 ≤ p) (h2 : 1 ≤ q) (h : p ≠ q) : 0 < (cutW p q).length := by
  rw [cutW_eq h1 h2, if_neg h]
  split <;> simp
