/-! the reference is made -/
set_option maxRecDepth 100000
def iarr (N : Nat) : GE := .inr (0, N, fun _ => .int (iI 0))
/-- the reference's object and the arrays made so far -/
def MB (mh : Nat) (G0 : Gh) (as : List Nat) (ls : List Nat) (fs : List Value) (G : Gh) : Prop :=
  G mh = some (10, .inl (2, fs)) ∧ (∀ j, j < as.length → G (as.getD j 0) = some (10, iarr (ls.getD j 0))) ∧ (∀ i j, i < as.length → j < as.length → as.getD i 0 = as.getD j 0 → i = j) ∧ as.length = ls.length ∧ FR [10] G0 G
theorem MB.of {mh : Nat} {G0 : Gh} {fs : List Value} (h : G0 mh = some (10, .inl (2, fs))) : MB mh G0 [] [] fs G0 := ⟨h, fun j hj => absurd hj (Nat.not_lt_zero _), fun i j hi => absurd hi (Nat.not_lt_zero _), rfl, FR.rf⟩
theorem MB.put {mh k : Nat} {G0 G : Gh} {as ls : List Nat} {fs : List Value} {v : Value} (h : MB mh G0 as ls fs G) : MB mh G0 as ls (fs.set k v) (gup G mh (10, .inl (2, fs.set k v))) := by
  obtain ⟨h1, h2, h3, h4, h5⟩ := h
  refine ⟨gup_eq _ _ _, fun j hj => ?_, h3, h4, h5.tr (FR.up h1 (by simp) 10)⟩
  rw [gup_ne _ _ (fun e => by have := h2 j hj; rw [e, h1] at this; cases this)]
  exact h2 j hj
theorem MB.new {mh a N : Nat} {G0 G : Gh} {as ls : List Nat} {fs : List Value} (h : MB mh G0 as ls fs G) (n : G a = none) : MB mh G0 (as ++ [a]) (ls ++ [N]) fs (gup G a (10, iarr N)) := by
  obtain ⟨h1, h2, h3, h4, h5⟩ := h
  have hl : (as ++ [a]).length = as.length + 1 := by simp
  have hn : ∀ j, j < as.length → as.getD j 0 ≠ a := fun j hj e => by have := h2 j hj; rw [e, n] at this; cases this
  refine ⟨up0 n h1, fun j hj => ?_, fun i j hi hj e => ?_, by simp [h4], h5.tr (FR.new n)⟩
  · rw [hl] at hj
    by_cases e : j = as.length
    · subst e
      rw [getD_last, gup_eq, h4, getD_last]
    · rw [getD_app1 (by omega), getD_app1 (by omega)]
      exact up0 n (h2 j (by omega))
  · rw [hl] at hi hj
    by_cases ei : i = as.length
    · by_cases ej : j = as.length
      · omega
      · rw [ei, getD_last, getD_app1 (by omega)] at e
        exact absurd e.symm (hn j (by omega))
    · by_cases ej : j = as.length
      · rw [ej, getD_last, getD_app1 (by omega)] at e
        exact absurd e (hn i (by omega))
      · rw [getD_app1 (by omega), getD_app1 (by omega)] at e
        exact h3 i j (by omega) (by omega) e
def mpos (k : Nat) : Nat := match k with
  | 1 => 0
  | 3 => 1
  | 4 => 2
  | 8 => 3
  | 9 => 4
  | 10 => 5
  | 11 => 6
  | 12 => 7
  | 14 => 8
  | 16 => 9
  | 19 => 10
  | _ => 11
def st0 : MSt := (fun _ => 0, fun _ _ => 0)
theorem MB.mod {mh : Nat} {G0 G : Gh} {as : List Nat} {fs : List Value} (h : MB mh G0 as [20, 6, 120, 1200, 1200, 1200, 1200, 1200, 1200, 20, 20, 20] fs G) (hf : fs = mfs (fun k => as.getD (mpos k) 0) st0) : MOD mh (fun k => as.getD (mpos k) 0) G0 st0 G := by
  obtain ⟨h1, h2, h3, h4, h5⟩ := h
  have hl : as.length = 12 := h4
  have p12 : ∀ k, k ∈ marr → mpos k < 12 ∧ [20, 6, 120, 1200, 1200, 1200, 1200, 1200, 1200, 20, 20, 20].getD (mpos k) 0 = mlen k := by decide
  have pin : ∀ j, j ∈ marr → ∀ k, k ∈ marr → mpos j = mpos k → j = k := by decide
  refine ⟨by rw [h1, hf], fun k hk => ?_, fun j k hj hk e => ?_, fun a q ha hq => h5 _ _ ha (by simpa using hq), by decide⟩
  · show G (as.getD (mpos k) 0) = _
    rw [h2 _ (by rw [hl]; exact (p12 k hk).1), (p12 k hk).2]
    rfl
  · exact pin j hj k hk (h3 _ _ (by rw [hl]; exact (p12 j hj).1) (by rw [hl]; exact (p12 k hk).1) e)
theorem MAt_0 : MAt st0 ([], [], 0, 0) := by
  refine ⟨⟨rfl, Nat.zero_le _, fun j hj => absurd hj (Nat.not_lt_zero _)⟩, ⟨rfl, Nat.zero_le _, fun j hj => absurd hj (Nat.not_lt_zero _)⟩, ?_, rfl⟩
  have n : ∀ {P : Nat → Prop} {m : Nat}, m = 0 → ∀ k : Nat, k < m → P k := fun e k hk => absurd hk (by omega)
  have l0 : (fl 0).length = 0 := rfl
  have c0 : (rc 0).2.length = 0 := rfl
  exact ⟨Or.inl rfl, rfl, ⟨rfl, Nat.zero_le _, fun f hf => absurd hf (List.not_mem_nil), n l0⟩, n l0, n l0, rfl, n c0⟩
section ROW8
variable {Z : ZC} {y : MethodName} {cc : ByteArray} {nL : Nat} {rt : Option FieldType} {R : Room} {n s pc : Nat} {lv : List (Option Value)} {st : List Value} {mh : Nat} {G0 : Gh} {as ls : List Nat} {fs : List Value}
theorem r_newaM {N : Nat} {x : Int} (C : CC Z y cc nL rt R) (d : decode cc pc = .ok (.newarray .int, 2)) (harr : Cond.arrayClass .int ∈ lw_all) (hx : x = (N : Int)) (hN : N ≤ 100000) (hn : n + 1 ≤ R.cells) (hs : s + N ≤ R.slots)
    (kk : ∀ a, WW Z nL (MB mh G0 (as ++ [a]) (ls ++ [N]) fs) (n + 1) (s + N) (pc + 2) lv (.ref a :: st)) : WW Z nL (MB mh G0 as ls fs) n s pc lv (.int (iI x) :: st) := by
  subst hx
  have i0 : i32 (N : Int) := by unfold i32; omega
  refine r_newa (atype := .int) (j := 0) (N := N) (f := fun _ => .int (iI 0)) 10 C d rfl (by decide) harr (by rw [show (0 : Int32) = iI 0 from rfl, iI_lt i0 i32_0]; omega) (by rw [iI_clamp i0]; omega) (by show N * 4 ≤ _; omega) (fun _ _ => rfl) hn hs (fun G a hG hn => ?_)
  exact ww_to (fun G' hG' => by rw [hG']; exact MB.new hG hn) (kk a)
end ROW8
