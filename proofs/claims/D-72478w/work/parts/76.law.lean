/-! the law: its invariant -/
set_option maxRecDepth 100000
abbrev yLn (nm : String) : MethodName := ⟨"RiverWordsLaw", nm, "([I)Z"⟩
/-- both sides hold the state x; the script lies at b -/
def LI (X : XE) (b L : Nat) (xs : Nat → Int) (xh mh : Nat) (mad : Nat → Nat) (x : AS) (st : MSt) (G : Gh) : Prop :=
  COMP X G xh x ∧ MOD mh mad G st G ∧ MAt st x ∧ G b = some (0, .inr (0, L, fun j => .int (iI (xs j))))
def LK (Z : ZC) (b L : Nat) (xs : Nat → Int) (xh mh : Nat) (mad : Nat → Nat) (i n s : Nat) : Prop :=
  ∀ x st G, LI (zX Z) b L xs xh mh mad x st G → WW Z 4 (fun g => g = G) n s 981 [some (.ref b), some (.ref xh), some (.ref mh), some (.int (iI (i : Int)))] []
theorem MOD.self {mh : Nat} {mad : Nat → Nat} {G0 G : Gh} {st : MSt} (h : MOD mh mad G0 st G) : MOD mh mad G st G := ⟨h.1, h.2.1, h.2.2.1, fun _ _ h1 _ => h1, h.2.2.2.2⟩
/-- the component has run -/
theorem LI.comp {b L mh : Nat} {xs : Nat → Int} {mad : Nat → Nat} {st : MSt} {G0 G G1 : Gh} (M : MOD mh mad G0 st G) (sb : G b = some (0, .inr (0, L, fun j => .int (iI (xs j))))) (f : FR cT G G1) : MOD mh mad G1 st G1 ∧ G1 b = some (0, .inr (0, L, fun j => .int (iI (xs j)))) :=
  ⟨⟨f _ _ M.1 (show 10 ∉ cT by decide), fun k hk => f _ _ (M.2.1 k hk) (show 10 ∉ cT by decide), M.2.2.1, fun _ _ h1 _ => h1, M.2.2.2.2⟩, f _ _ sb (show 0 ∉ cT by decide)⟩
/-- the reference has run -/
theorem LI.back {X : XE} {b L xh mh : Nat} {xs : Nat → Int} {mad : Nat → Nat} {x : AS} {st : MSt} {G1 G2 : Gh} (cp : COMP X G1 xh x) (s1 : G1 b = some (0, .inr (0, L, fun j => .int (iI (xs j))))) (N : MOD mh mad G1 st G2) (hM : MAt st x) : LI X b L xs xh mh mad x st G2 := by
  have f : FR [10] G1 G2 := fun a q ha hq => N.2.2.2.1 a q ha (by simpa using hq)
  obtain ⟨A, dr, rls, rm, fls, fm, cls, cm, h⟩ := cp
  exact ⟨(h.fr f (by decide)).comp, N.self, hM, f _ _ s1 (show 0 ∉ [10] by decide)⟩
theorem MAt.xw {ks : List Nat} {st st' : MSt} {x : AS} (h : MAt st x) (e : eqx ks st st') (hk : ∀ k, k ∈ ks → k ∈ tq) : MAt st' x := h.x (e.wk hk)
theorem MAt.roads {st st' : MSt} {x : AS} {ws : Wss} (h : MAt st x) (r : RoadsAre st' ws) (e : eqx (2 :: 3 :: 4 :: tq) st st') : MAt st' (setws x ws) := ⟨h.1.x e (by decide) (by decide), r, h.2.2.1.x e (by decide), (e 5 (by decide)).1.trans h.2.2.2⟩
theorem MAt.page {st st' : MSt} {x : AS} {pg : List Nat} {ks : List Nat} (h : MAt st x) (r : PageAt st' pg) (e : eqx ks st st') (hk : ∀ k, k ∈ ks → k = 0 ∨ k = 1) : MAt st' (setpg x pg) := by
  have n : ∀ k, 1 < k → k ∉ ks := fun k h1 h2 => by have := hk k h2; omega
  exact ⟨r, h.2.1.x e (n 2 (by decide)) (n 3 (by decide)) (n 4 (by decide)), h.2.2.1.x e (fun k hk2 => n k (by simp at hk2; omega)), (e 5 (n 5 (by decide))).1.trans h.2.2.2⟩
theorem MAt.riv {st st' : MSt} {x : AS} {d : Int} (h : MAt st x) (r : RivAt st' d) (e : eqx [6, 7, 8, 9, 10, 11, 12, 13, 14] st st') : MAt st' (setd x d) := ⟨h.1.x e (by decide) (by decide), h.2.1.x e (by decide) (by decide) (by decide), r, (e 5 (by decide)).1.trans h.2.2.2⟩
theorem lawr {n c : Nat} (hn : n + 8784 ≤ 861366) (hc : c ≤ 8784) : n + c ≤ room_1.cells := by show n + c ≤ 861366; omega
theorem laws {n c : Nat} (hn : n + 80578 ≤ 6518152) (hc : c ≤ 80578) : n + c ≤ room_1.slots := by show n + c ≤ 6518152; omega
theorem lawr2 {n c z : Nat} (hn : n + 8784 ≤ 861366) (hc : c ≤ 8784) (hz : z = 0) : n + c + z ≤ room_1.cells := by subst hz; show n + c ≤ 861366; omega
theorem laws2 {n c z : Nat} (hn : n + 80578 ≤ 6518152) (hc : c ≤ 80578) (hz : z = 0) : n + c + z ≤ room_1.slots := by subst hz; show n + c ≤ 6518152; omega
theorem lawW {n c z N : Nat} (hc : c ≤ N) (hz : z = 0) : n + c + z ≤ n + N := by omega
theorem lg_self (x : Int64) : lg_cmp x x = 0 := by
  unfold lg_cmp
  simp
section LAWR
variable {Z : ZC} {y : MethodName} {cc : ByteArray} {nL : Nat} {rt : Option FieldType} {R : Room} {Γ : Gh → Prop} {n s pc : Nat} {lv : List (Option Value)} {st : List Value}
/-- an int of the script -/
theorem r_scr {a N j : Nat} {xs : Nat → Int} {z : Int} (C : CC Z y cc nL rt R) (d : decode cc pc = .ok (.iaload, 1)) (h : ∀ G, Γ G → ∃ t, G a = some (t, .inr (0, N, fun j => .int (iI (xs j))))) (hz : z = (j : Int)) (hj : j < N) (hN : N ≤ 320) (kk : WW Z nL Γ n s (pc + 1) lv (.int (iI (xs j)) :: st)) : WW Z nL Γ n s pc lv (.int (iI z) :: .ref a :: st) := by
  subst hz
  have hi : i32 (j : Int) := by unfold i32; omega
  exact r_iald C d h (iI_in (by omega) (by omega) (by unfold i32; omega)) (by rw [iI_clamp hi, show ((j : Int)).toNat = j from rfl]) kk
end LAWR
