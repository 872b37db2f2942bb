/-! drawn words, what is told of all: the numbers -/
set_option maxRecDepth 100000
def lcg (s : Int) : Int := (1103515245 * s + 12345) % 2147483648
def lcgN (s : Int) : Nat → Int
  | 0 => s
  | k + 1 => lcg (lcgN s k)
theorem lcg_b (s : Int) : 0 ≤ lcg s ∧ lcg s < 2147483648 := by unfold lcg; omega
theorem lcgN_b {s : Int} (h : 0 ≤ s ∧ s < 2147483648) : ∀ k, 0 ≤ lcgN s k ∧ lcgN s k < 2147483648
  | 0 => h
  | k + 1 => lcg_b _
theorem lcgN_add (s : Int) (a : Nat) : ∀ b, lcgN s (a + b) = lcgN (lcgN s a) b
  | 0 => rfl
  | b + 1 => by
    show lcg (lcgN s (a + b)) = lcg (lcgN (lcgN s a) b)
    rw [lcgN_add s a b]
/-- what one letter is -/
def dB (s : Int) : Bool := decide (s / 65536 % 2 = 1)
def dW (s : Int) : List Bool := (List.range 8).map (fun k => dB (lcgN s (k + 1)))
theorem dW_len (s : Int) : (dW s).length = 8 := rfl
theorem dW_at (s : Int) {k : Nat} (h : k < 8) : wl (dW s) k = dB (lcgN s (k + 1)) := by
  unfold dW wl
  rw [List.getD_eq_getElem?_getD, List.getElem?_map, List.getElem?_range h]
  rfl
/-- the word that is drawn as the n-th -/
def wD (s : Int) (n : Nat) : List Bool := dW (lcgN s (8 * n))
/-- the word before it, is it closed -/
def clD (s : Int) : Nat → Bool
  | 0 => false
  | n + 1 => wClosed (wD s n)
def crD (s : Int) (n : Nat) : Int := if wClosed (wD s n) = true ∧ clD s n = true then sCross (wD s n) (wD s (n - 1)) else 0
def sDraw (n : Nat) (s what : Int) : Int := if what = 0 then cnt (fun k => wClosed (wD s k)) n else if what = 1 then sumN (fun k => if wClosed (wD s k) then wTrace (wD s k) else 0) n else if what = 2 then sumN (crD s) n else lcgN s (8 * n)
def sDrawn (n s what : Int) : Int := if (1 ≤ n ∧ n ≤ 40) ∧ 0 ≤ s ∧ 0 ≤ what ∧ what ≤ 3 then sDraw n.toNat s what else OUT
/-- counts -/
def nClosed (ws : Wss) : Int := cnt (fun k => wClosed (ws.getD k [])) ws.length
def isNewW (ws : Wss) (r : Nat) : Bool := allN (fun k => decide (wTurn (ws.getD k []) (ws.getD r []) = NON)) r
def nNew (ws : Wss) : Int := cnt (isNewW ws) ws.length
/-- all that is kept -/
def AS : Type := List Nat × Wss × Int × Int
def AS.pg (x : AS) : List Nat := x.1
def AS.ws (x : AS) : Wss := x.2.1
def AS.rdn (x : AS) : Int := x.2.2.1
def AS.d (x : AS) : Int := x.2.2.2
def sCount (x : AS) (what : Int) : Int := if what = 0 then x.ws.length else if what = 1 then nClosed x.ws else if what = 2 then nNew x.ws else if what = 3 then x.pg.length else if what = 4 then x.rdn else if what = 5 then nR x.d else if what = 6 then nC x.d else OUT
/-- an int as its 32 bits -/
def w32 (v : Int) : Int := (iI v).toInt
theorem w32_i (v : Int) : i32 (w32 v) := i32_of _
theorem iI_w (v : Int) : iI (w32 v) = iI v := iI_of _
/-- mixing -/
def mixL : List Int → Int → Int
  | [], h => h
  | v :: l, h => mixL l (31 * h + w32 v)
theorem mixL_app (a b : List Int) (h : Int) : mixL (a ++ b) h = mixL b (mixL a h) := by
  induction a generalizing h with
  | nil => rfl
  | cons v a ih => exact ih _
def rowL (f : Nat → Int) (n : Nat) : List Int := (List.range n).map f
theorem rowL_s (f : Nat → Int) (n : Nat) : rowL f (n + 1) = rowL f n ++ [f n] := by
  unfold rowL
  rw [List.range_succ, List.map_append]
  rfl
theorem mixL_s (f : Nat → Int) (n : Nat) (h : Int) : mixL (rowL f (n + 1)) h = 31 * mixL (rowL f n) h + w32 (f n) := by
  rw [rowL_s, mixL_app]
  rfl
def codeB (b : Bool) : Int := if b then 82 else 76
/-- a road's numbers -/
def rowRoad (w : List Bool) : List Int := rowL (fun k => wTold w k) 10 ++ (rowL (fun k => codeB (wl w k)) w.length ++ (rowL (fun k => tTold w k) 4 ++ (rowL (fun k => eTold w k) 2 ++ rowL (fun k => fTold w k) (if wClosed w then 5 else 0))))
def rowCross (u : List Bool) (v : List Bool) : List Int := if wClosed u = true ∧ wClosed v = true then [sCross u v] else []
/-- a concatenation of n rows -/
def catN (f : Nat → List Int) : Nat → List Int
  | 0 => []
  | n + 1 => catN f n ++ f n
theorem mixL_cat (f : Nat → List Int) (n : Nat) (h : Int) : mixL (catN f (n + 1)) h = mixL (f n) (mixL (catN f n) h) := mixL_app _ _ _
def rowRiver (d : Int) : List Int := catN (fun k => rowL (fun j => sNow d k j) 8) (nR d) ++ catN (fun c => rowL (fun j => cTold d c j) 5 ++ [trW 997 (wC d c)]) (nC d)
def rowAll (x : AS) : List Int := catN (fun r => rowRoad (x.ws.getD r [])) x.ws.length ++ (catN (fun i => catN (fun j => if i ≤ j then rowCross (x.ws.getD i []) (x.ws.getD j []) else []) x.ws.length) x.ws.length ++ (rowRiver x.d ++ (rowL (fun k => (x.pg.getD k 0 : Nat)) x.pg.length ++ rowL (fun k => sCount x k) 7)))
def sDigest (x : AS) : Int := mixL (rowAll x) 1549
theorem iI_64 (a : Int) : (iI a).toInt64 = lI (w32 a) := by rw [← iI_w a]; exact lI_i (w32_i a)
section ROW5
variable {Z : ZC} {y : MethodName} {cc : ByteArray} {nL : Nat} {rt : Option FieldType} {R : Room} {Γ : Gh → Prop} {n s pc : Nat} {lv : List (Option Value)} {st : List Value}
theorem r_i2lW {a : Int} (C : CC Z y cc nL rt R) (d : decode cc pc = .ok (.i2l, 1)) (k : WW Z nL Γ n s (pc + 1) lv (.long (lI (w32 a)) :: st)) : WW Z nL Γ n s pc lv (.int (iI a) :: st) := r_i2l C d (iI_64 a) k
end ROW5
/-- all that is kept, in the reference's fields -/
def MAt (st : MSt) (x : AS) : Prop := PageAt st x.pg ∧ RoadsAre st x.ws ∧ RivAt st x.d ∧ st.1 5 = x.rdn
theorem MAt.x {st st' : MSt} {x : AS} (h : MAt st x) (e : eqx tq st st') : MAt st' x := ⟨h.1.x e (by decide) (by decide), h.2.1.x e (by decide) (by decide) (by decide), h.2.2.1.x e (by decide), (e 5 (by decide)).1.trans h.2.2.2⟩
