/-! THE SPEC, part 2: answers about what was told and played -/
abbrev gr (σ : St) (j : Int) : Int := σ 0 (σ 11 0 + j)
def Pl (σ : St) (w g : Int → Int) : Prop := σ 18 0 = (rowG w g).length ∧ Row σ 14 15 (rowG w g) (rowG w g).length ∧ Snd σ 16 17 w (rowG w g) 0
def inK (a : Int → Int) (s k : Int) : Prop := 0 ≤ k ∧ k ≤ a s - 1
def sFault (a : Int → Int) (what : Int) : Int := if what = 0 then a 5 else if what = 1 then a 6 else -1
def sCount (a : Int → Int) (s : Int) : Int := if 0 ≤ s ∧ s ≤ 3 then a s else -2
def sWar (a : Int → Int) (k what : Int) : Int := if 0 ≤ k ∧ k ≤ a 0 - 1 then (if 0 ≤ what ∧ what ≤ 2 then wAt a k what else if 10 ≤ what ∧ what ≤ 13 then wAt a k (3 + what - 10) else if 20 ≤ what ∧ what ≤ 69 ∧ what % 10 ≤ 1 then wAt a k (7 + 2 * (what / 10 - 2) + what % 10) else -1) else -1
def sOrder (a : Int → Int) (k army o what : Int) : Int := if (0 ≤ k ∧ k ≤ a 0 - 1) ∧ (0 ≤ army ∧ army ≤ 1) ∧ (0 ≤ o ∧ o ≤ wAt a k (15 + army) - 1) then (if what = 0 then oMove (wAt a k) army o else if what = 1 then oLen (wAt a k) army o else if 10 ≤ what ∧ what ≤ 9 + oLen (wAt a k) army o then oBeat (wAt a k) army o (what - 10) else -1) else -1
def sGiven (a : Int → Int) (s gv k : Int) : Int := if (0 ≤ s ∧ s ≤ a 1 - 1) ∧ (0 ≤ gv ∧ gv ≤ 1) then (if k = -1 then gAt a s gv else if 0 ≤ k ∧ k ≤ gAt a s gv - 1 then gAt a s (2 + 12 * gv + k) else -1) else -1
noncomputable def sRow2 (w g : Int → Int) (k what : Int) : Int := if k = -1 then (if what = 0 then ((rowG w g).length : Int) else -2) else if 0 ≤ k ∧ k ≤ ((rowG w g).length : Int) - 1 then (if what = 0 then rf (rowG w g) k else if what = 1 then rg (rowG w g) k else if what = 2 then sd w (rf (rowG w g)) 0 k else if what = 3 then b2i (dP (ec w (rf (rowG w g)) 0 k)) else -2) else -2
def inWS (a : Int → Int) (k s : Int) : Prop := (0 ≤ k ∧ k ≤ a 0 - 1) ∧ (0 ≤ s ∧ s ≤ a 1 - 1)
noncomputable def sRow (a : Int → Int) (k s j what : Int) : Int := if dP (inWS a k s) = true then sRow2 (wAt a k) (gAt a s) j what else -2
noncomputable def hrd (w : Int → Int) (L : List (Int × Int)) (s a k : Int) : Int := sd w (rf L) s (plc w a k)
noncomputable def sHeard2 (w g : Int → Int) (army k : Int) : Int := if 0 ≤ army ∧ army ≤ 1 then (if k = -1 then hrs w ((rowG w g).length : Int) army else if 0 ≤ k ∧ k ≤ hrs w ((rowG w g).length : Int) army - 1 then hrd w (rowG w g) 0 army k else -1) else -1
noncomputable def sHeard (a : Int → Int) (k s army j : Int) : Int := if dP (inWS a k s) = true then sHeard2 (wAt a k) (gAt a s) army j else -1
theorem wr_at {σ' σ : St} {k : Int} (h0 : σ' 0 = σ 0) (h : σ' 10 0 = 610 + 89 * k) : wr σ' = wAt (σ 0) k := by
  funext j
  show σ' 0 (σ' 10 0 + j) = σ 0 (610 + 89 * k + j)
  rw [h0, h]
theorem gr_at {σ' σ : St} {k : Int} (h0 : σ' 0 = σ 0) (h : σ' 11 0 = 788 + 26 * k) : gr σ' = gAt (σ 0) k := by
  funext j
  show σ' 0 (σ' 11 0 + j) = σ 0 (788 + 26 * k + j)
  rw [h0, h]
