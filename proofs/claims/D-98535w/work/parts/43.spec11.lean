/-! THE SPEC, part 11: the tape, images -/
def fdW (v0 v1 v2 v3 v4 i : Int) : Int := if i < 4 then v0 else if i < 8 then v1 else if i < 12 then v2 else if i < 16 then v3 else v4
def fdB (v0 v1 v2 v3 v4 i : Int) : Int := andI (shrI (fdW v0 v1 v2 v3 v4 i) (24 - 8 * (i % 4))) 255
def fedU (a : Int → Int) (v0 v1 v2 v3 v4 n : Int) : Int → Int := fun j => if j = 4 then a 4 + n else if 10 + a 4 ≤ j ∧ j < 10 + a 4 + n then fdB v0 v1 v2 v3 v4 (j - 10 - a 4) else a j
def sFeed (a : Int → Int) : Int := if a 4 + 20 ≤ 600 then a 4 + 20 else -1
def fedA (a : Int → Int) (v0 v1 v2 v3 v4 : Int) : Int → Int := if a 4 + 20 ≤ 600 then fedU a v0 v1 v2 v3 v4 20 else a
theorem fedU_s {a : Int → Int} {v0 v1 v2 v3 v4 n : Int} (ha : 0 ≤ a 4) (hn : 0 ≤ n) (j : Int) : fedU a v0 v1 v2 v3 v4 (n + 1) j = if j = 4 then a 4 + n + 1 else if j = 10 + (a 4 + n) then fdB v0 v1 v2 v3 v4 n else fedU a v0 v1 v2 v3 v4 n j := by
  unfold fedU
  by_cases h : j = 4
  · rw [if_pos h, if_pos h]; omega
  · rw [if_neg h, if_neg h]
    by_cases h2 : j = 10 + (a 4 + n)
    · rw [if_pos h2, if_pos (by omega), show j - 10 - a 4 = n by omega]
    · rw [if_neg h2, if_neg h]
      by_cases h3 : 10 + a 4 ≤ j ∧ j < 10 + a 4 + n
      · rw [if_pos h3, if_pos (by omega)]
      · rw [if_neg h3, if_neg (by omega)]
def imgU (a : Int → Int) (k n : Int) : Int → Int := fun j => if 934 * (k + 1) ≤ j ∧ j < 934 * (k + 1) + n then a (j - 934 * (k + 1)) else a j
def agnU (a : Int → Int) (k n : Int) : Int → Int := fun j => if 0 ≤ j ∧ j < n then a (934 * (k + 1) + j) else a j
