/-! THE SPEC, part 10: other beats given -/
def cF (x : Int) : Int := if x = -1 then 999 else x
theorem cF_mn {x y : Int} (hx : -1 ≤ x ∧ x ≤ 25) (hy : -1 ≤ y ∧ y ≤ 25) : min (cF x) (1 + cF y) = cF (mnF x y) := by
  unfold cF mnF
  split <;> split <;> (try split) <;> (try split) <;> omega
def stR (L : List (Int × Int)) (p x : Int) : List (Int × Int) := L.set p.toNat (x, rg L p)
theorem stR_len {L : List (Int × Int)} {p x : Int} : (stR L p x).length = L.length := by unfold stR; rw [List.length_set]
theorem stR_rf {L : List (Int × Int)} {p x i : Int} (hp : 0 ≤ p ∧ p < L.length) (hi : 0 ≤ i) : rf (stR L p x) i = if i = p then x else rf L i := by
  unfold rf stR
  rw [List.getD_eq_getElem?_getD, List.getD_eq_getElem?_getD, List.getElem?_set]
  by_cases h : i = p
  · subst h
    rw [if_pos rfl, if_pos (by omega), if_pos rfl]
    rfl
  · rw [if_neg (by omega), if_neg h]
theorem stR_V {L : List (Int × Int)} {p x : Int} (hv : rowV L) (hp : 0 ≤ p ∧ p < L.length) (hx : 0 ≤ x ∧ x ≤ 3) : rowV (stR L p x) := by
  intro i h1 h2
  rw [stR_len] at h2
  rw [stR_rf hp h1]
  split
  · exact hx
  · exact hv i h1 h2
def fxC (w : Int → Int) (L : List (Int × Int)) (a mv p q cd : Int) : Prop := cd / 4 ≠ rf L p ∧ cd % 4 ≠ rf L q ∧ (p = q → cd / 4 = cd % 4) ∧ hasM w (stR (stR L p (cd / 4)) q (cd % 4)) 0 a mv
def exU (P : Int → Prop) (n : Int) : Prop := ∃ j : Int, 0 ≤ j ∧ j < n ∧ P j
theorem exU_0 {P : Int → Prop} : ¬ exU P 0 := fun ⟨j, h1, h2, _⟩ => by omega
theorem exU_s {P : Int → Prop} {n : Int} (hn : 0 ≤ n) : exU P (n + 1) ↔ exU P n ∨ P n := by
  constructor
  · rintro ⟨i, h1, h2, h3⟩
    rcases (show i < n ∨ i = n by omega) with h4 | h4
    · exact Or.inl ⟨i, h1, h4, h3⟩
    · subst h4; exact Or.inr h3
  · rintro (⟨i, h1, h2, h3⟩ | h)
    · exact ⟨i, h1, by omega, h3⟩
    · exact ⟨n, hn, by omega, h⟩
theorem exU_end {P : Int → Prop} {i n : Int} (h : i ≤ n) (h2 : n ≤ i ∨ exU P i) : exU P i ↔ exU P n := by
  constructor
  · rintro ⟨j, j1, j2, j3⟩; exact ⟨j, j1, by omega, j3⟩
  · rintro ⟨j, j1, j2, j3⟩
    rcases h2 with h2 | h2
    · exact ⟨j, j1, by omega, j3⟩
    · exact h2
def fxP (w : Int → Int) (L : List (Int × Int)) (a mv p q : Int) : Prop := exU (fxC w L a mv p q) 16
noncomputable def fxF (P : Int → Int → Prop) (g : Int → Int → Int) : Nat → Int → Int
  | 0, _ => -1
  | f + 1, b => if fsI (fun x => P x b) b ≠ -1 then g (fsI (fun x => P x b) b) b else fxF P g f (b + 1)
theorem fxF_no {P : Int → Int → Prop} {g : Int → Int → Int} {f : Nat} {b : Int} (h : fsI (fun x => P x b) b = -1) : fxF P g (f + 1) b = fxF P g f (b + 1) := by rw [fxF, if_neg (by rw [h]; decide)]
theorem fxF_yes {P : Int → Int → Prop} {g : Int → Int → Int} {f : Nat} {b x : Int} (h : fsI (fun x => P x b) b = x) (hx : x ≠ -1) : fxF P g (f + 1) b = g x b := by rw [fxF, if_pos (by rw [h]; exact hx), h]
noncomputable def sFix2 (w : Int → Int) (L : List (Int × Int)) (a mv : Int) (bits : Bool) : Int := if dP (hasM w L 0 a mv) = true then 0 else if fsI (fun p => fxP w L a mv p p) L.length ≠ -1 then (if bits = true then shlI 1 (fsI (fun p => fxP w L a mv p p) L.length) else 1) else fxF (fxP w L a mv) (fun x b => if bits = true then orI (shlI 1 x) (shlI 1 b) else 2) ((L.length : Int) - 1).toNat 1
noncomputable def sFix (a : Int → Int) (k s army mv : Int) (bits : Bool) : Int := if dP (inWS a k s ∧ (0 ≤ army ∧ army ≤ 1) ∧ (0 ≤ mv ∧ mv ≤ 4)) = true then sFix2 (wAt a k) (rowG (wAt a k) (gAt a s)) army mv bits else -1
