/-! THE SPEC, part 5: rows by numbers, forces, hearings, bribes -/
def p4 (n : Int) : Int := 4 ^ n.toNat
theorem p4_pos (n : Int) : 1 ≤ p4 n := by unfold p4; have h : (0 : Int) < 4 ^ n.toNat := Int.pow_pos (by decide); omega
theorem p4_s {n : Int} (h : 0 ≤ n) : p4 (n + 1) = 4 * p4 n := by
  unfold p4
  rw [show (n + 1).toNat = n.toNat + 1 by omega, Int.pow_succ, Int.mul_comm]
theorem p4_le {n : Int} (h : 0 ≤ n ∧ n ≤ 5) : p4 n ≤ 1024 := by
  rcases (show n = 0 ∨ n = 1 ∨ n = 2 ∨ n = 3 ∨ n = 4 ∨ n = 5 by omega) with rfl | rfl | rfl | rfl | rfl | rfl <;> decide
theorem p4_le3 {n : Int} (h : 0 ≤ n ∧ n ≤ 3) : p4 n ≤ 64 := by
  rcases (show n = 0 ∨ n = 1 ∨ n = 2 ∨ n = 3 by omega) with rfl | rfl | rfl | rfl <;> decide
theorem shl_p4 {n : Int} (h : 0 ≤ n ∧ n ≤ 5) : shlI 1 (2 * n) = p4 n := by
  rcases (show n = 0 ∨ n = 1 ∨ n = 2 ∨ n = 3 ∨ n = 4 ∨ n = 5 by omega) with rfl | rfl | rfl | rfl | rfl | rfl <;> decide
def dgt (code n k : Int) : Int := code / p4 (n - 1 - k) % 4
def digL (code n : Int) : List Int := (List.range n.toNat).map (fun k : Nat => dgt code n k)
theorem digL_len {code n : Int} (h : 0 ≤ n) : ((digL code n).length : Int) = n := by
  unfold digL
  rw [List.length_map, List.length_range]
  omega
theorem digL_at {code n i : Int} (h : 0 ≤ i ∧ i < n) : gi (digL code n) i = dgt code n i := by
  unfold gi digL
  rw [List.getD_eq_getElem?_getD, List.getElem?_map, List.getElem?_range (by omega)]
  show dgt code n ((i.toNat : Nat) : Int) = _
  rw [show ((i.toNat : Nat) : Int) = i by omega]
theorem digL_mem {code n : Int} : ∀ y ∈ digL code n, 0 ≤ y ∧ y ≤ 3 := by
  intro y hy
  unfold digL at hy
  obtain ⟨i, hi, rfl⟩ := List.mem_map.mp hy
  unfold dgt
  omega
/-- a giver's beats stand in the reference's arrays -/
def Gv (σ : St) (who : Int) (l : List Int) : Prop := σ 13 who = l.length ∧ ∀ i : Int, 0 ≤ i → i < l.length → σ 12 (12 * who + i) = gi l i
theorem Gv_eq {σ σ' : St} {who : Int} {l : List Int} (h : Gv σ who l) (h1 : σ' 12 = σ 12) (h2 : σ' 13 = σ 13) : Gv σ' who l := by
  unfold Gv
  rw [h1, h2]
  exact h
theorem Gv_sel {σ : St} {army : Int} {lA lB : List Int} (ha : 0 ≤ army ∧ army ≤ 1) (h1 : Gv σ army lA) (h2 : Gv σ (1 - army) lB) : Gv σ 0 (if army = 0 then lA else lB) ∧ Gv σ 1 (if army = 0 then lB else lA) := by
  rcases (show army = 0 ∨ army = 1 by omega) with rfl | rfl
  · exact ⟨h1, h2⟩
  · exact ⟨h2, h1⟩
def rowD (t : Nat) (army n code other : Int) : List (Int × Int) := rowL t (if army = 0 then digL code n else digL other n) (if army = 0 then digL other n else digL code n)
theorem rowD_len {t : Nat} {army n code other : Int} (ht : 0 < t) (hn : 0 ≤ n) : ((rowD t army n code other).length : Int) = 2 * n := by
  unfold rowD
  rw [rowL_len ht _ _ _ (Nat.le_refl _)]
  have e1 := digL_len (code := code) hn
  have e2 := digL_len (code := other) hn
  split <;> omega
theorem rowD_V {t : Nat} {army n code other : Int} : rowV (rowD t army n code other) := by
  unfold rowD
  refine (rowL_V ?_ ?_).1
  · split <;> exact digL_mem
  · split <;> exact digL_mem
def hasM (w : Int → Int) (L : List (Int × Int)) (s a mv : Int) : Prop := ∃ j : Int, 0 ≤ j ∧ j < (mvs w L s a).length ∧ oMove w a (rf (mvs w L s a) j) = mv
def hasU (w : Int → Int) (L : List (Int × Int)) (s a mv n : Int) : Prop := ∃ j : Int, 0 ≤ j ∧ j < n ∧ oMove w a (rf (mvs w L s a) j) = mv
theorem hasU_0 {w : Int → Int} {L : List (Int × Int)} {s a mv : Int} : ¬ hasU w L s a mv 0 := fun ⟨j, h1, h2, _⟩ => by omega
theorem hasU_s {w : Int → Int} {L : List (Int × Int)} {s a mv n : Int} (hn : 0 ≤ n) : hasU w L s a mv (n + 1) ↔ hasU w L s a mv n ∨ oMove w a (rf (mvs w L s a) n) = mv := by
  constructor
  · rintro ⟨i, h1, h2, h3⟩
    rcases (show i < n ∨ i = n by omega) with h4 | h4
    · exact Or.inl ⟨i, h1, h4, h3⟩
    · subst h4; exact Or.inr h3
  · rintro (⟨i, h1, h2, h3⟩ | h)
    · exact ⟨i, h1, by omega, h3⟩
    · exact ⟨n, hn, by omega, h⟩
/-- all numbers below n -/
def allU (P : Int → Prop) (n : Int) : Prop := ∀ j : Int, 0 ≤ j → j < n → P j
theorem allU_0 {P : Int → Prop} : allU P 0 := fun j h1 h2 => absurd h2 (by omega)
theorem allU_s {P : Int → Prop} {n : Int} (h : allU P n) (hn : 0 ≤ n) : allU P (n + 1) ↔ P n := by
  constructor
  · intro h2; exact h2 n hn (by omega)
  · intro h2 j j1 j2
    rcases (show j < n ∨ j = n by omega) with h3 | h3
    · exact h j j1 h3
    · subst h3; exact h2
theorem allU_end {P : Int → Prop} {i n : Int} (h : i ≤ n) (h2 : n ≤ i ∨ ¬ allU P i) : allU P i ↔ allU P n := by
  constructor
  · intro h3
    rcases h2 with h2 | h2
    · intro j j1 j2; exact h3 j j1 (by omega)
    · exact absurd h3 h2
  · intro h3 j j1 j2; exact h3 j j1 (by omega)
/-- the first number below n with a property, -1: none -/
noncomputable def fsN (P : Int → Prop) : Nat → Int
  | 0 => -1
  | n + 1 => if fsN P n = -1 then (if dP (P n) = true then (n : Int) else -1) else fsN P n
noncomputable def fsI (P : Int → Prop) (n : Int) : Int := fsN P n.toNat
theorem fsI_0 (P : Int → Prop) : fsI P 0 = -1 := rfl
theorem fsI_s (P : Int → Prop) {n : Int} (h : 0 ≤ n) : fsI P (n + 1) = if fsI P n = -1 then (if dP (P n) = true then n else -1) else fsI P n := by
  unfold fsI
  rw [show (n + 1).toNat = n.toNat + 1 by omega]
  show (if fsN P n.toNat = -1 then (if dP (P ((n.toNat : Nat) : Int)) = true then ((n.toNat : Nat) : Int) else -1) else fsN P n.toNat) = _
  rw [show ((n.toNat : Nat) : Int) = n by omega]
theorem fsI_no (P : Int → Prop) {n : Int} (h : 0 ≤ n) (hp : ¬ P n) : fsI P (n + 1) = fsI P n := by
  rw [fsI_s P h, if_neg (fun z => hp (dP_t.mp z))]
  split
  · rename_i z; exact z.symm
  · rfl
theorem fsI_yes (P : Int → Prop) {n : Int} (h : 0 ≤ n) (hp : P n) : fsI P (n + 1) = if fsI P n = -1 then n else fsI P n := by
  rw [fsI_s P h, if_pos (dP_t.mpr hp)]
theorem cnI_no (P : Int → Prop) {n : Int} (h : 0 ≤ n) (hp : ¬ P n) : cnI P (n + 1) = cnI P n := by
  rw [cnI_s P h, dP_f.mpr hp, b2i_f]; omega
theorem cnI_yes (P : Int → Prop) {n : Int} (h : 0 ≤ n) (hp : P n) : cnI P (n + 1) = cnI P n + 1 := by
  rw [cnI_s P h, dP_t.mpr hp, b2i_t]
theorem fsI_rng (P : Int → Prop) {n : Int} (h : 0 ≤ n) : -1 ≤ fsI P n ∧ fsI P n < n ∨ fsI P n = -1 := by
  unfold fsI
  have key : ∀ k : Nat, -1 ≤ fsN P k ∧ (fsN P k < k ∨ fsN P k = -1) := by
    intro k
    induction k with
    | zero => exact ⟨Int.le_refl _, Or.inr rfl⟩
    | succ k ih =>
      unfold fsN
      split
      · split <;> omega
      · omega
  have := key n.toNat
  omega
theorem fsI_none (P : Int → Prop) {n : Int} (h : 0 ≤ n) : fsI P n = -1 ↔ allU (fun j => ¬ P j) n := by
  unfold fsI
  have key : ∀ k : Nat, fsN P k = -1 ↔ allU (fun j => ¬ P j) k := by
    intro k
    induction k with
    | zero => exact ⟨fun _ => allU_0, fun _ => rfl⟩
    | succ k ih =>
      unfold fsN
      by_cases h1 : fsN P k = -1
      · rw [if_pos h1]
        have h2 := ih.mp h1
        rw [show ((k + 1 : Nat) : Int) = (k : Int) + 1 by omega, allU_s h2 (by omega)]
        by_cases h3 : P k
        · rw [if_pos (dP_t.mpr h3)]
          exact ⟨fun z => absurd z (by omega), fun z => absurd h3 z⟩
        · rw [if_neg (fun z => h3 (dP_t.mp z))]
          exact ⟨fun _ => h3, fun _ => rfl⟩
      · rw [if_neg h1]
        refine ⟨fun z => absurd z h1, fun z => absurd (ih.mpr (fun j j1 j2 => z j j1 (by omega))) h1⟩
  have := key n.toNat
  rw [show ((n.toNat : Nat) : Int) = n by omega] at this
  exact this
theorem fsI_first (P : Int → Prop) {n : Int} (h : 0 ≤ n) (hp : P n) (hn : fsI P n = -1) : ∀ m : Int, n < m → fsI P m = n := by
  have h1 := fsI_yes P h hp
  rw [if_pos hn] at h1
  have key : ∀ k : Nat, fsI P (n + 1 + k) = n := by
    intro k
    induction k with
    | zero => rw [show n + 1 + ((0 : Nat) : Int) = n + 1 by omega]; exact h1
    | succ k ih =>
      rw [show n + 1 + ((k + 1 : Nat) : Int) = n + 1 + k + 1 by omega, fsI_s P (by omega), ih, if_neg (by omega)]
  intro m hm
  have := key (m - n - 1).toNat
  rw [show n + 1 + (((m - n - 1).toNat : Nat) : Int) = m by omega] at this
  exact this
def forc (w : Int → Int) (army mv n code : Int) : Prop := allU (fun other => hasM w (rowD (w 0).toNat army n code other) 0 army mv) (p4 n)
noncomputable def sForce (a : Int → Int) (k army mv n : Int) (many : Bool) : Int := if (0 ≤ k ∧ k ≤ a 0 - 1) ∧ (0 ≤ army ∧ army ≤ 1) ∧ (0 ≤ mv ∧ mv ≤ 4) ∧ (0 ≤ n ∧ n ≤ 3) then (if many = true then cnI (forc (wAt a k) army mv n) (p4 n) else fsI (forc (wAt a k) army mv n) (p4 n)) else -2
def sTold (a : Int → Int) (k army j : Int) : Int := if (0 ≤ k ∧ k ≤ a 2 - 1) ∧ (0 ≤ army ∧ army ≤ 1) then (if j = -1 then hAt a k army else if 0 ≤ j ∧ j ≤ hAt a k army - 1 then hAt a k (2 + 6 * army + j) else -2) else -2
/-- an army made just what is told of it -/
def soA (w : Int → Int) (L : List (Int × Int)) (s : Int) (h : Int → Int) (x : Int) : Prop := h x = -1 ∨ (((mvs w L s x).length : Int) = h x ∧ allU (fun j => oMove w x (rf (mvs w L s x) j) = h (2 + 6 * x + j)) (mvs w L s x).length)
def soP (w : Int → Int) (L : List (Int × Int)) (s : Int) (h : Int → Int) : Prop := allU (soA w L s h) 2
abbrev hR (σ : St) (j : Int) : Int := σ 0 (σ 25 0 + j)
def isU (w : Int → Int) (L : List (Int × Int)) (s : Int) (h : Int → Int) (x k : Int) : Prop := allU (soA w L s h) x ∧ ((mvs w L s x).length : Int) = h x ∧ allU (fun j => oMove w x (rf (mvs w L s x) j) = h (2 + 6 * x + j)) k
theorem isU_s {w : Int → Int} {L : List (Int × Int)} {s : Int} {h : Int → Int} {x k : Int} (hi : isU w L s h x k) (hk : 0 ≤ k) : isU w L s h x (k + 1) ↔ oMove w x (rf (mvs w L s x) k) = h (2 + 6 * x + k) := by
  constructor
  · intro h2; exact (allU_s hi.2.2 hk).mp h2.2.2
  · intro h2; exact ⟨hi.1, hi.2.1, (allU_s hi.2.2 hk).mpr h2⟩
theorem isU_end {w : Int → Int} {L : List (Int × Int)} {s : Int} {h : Int → Int} {x k : Int} (hx : 0 ≤ x) (hne : h x ≠ -1) (hk : k ≤ (mvs w L s x).length) (h2 : ((mvs w L s x).length : Int) ≤ k ∨ ¬ isU w L s h x k) : isU w L s h x k ↔ allU (soA w L s h) (x + 1) := by
  constructor
  · intro h3
    rcases h2 with h2 | h2
    · rw [allU_s h3.1 hx]
      exact Or.inr ⟨h3.2.1, fun j j1 j2 => h3.2.2 j j1 (by omega)⟩
    · exact absurd h3 h2
  · intro h3
    have h4 : allU (soA w L s h) x := fun j j1 j2 => h3 j j1 (by omega)
    rcases (allU_s h4 hx).mp h3 with h5 | h5
    · exact absurd h5 hne
    · exact ⟨h4, h5.1, fun j j1 j2 => h5.2 j j1 (by omega)⟩
theorem allU_add {P : Int → Prop} {n : Int} (hn : 0 ≤ n) (hp : P n) : allU P n ↔ allU P (n + 1) := ⟨fun h => (allU_s h hn).mpr hp, fun h j j1 j2 => h j j1 (by omega)⟩
/-! bits of sets -/
noncomputable def popN (x : Int) : Nat → Int
  | 0 => 0
  | n + 1 => popN x n + andI (shrI x n) 1
def popI (x : Int) : Int := (List.range 24).foldl (fun (s : Int) (k : Nat) => s + andI (shrI x k) 1) 0
def popU (x n : Int) : Int := (List.range n.toNat).foldl (fun (s : Int) (k : Nat) => s + andI (shrI x k) 1) 0
theorem popU_s {x n : Int} (h : 0 ≤ n) : popU x (n + 1) = popU x n + andI (shrI x n) 1 := by
  unfold popU
  rw [show (n + 1).toNat = n.toNat + 1 by omega, List.range_succ, List.foldl_append]
  show _ + andI (shrI x ((n.toNat : Nat) : Int)) 1 = _
  rw [show ((n.toNat : Nat) : Int) = n by omega]
theorem popU_rng (x : Int) : ∀ n : Nat, 0 ≤ popU x n ∧ popU x n ≤ n := by
  intro n
  induction n with
  | zero => exact ⟨Int.le_refl _, Int.le_refl _⟩
  | succ n ih =>
    have h1 := popU_s (x := x) (n := n) (by omega)
    rw [show ((n + 1 : Nat) : Int) = (n : Int) + 1 by omega, h1]
    rcases and1 (shrI x n) with h | h <;> omega
theorem popU_rngI (x : Int) {n : Int} (h : 0 ≤ n) : 0 ≤ popU x n ∧ popU x n ≤ n := by
  have := popU_rng x n.toNat
  rw [show ((n.toNat : Nat) : Int) = n by omega] at this
  exact this
/-- the rests of a row as a set -/
def rsU (L : List (Int × Int)) : Nat → Int
  | 0 => 0
  | n + 1 => orI (rsU L n) (if rf L n = 0 then shlI 1 n else 0)
def rsI (L : List (Int × Int)) (n : Int) : Int := rsU L n.toNat
theorem rsI_s {L : List (Int × Int)} {n : Int} (h : 0 ≤ n) : rsI L (n + 1) = orI (rsI L n) (if rf L n = 0 then shlI 1 n else 0) := by
  unfold rsI
  rw [show (n + 1).toNat = n.toNat + 1 by omega]
  show orI (rsU L n.toNat) (if rf L ((n.toNat : Nat) : Int) = 0 then shlI 1 ((n.toNat : Nat) : Int) else 0) = _
  rw [show ((n.toNat : Nat) : Int) = n by omega]
def p2 (n : Int) : Int := 2 ^ n.toNat
theorem shl_p2 {n : Int} (h : 0 ≤ n ∧ n ≤ 12) : shlI 1 n = p2 n ∧ 1 ≤ p2 n ∧ p2 n ≤ 4096 := by
  rcases (show n = 0 ∨ n = 1 ∨ n = 2 ∨ n = 3 ∨ n = 4 ∨ n = 5 ∨ n = 6 ∨ n = 7 ∨ n = 8 ∨ n = 9 ∨ n = 10 ∨ n = 11 ∨ n = 12 by omega) with rfl | rfl | rfl | rfl | rfl | rfl | rfl | rfl | rfl | rfl | rfl | rfl | rfl <;> decide
def brP (w : Int → Int) (L : List (Int × Int)) (h : Int → Int) (set : Int) : Prop := andI set (rsI L L.length) = 0 ∧ soP w L set h
/-- the best of the sets below n: the fewest, of those the first -/
noncomputable def bbN (P : Int → Prop) : Nat → Int
  | 0 => -1
  | n + 1 => if dP (P n ∧ (bbN P n = -1 ∨ popU n 24 < popU (bbN P n) 24)) = true then (n : Int) else bbN P n
noncomputable def bbI (P : Int → Prop) (n : Int) : Int := bbN P n.toNat
theorem bbI_s {P : Int → Prop} {n : Int} (h : 0 ≤ n) : bbI P (n + 1) = if dP (P n ∧ (bbI P n = -1 ∨ popU n 24 < popU (bbI P n) 24)) = true then n else bbI P n := by
  unfold bbI
  rw [show (n + 1).toNat = n.toNat + 1 by omega]
  show (if dP (P ((n.toNat : Nat) : Int) ∧ (bbN P n.toNat = -1 ∨ popU ((n.toNat : Nat) : Int) 24 < popU (bbN P n.toNat) 24)) = true then ((n.toNat : Nat) : Int) else bbN P n.toNat) = _
  rw [show ((n.toNat : Nat) : Int) = n by omega]
theorem bbI_rng {P : Int → Prop} {n : Int} (h : 0 ≤ n) : -1 ≤ bbI P n ∧ (bbI P n < n ∨ bbI P n = -1) := by
  unfold bbI
  have key : ∀ k : Nat, -1 ≤ bbN P k ∧ (bbN P k < k ∨ bbN P k = -1) := by
    intro k
    induction k with
    | zero => exact ⟨Int.le_refl _, Or.inr rfl⟩
    | succ k ih => unfold bbN; split <;> omega
  have := key n.toNat
  omega
noncomputable def sBrib2 (w : Int → Int) (L : List (Int × Int)) (h : Int → Int) (what : Int) : Int := if what = 0 then cnI (brP w L h) (p2 L.length) else if bbI (brP w L h) (p2 L.length) = -1 ∨ what = 2 then bbI (brP w L h) (p2 L.length) else popU (bbI (brP w L h) (p2 L.length)) 24
noncomputable def sBribes (a : Int → Int) (k s h what : Int) : Int := if dP (inWS a k s ∧ (0 ≤ h ∧ h ≤ a 2 - 1) ∧ ((rowG (wAt a k) (gAt a s)).length : Int) ≤ 12 ∧ (0 ≤ what ∧ what ≤ 2)) = true then sBrib2 (wAt a k) (rowG (wAt a k) (gAt a s)) (hAt a h) what else -1
def mnP (w g h : Int → Int) (n code : Int) : Prop := soP w (rowL (w 0).toNat (gl g 0) (digL code n)) 0 h
noncomputable def sMeant (a : Int → Int) (k s h n : Int) (first : Bool) : Int := if dP (inWS a k s ∧ (0 ≤ h ∧ h ≤ a 2 - 1) ∧ (0 ≤ n ∧ n ≤ 5)) = true then (if first = true then fsI (mnP (wAt a k) (gAt a s) (hAt a h) n) (p4 n) else cnI (mnP (wAt a k) (gAt a s) (hAt a h) n) (p4 n)) else -2
def trP (w : Int → Int) (one other n code : Int) : Prop := hasM w (rowL (w 0).toNat (digL code n) []) 0 0 one ∧ hasM w (rowL (w 0).toNat (digL code n) []) 0 1 other
noncomputable def trF (w : Int → Int) (one other : Int) (row : Bool) (n : Int) : Nat → Int
  | 0 => -1
  | f + 1 => if fsI (trP w one other n) (p4 n) ≠ -1 then (if row = true then fsI (trP w one other n) (p4 n) else n) else trF w one other row (n + 1) f
noncomputable def sTruce (a : Int → Int) (k one other : Int) (row : Bool) : Int := if (0 ≤ k ∧ k ≤ a 0 - 1) ∧ (0 ≤ one ∧ one ≤ 4) ∧ (0 ≤ other ∧ other ≤ 4) then trF (wAt a k) one other row 0 6 else -1
theorem hR_at {σ' σ : St} {k : Int} (h0 : σ' 0 = σ 0) (h : σ' 25 0 = 840 + 14 * k) : hR σ' = hAt (σ 0) k := by
  funext j
  show σ' 0 (σ' 25 0 + j) = σ 0 (840 + 14 * k + j)
  rw [h0, h]
theorem trF_no {w : Int → Int} {one other : Int} {row : Bool} {n : Int} {f : Nat} (h : fsI (trP w one other n) (p4 n) = -1) : trF w one other row n (f + 1) = trF w one other row (n + 1) f := by
  rw [trF, if_neg (by rw [h]; decide)]
