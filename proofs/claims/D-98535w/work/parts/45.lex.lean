/-! THE SPEC, part 12: tokens of the tape -/
def bA (t : Int → Int) (n p : Int) : Int := if p < n then t p else -1
/-- from p on as long as P holds -/
noncomputable def adv (P : Int → Prop) (p : Int) : Int := lcU P (601 - p).toNat p
theorem adv_y {P : Int → Prop} {p : Int} (h : P p) (hp : p ≤ 600) : adv P p = adv P (p + 1) := by
  unfold adv
  rw [show (601 - p).toNat = (601 - (p + 1)).toNat + 1 by omega, lcU_y h]
theorem adv_n {P : Int → Prop} {p : Int} (h : ¬ P p) : adv P p = p := by
  unfold adv
  cases hf : (601 - p).toNat with
  | zero => rfl
  | succ f => exact lcU_n h
theorem adv_rng {P : Int → Prop} {p : Int} (h : p ≤ 601) : p ≤ adv P p ∧ adv P p ≤ 601 := by
  have := lcU_rng (P := P) (601 - p).toNat p
  unfold adv
  omega
/-- all between hold it -/
theorem adv_all {P : Int → Prop} : ∀ (f : Nat) (p : Int), (601 - p).toNat ≤ f → ∀ q : Int, p ≤ q → q < adv P p → P q := by
  intro f
  induction f with
  | zero =>
    intro p h q h1 h2
    have e : adv P p = p := by unfold adv; rw [show (601 - p).toNat = 0 by omega]; rfl
    omega
  | succ f ih =>
    intro p h q h1 h2
    by_cases hp : P p
    · rcases (show q = p ∨ p + 1 ≤ q by omega) with z | z
      · rw [z]; exact hp
      · by_cases h6 : p ≤ 600
        · rw [adv_y hp h6] at h2
          exact ih (p + 1) (by omega) q z h2
        · have e : adv P p = p := by unfold adv; rw [show (601 - p).toNat = 0 by omega]; rfl
          omega
    · rw [adv_n hp] at h2; omega
def isL (b : Int) : Prop := 97 ≤ b ∧ b ≤ 122
def isD (b : Int) : Prop := 48 ≤ b ∧ b ≤ 57
noncomputable def wsE (t : Int → Int) (n p : Int) : Int := adv (fun q => bA t n q = 10 ∨ bA t n q = 32) p
noncomputable def leE (t : Int → Int) (n p : Int) : Int := adv (fun q => 97 ≤ bA t n q ∧ bA t n q ≤ 122) p
noncomputable def dgE (t : Int → Int) (n p : Int) : Int := adv (fun q => 48 ≤ bA t n q ∧ bA t n q ≤ 57) p
theorem bA_le {t : Int → Int} {n p : Int} (h : 0 ≤ bA t n p) : p < n := by
  unfold bA at h
  split at h
  · assumption
  · omega
def numU (t : Int → Int) (q : Int) : Nat → Int
  | 0 => 0
  | j + 1 => if j < 2 then 10 * numU t q j + t (q + j) - 48 else numU t q j
def numI (t : Int → Int) (q j : Int) : Int := numU t q j.toNat
theorem numI_s {t : Int → Int} {q j : Int} (h : 0 ≤ j) : numI t q (j + 1) = if j < 2 then 10 * numI t q j + t (q + j) - 48 else numI t q j := by
  unfold numI
  rw [show (j + 1).toNat = j.toNat + 1 by omega]
  show (if j.toNat < 2 then 10 * numU t q j.toNat + t (q + ((j.toNat : Nat) : Int)) - 48 else numU t q j.toNat) = _
  rw [show ((j.toNat : Nat) : Int) = j by omega]
  by_cases h2 : j < 2
  · rw [if_pos h2, if_pos (by omega)]
  · rw [if_neg h2, if_neg (by omega)]
theorem numI_rng {t : Int → Int} {q : Int} : ∀ j : Nat, (∀ i : Int, 0 ≤ i → i < j → 48 ≤ t (q + i) ∧ t (q + i) ≤ 57) → 0 ≤ numU t q j ∧ numU t q j ≤ 99 ∧ (j ≤ 1 → numU t q j ≤ 9) ∧ (j = 0 → numU t q j = 0) := by
  intro j
  induction j with
  | zero => intro _; simp [numU]
  | succ j ih =>
    intro h
    have h1 := ih (fun i i1 i2 => h i i1 (by omega))
    have h2 := h j (by omega) (by omega)
    unfold numU
    split <;> omega
/-- a word's letters, the last first -/
def wlr (t : Int → Int) (q : Int) : Nat → List Int
  | 0 => []
  | j + 1 => t (q + j) :: wlr t q j
def wlI (t : Int → Int) (q j : Int) : List Int := wlr t q j.toNat
theorem wlI_s {t : Int → Int} {q j : Int} (h : 0 ≤ j) : wlI t q (j + 1) = t (q + j) :: wlI t q j := by
  unfold wlI
  rw [show (j + 1).toNat = j.toNat + 1 by omega]
  show t (q + ((j.toNat : Nat) : Int)) :: _ = _
  rw [show ((j.toNat : Nat) : Int) = j by omega]
theorem wlr_len {t : Int → Int} {q : Int} : ∀ j : Nat, (wlr t q j).length = j := by
  intro j
  induction j with
  | zero => rfl
  | succ j ih => unfold wlr; rw [List.length_cons, ih]
def pk5 : List Int → Int
  | [] => 0
  | b :: l => 32 * pk5 l + (b - 96)
def letL (l : List Int) : Prop := ∀ b ∈ l, 97 ≤ b ∧ b ≤ 122
theorem pk5_pos {b : Int} {l : List Int} (h : letL (b :: l)) : 1 ≤ pk5 (b :: l) ∧ 0 ≤ pk5 l := by
  induction l generalizing b with
  | nil =>
    have := h b List.mem_cons_self
    simp [pk5]; omega
  | cons x l ih =>
    have h1 := h b List.mem_cons_self
    have h2 := ih (b := x) (fun y hy => h y (List.mem_cons_of_mem _ hy))
    refine ⟨?_, by omega⟩
    show 1 ≤ 32 * pk5 (x :: l) + (b - 96)
    omega
theorem pk5_inj : ∀ (l l' : List Int), letL l → letL l' → pk5 l = pk5 l' → l = l' := by
  intro l
  induction l with
  | nil =>
    intro l' _ h' e
    cases l' with
    | nil => rfl
    | cons b l' =>
      have := (pk5_pos h').1
      rw [← e] at this
      simp [pk5] at this
  | cons b l ih =>
    intro l' h h' e
    cases l' with
    | nil =>
      have := (pk5_pos h).1
      rw [e] at this
      simp [pk5] at this
    | cons b' l' =>
      have h1 := h b List.mem_cons_self
      have h2 := h' b' List.mem_cons_self
      have e2 : 32 * pk5 l + (b - 96) = 32 * pk5 l' + (b' - 96) := e
      have e3 : b = b' := by omega
      have e4 : pk5 l = pk5 l' := by omega
      rw [e3, ih l' (fun y hy => h y (List.mem_cons_of_mem _ hy)) (fun y hy => h' y (List.mem_cons_of_mem _ hy)) e4]
theorem pk5_rng : ∀ (l : List Int), letL l → l.length ≤ 8 → 0 ≤ pk5 l ∧ pk5 l < 1099511627776 := by
  have key : ∀ (l : List Int), letL l → 0 ≤ pk5 l ∧ pk5 l < 32 ^ l.length := by
    intro l
    induction l with
    | nil => intro _; simp [pk5]
    | cons b l ih =>
      intro h
      have h1 := h b List.mem_cons_self
      have h2 := ih (fun y hy => h y (List.mem_cons_of_mem _ hy))
      have e : (32 : Int) ^ (b :: l).length = 32 * 32 ^ l.length := by rw [List.length_cons, Int.pow_succ, Int.mul_comm]
      have e2 : pk5 (b :: l) = 32 * pk5 l + (b - 96) := rfl
      omega
  intro l h hl
  have h1 := key l h
  have h2 : (32 : Int) ^ l.length ≤ 32 ^ 8 := by
    have h3 : (32 : Nat) ^ l.length ≤ 32 ^ 8 := Nat.pow_le_pow_right (by decide) hl
    exact_mod_cast h3
  have h4 : (32 : Int) ^ 8 = 1099511627776 := by decide
  omega

def wrdB (v : Int) : Int := if v = 263572 then 14 else if v = 398548 then 15 else if v = 19176724 then 16 else if v = 109103333 then 17 else if v = 19516691508 then 18 else if v = 7657651 then 19 else if v = 427141 then 20 else if v = 150000 then 21 else if v = 646192 then 22 else if v = 21734501 then 23 else if v = 394868 then 24 else 99
def wrdN (v : Int) : Int := if v = 677454 then 1 else if v = 21285028 then 2 else if v = 167183 then 3 else if v = 23732 then 4 else if v = 215533 then 5 else if v = 643248 then 6 else if v = 12327 then 7 else if v = 17171557 then 8 else if v = 16322738 then 9 else if v = 595572 then 10 else if v = 20528 then 11 else if v = 208941 then 12 else if v = 605580 then 13 else wrdB v
abbrev wd1 : List Int := [110, 114, 117, 116]
abbrev wd2 : List Int := [100, 101, 114, 105, 116]
abbrev wd3 : List Int := [111, 104, 99, 101]
abbrev wd4 : List Int := [116, 101, 119]
abbrev wd5 : List Int := [109, 111, 114, 102]
abbrev wd6 : List Int := [112, 101, 116, 115]
abbrev wd7 : List Int := [103, 97, 108]
abbrev wd8 : List Int := [101, 99, 97, 108, 112]
abbrev wd9 : List Int := [114, 101, 100, 114, 111]
abbrev wd10 : List Int := [116, 115, 101, 114]
abbrev wd11 : List Int := [112, 97, 116]
abbrev wd12 : List Int := [109, 97, 108, 102]
abbrev wd13 : List Int := [108, 108, 111, 114]
abbrev wd14 : List Int := [116, 108, 97, 104]
abbrev wd15 : List Int := [116, 102, 101, 108]
abbrev wd16 : List Int := [116, 104, 103, 105, 114]
abbrev wd17 : List Int := [101, 103, 114, 97, 104, 99]
abbrev wd18 : List Int := [116, 97, 101, 114, 116, 101, 114]
abbrev wd19 : List Int := [115, 101, 118, 105, 103]
abbrev wd20 : List Int := [101, 100, 97, 109]
abbrev wd21 : List Int := [112, 111, 114, 100]
abbrev wd22 : List Int := [112, 97, 119, 115]
abbrev wd23 : List Int := [101, 99, 105, 119, 116]
abbrev wd24 : List Int := [116, 115, 97, 108]
/-- which word it is: 99: none -/
def wcd (l : List Int) : Int := if l = wd1 then 1 else if l = wd2 then 2 else if l = wd3 then 3 else if l = wd4 then 4 else if l = wd5 then 5 else if l = wd6 then 6 else if l = wd7 then 7 else if l = wd8 then 8 else if l = wd9 then 9 else if l = wd10 then 10 else if l = wd11 then 11 else if l = wd12 then 12 else if l = wd13 then 13 else if l = wd14 then 14 else if l = wd15 then 15 else if l = wd16 then 16 else if l = wd17 then 17 else if l = wd18 then 18 else if l = wd19 then 19 else if l = wd20 then 20 else if l = wd21 then 21 else if l = wd22 then 22 else if l = wd23 then 23 else if l = wd24 then 24 else 99
theorem wrd_is {l : List Int} (h : letL l) : wrdN (pk5 l) = wcd l := by
  have key : ∀ (d : List Int) (v : Int), letL d → pk5 d = v → ((pk5 l = v) = (l = d)) := fun d v hd hv => propext ⟨fun e => pk5_inj l d h hd (e.trans hv.symm), fun e => by rw [e]; exact hv⟩
  unfold wrdN wrdB wcd
  simp only [key wd1 677454 (by unfold letL; decide) (by decide), key wd2 21285028 (by unfold letL; decide) (by decide), key wd3 167183 (by unfold letL; decide) (by decide), key wd4 23732 (by unfold letL; decide) (by decide), key wd5 215533 (by unfold letL; decide) (by decide), key wd6 643248 (by unfold letL; decide) (by decide), key wd7 12327 (by unfold letL; decide) (by decide), key wd8 17171557 (by unfold letL; decide) (by decide), key wd9 16322738 (by unfold letL; decide) (by decide), key wd10 595572 (by unfold letL; decide) (by decide), key wd11 20528 (by unfold letL; decide) (by decide), key wd12 208941 (by unfold letL; decide) (by decide), key wd13 605580 (by unfold letL; decide) (by decide), key wd14 263572 (by unfold letL; decide) (by decide), key wd15 398548 (by unfold letL; decide) (by decide), key wd16 19176724 (by unfold letL; decide) (by decide), key wd17 109103333 (by unfold letL; decide) (by decide), key wd18 19516691508 (by unfold letL; decide) (by decide), key wd19 7657651 (by unfold letL; decide) (by decide), key wd20 427141 (by unfold letL; decide) (by decide), key wd21 150000 (by unfold letL; decide) (by decide), key wd22 646192 (by unfold letL; decide) (by decide), key wd23 21734501 (by unfold letL; decide) (by decide), key wd24 394868 (by unfold letL; decide) (by decide)]
theorem wcd_rng (l : List Int) : 1 ≤ wcd l ∧ wcd l ≤ 99 := by
  unfold wcd
  repeat (first | omega | split)
theorem wcd_long {l : List Int} (h : 8 < l.length) : wcd l = 99 := by
  have key : ∀ d : List Int, d.length ≤ 8 → l ≠ d := fun d hd e => by rw [e] at h; omega
  unfold wcd
  rw [if_neg (key wd1 (by decide)), if_neg (key wd2 (by decide)), if_neg (key wd3 (by decide)), if_neg (key wd4 (by decide)), if_neg (key wd5 (by decide)), if_neg (key wd6 (by decide)), if_neg (key wd7 (by decide)), if_neg (key wd8 (by decide)), if_neg (key wd9 (by decide)), if_neg (key wd10 (by decide)), if_neg (key wd11 (by decide)), if_neg (key wd12 (by decide)), if_neg (key wd13 (by decide)), if_neg (key wd14 (by decide)), if_neg (key wd15 (by decide)), if_neg (key wd16 (by decide)), if_neg (key wd17 (by decide)), if_neg (key wd18 (by decide)), if_neg (key wd19 (by decide)), if_neg (key wd20 (by decide)), if_neg (key wd21 (by decide)), if_neg (key wd22 (by decide)), if_neg (key wd23 (by decide)), if_neg (key wd24 (by decide))]
theorem wcd_24 (l : List Int) : wcd l ≤ 24 ∨ wcd l = 99 := by
  unfold wcd
  repeat (first | omega | split)
/-- the token behind p: where, what (0 the end, 1 a number, 2 a semicolon, 3 a word, 4 none, 5 letters of no word), where it goes on -/
noncomputable def kdQ (t : Int → Int) (n q : Int) : Int := if bA t n q < 0 then 0 else if 97 ≤ bA t n q ∧ bA t n q ≤ 122 then (if wcd (wlI t q (leE t n q - q)) = 99 then 5 else 3) else if 48 ≤ bA t n q ∧ bA t n q ≤ 57 then (if 2 < dgE t n q - q then 4 else 1) else if bA t n q = 59 then 2 else 4
noncomputable def nxQ (t : Int → Int) (n q : Int) : Int := if bA t n q < 0 then q else if 97 ≤ bA t n q ∧ bA t n q ≤ 122 then leE t n q else if 48 ≤ bA t n q ∧ bA t n q ≤ 57 then dgE t n q else q + 1
noncomputable def tkW (t : Int → Int) (n p : Int) : Int := wsE t n p
noncomputable def tkK (t : Int → Int) (n p : Int) : Int := kdQ t n (wsE t n p)
noncomputable def tkN (t : Int → Int) (n p : Int) : Int := nxQ t n (wsE t n p)
noncomputable def tkV (t : Int → Int) (n p : Int) : Int := numI t (wsE t n p) (dgE t n (wsE t n p) - wsE t n p)
noncomputable def tkC (t : Int → Int) (n p : Int) : Int := wcd (wlI t (wsE t n p) (leE t n (wsE t n p) - wsE t n p))
/-- the reference's name of a kind -/
def mK (k : Int) : Int := if k = 5 then 4 else k
theorem kdQ_rng {t : Int → Int} {n q : Int} : 0 ≤ kdQ t n q ∧ kdQ t n q ≤ 5 := by
  unfold kdQ
  split
  · omega
  · split
    · split <;> omega
    · split
      · split <;> omega
      · split <;> omega
/-- the reference stands at the token behind p -/
def Cur (σ : St) (t : Int → Int) (n p : Int) : Prop := σ 3 0 = tkN t n p ∧ σ 4 0 = tkW t n p ∧ σ 5 0 = mK (tkK t n p) ∧ (tkK t n p = 1 → σ 6 0 = tkV t n p) ∧ (tkK t n p = 3 → σ 7 0 = tkC t n p)
theorem wsE_rng {t : Int → Int} {n p : Int} (hp : 0 ≤ p ∧ p ≤ 601) : p ≤ wsE t n p ∧ wsE t n p ≤ 601 := adv_rng hp.2
theorem nxQ_rng {t : Int → Int} {n q : Int} (hn : n ≤ 600) (hq : 0 ≤ q ∧ q ≤ 601) : q ≤ nxQ t n q ∧ nxQ t n q ≤ 601 := by
  unfold nxQ
  split
  · omega
  · rename_i h
    have := bA_le (t := t) (n := n) (p := q) (by omega)
    split
    · exact adv_rng (by omega)
    · split
      · exact adv_rng (by omega)
      · omega
theorem tkN_rng {t : Int → Int} {n p : Int} (hn : n ≤ 600) (hp : 0 ≤ p ∧ p ≤ 601) : p ≤ tkN t n p ∧ tkN t n p ≤ 601 := by
  have h1 := wsE_rng (t := t) (n := n) hp
  have h2 := nxQ_rng (t := t) (n := n) (q := wsE t n p) hn (by omega)
  unfold tkN
  omega
/-- a token that isn't the end goes on -/
theorem tkN_lt {t : Int → Int} {n p : Int} (hn : n ≤ 600) (hp : 0 ≤ p ∧ p ≤ 601) (hk : tkK t n p ≠ 0) : p < tkN t n p ∧ tkW t n p < n := by
  have h1 := wsE_rng (t := t) (n := n) hp
  unfold tkK kdQ at hk
  unfold tkN nxQ tkW
  split at hk
  · exact absurd rfl hk
  · rename_i h
    have hl := bA_le (t := t) (n := n) (p := wsE t n p) (by omega)
    rw [if_neg h]
    refine ⟨?_, hl⟩
    split
    · rename_i h2
      have := adv_y (P := fun q => 97 ≤ bA t n q ∧ bA t n q ≤ 122) (p := wsE t n p) h2 (by omega)
      have h3 := adv_rng (P := fun q => 97 ≤ bA t n q ∧ bA t n q ≤ 122) (p := wsE t n p + 1) (by omega)
      unfold leE
      omega
    · split
      · rename_i h2
        have := adv_y (P := fun q => 48 ≤ bA t n q ∧ bA t n q ≤ 57) (p := wsE t n p) h2 (by omega)
        have h3 := adv_rng (P := fun q => 48 ≤ bA t n q ∧ bA t n q ≤ 57) (p := wsE t n p + 1) (by omega)
        unfold dgE
        omega
      · omega
theorem tkV_rng {t : Int → Int} {n p : Int} (hp : 0 ≤ p ∧ p ≤ 601) : 0 ≤ tkV t n p ∧ tkV t n p ≤ 99 := by
  have h1 := wsE_rng (t := t) (n := n) hp
  have h2 := adv_rng (P := fun q => 48 ≤ bA t n q ∧ bA t n q ≤ 57) (p := wsE t n p) h1.2
  unfold tkV numI
  have := numI_rng (t := t) (q := wsE t n p) (dgE t n (wsE t n p) - wsE t n p).toNat (fun i i1 i2 => by
    have h3 : 48 ≤ bA t n (wsE t n p + i) ∧ bA t n (wsE t n p + i) ≤ 57 := adv_all _ (wsE t n p) (Nat.le_refl _) (wsE t n p + i) (by omega) (by
      show wsE t n p + i < dgE t n (wsE t n p)
      unfold dgE at i2 ⊢
      omega)
    have h4 := bA_le (t := t) (n := n) (p := wsE t n p + i) (by omega)
    unfold bA at h3
    rw [if_pos h4] at h3
    exact h3)
  omega
abbrev tp (σ : St) (j : Int) : Int := σ 0 (10 + j)
