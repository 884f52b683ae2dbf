/-! THE SPEC, part 1: lists by integer places, war records, rows, what sounds, who hears -/
def same (ks : List Nat) (σ σ' : St) : Prop := ∀ k, k ∉ ks → σ' k = σ k
theorem same_rf {ks : List Nat} {σ : St} : same ks σ σ := fun _ _ => rfl
theorem same_tr {ks ks' : List Nat} {σ σ' σ'' : St} (h1 : same ks σ σ') (h2 : same ks' σ' σ'') (hs : ∀ k, k ∈ ks' → k ∈ ks) : same ks σ σ'' := fun k hk => (h2 k (fun z => hk (hs k z))).trans (h1 k hk)
theorem same_up {ks : List Nat} {σ σ' : St} {k : Nat} {i v : Int} (h : same ks σ σ') (hk : k ∈ ks) : same ks σ (up σ' k i v) := fun j hj => (up_nek (fun z => hj (by rw [z]; exact hk))).trans (h j hj)
theorem same_w {ks ks' : List Nat} {σ σ' : St} (h : same ks σ σ') (hs : ∀ k, k ∈ ks → k ∈ ks') : same ks' σ σ' := fun k hk => h k (fun z => hk (hs k z))
def dr {α : Type} (l : List α) (i : Int) : List α := l.drop i.toNat
def gi (l : List Int) (i : Int) : Int := l.getD i.toNat 0
theorem dr_cons {l : List Int} {i : Int} (h : 0 ≤ i ∧ i < l.length) : dr l i = gi l i :: dr l (i + 1) := by
  unfold dr gi
  have h1 : i.toNat < l.length := by omega
  rw [show (i + 1).toNat = i.toNat + 1 by omega, List.drop_eq_getElem_cons h1, List.getD_eq_getElem?_getD, List.getElem?_eq_getElem h1]
  rfl
theorem dr_nil {α : Type} {l : List α} {i : Int} (h : (l.length : Int) ≤ i) : dr l i = [] := List.drop_eq_nil_of_le (by omega)
theorem dr_0 {α : Type} {l : List α} : dr l 0 = l := rfl
theorem dr_step {α : Type} {l : List α} {i : Int} {x d : α} {r : List α} (h0 : 0 ≤ i) (h : dr l i = x :: r) : i < l.length ∧ l.getD i.toNat d = x ∧ dr l (i + 1) = r := by
  unfold dr at h ⊢
  have h1 : i.toNat < l.length := by
    rcases Nat.lt_or_ge i.toNat l.length with q | q
    · exact q
    · rw [List.drop_eq_nil_of_le q] at h; cases h
  rw [List.drop_eq_getElem_cons h1] at h
  have h2 := List.cons.inj h
  refine ⟨by omega, ?_, ?_⟩
  · rw [List.getD_eq_getElem?_getD, List.getElem?_eq_getElem h1]
    exact h2.1
  · rw [show (i + 1).toNat = i.toNat + 1 by omega]
    exact h2.2
theorem dr_end {α : Type} {l : List α} {i : Int} (h0 : 0 ≤ i) (h1 : i ≤ l.length) (h : dr l i = []) : i = l.length := by
  unfold dr at h
  have := List.drop_eq_nil_iff.mp h
  omega
/-! a row of both givers' beats, by turns -/
def rowL (t : Nat) (a b : List Int) : List (Int × Int) :=
  if _h : a = [] ∧ b = [] then [] else if _h2 : t = 0 then [] else
  (a.take t).map (fun x => (x, 0)) ++ ((b.take t).map (fun x => (x, 1)) ++ rowL t (a.drop t) (b.drop t))
termination_by a.length + b.length
decreasing_by
  rw [List.length_drop, List.length_drop]
  have : 0 < a.length + b.length := by
    rcases a with _ | ⟨x, a⟩
    · rcases b with _ | ⟨y, b⟩
      · exact absurd ⟨rfl, rfl⟩ _h
      · simp
    · simp; omega
  omega
def futA (t k : Nat) (a b : List Int) : List (Int × Int) := (a.take (t - k)).map (fun x => (x, 0)) ++ ((b.take t).map (fun x => (x, 1)) ++ rowL t (a.drop (t - k)) (b.drop t))
def futB (t k : Nat) (a b : List Int) : List (Int × Int) := (b.take (t - k)).map (fun x => (x, 1)) ++ rowL t a (b.drop (t - k))
theorem rowL_nil {t : Nat} : rowL t [] [] = [] := by rw [rowL]; simp
theorem rowL_go {t : Nat} {a b : List Int} (h : ¬ (a = [] ∧ b = [])) (ht : 0 < t) : rowL t a b = futA t 0 a b := by
  rw [rowL, dif_neg h, dif_neg (by omega)]
  rfl
theorem futA_cons {t k : Nat} {x : Int} {a b : List Int} (h : k < t) : futA t k (x :: a) b = (x, 0) :: futA t (k + 1) a b := by
  unfold futA
  rw [show t - k = (t - (k + 1)) + 1 by omega]
  rfl
theorem futB_cons {t k : Nat} {x : Int} {a b : List Int} (h : k < t) : futB t k a (x :: b) = (x, 1) :: futB t (k + 1) a b := by
  unfold futB
  rw [show t - k = (t - (k + 1)) + 1 by omega]
  rfl
theorem futA_end {t k : Nat} {a b : List Int} (h : t ≤ k ∨ a = []) : futA t k a b = futB t 0 a b := by
  unfold futA futB
  rcases h with h | h
  · rw [show t - k = 0 by omega]; rfl
  · subst h; simp
theorem futB_end {t k : Nat} {a b : List Int} (h : t ≤ k ∨ b = []) : futB t k a b = rowL t a b := by
  unfold futB
  rcases h with h | h
  · rw [show t - k = 0 by omega]; rfl
  · subst h; simp
theorem rowL_len {t : Nat} (ht : 0 < t) : ∀ (n : Nat) (a b : List Int), a.length + b.length ≤ n → (rowL t a b).length = a.length + b.length := by
  intro n
  induction n with
  | zero =>
    intro a b h
    have ha : a = [] := List.eq_nil_of_length_eq_zero (by omega)
    have hb : b = [] := List.eq_nil_of_length_eq_zero (by omega)
    subst ha; subst hb
    rw [rowL_nil]; rfl
  | succ n ih =>
    intro a b h
    by_cases hn : a = [] ∧ b = []
    · obtain ⟨rfl, rfl⟩ := hn
      rw [rowL_nil]; rfl
    · rw [rowL_go hn ht]
      unfold futA
      have h0 : 0 < a.length + b.length := by
        rcases a with _ | ⟨x, a⟩
        · rcases b with _ | ⟨y, b⟩
          · exact absurd ⟨rfl, rfl⟩ hn
          · simp
        · simp; omega
      have := ih (a.drop (t - 0)) (b.drop t) (by rw [List.length_drop, List.length_drop]; omega)
      simp only [List.length_append, List.length_map, List.length_take, List.length_drop] at this ⊢
      omega
def rowOk (L : List (Int × Int)) (f g : Int → Int) (n : Int) : Prop := ∀ i : Int, 0 ≤ i → i < n → f i = (L.getD i.toNat (0, 0)).1 ∧ g i = (L.getD i.toNat (0, 0)).2
/-! war records -/
def oMove (w : Int → Int) (a k : Int) : Int := w (17 + 36 * a + 6 * k)
def oLen (w : Int → Int) (a k : Int) : Int := w (17 + 36 * a + 6 * k + 1)
def oBeat (w : Int → Int) (a k i : Int) : Int := w (17 + 36 * a + 6 * k + 2 + i)
def WfArmy (w : Int → Int) (a : Int) : Prop := (0 ≤ w (7 + a) ∧ w (7 + a) ≤ 3) ∧ (1 ≤ w (9 + a) ∧ w (9 + a) ≤ 4) ∧ (0 ≤ w (11 + a) ∧ w (11 + a) ≤ 3) ∧ (0 ≤ w (13 + a) ∧ w (13 + a) ≤ 20) ∧ (0 ≤ w (15 + a) ∧ w (15 + a) ≤ 6) ∧ ∀ k, 0 ≤ k → k < w (15 + a) → (0 ≤ oMove w a k ∧ oMove w a k ≤ 4) ∧ (1 ≤ oLen w a k ∧ oLen w a k ≤ 4) ∧ ∀ i, 0 ≤ i → i < oLen w a k → 0 ≤ oBeat w a k i ∧ oBeat w a k i ≤ 3
def WfWar (w : Int → Int) : Prop := (1 ≤ w 0 ∧ w 0 ≤ 4) ∧ (0 ≤ w 1 ∧ w 1 ≤ 9) ∧ (0 ≤ w 2 ∧ w 2 ≤ 9) ∧ (∀ b, 0 ≤ b → b ≤ 3 → 0 ≤ w (3 + b) ∧ w (3 + b) ≤ 3) ∧ ∀ a, 0 ≤ a → a ≤ 1 → WfArmy w a
/-! what sounds -/
def rst (w : Int → Int) (s k : Int) : Prop := andI (shrI s k) 1 = 1 ∨ (w 1 ≠ 0 ∧ (k + 1) % w 1 = 0)
noncomputable def sd0 (w row : Int → Int) (s k : Int) : Int := w (3 + (if dP (rst w s k) = true then 0 else row k))
def ec (w row : Int → Int) (s k : Int) : Prop := 0 < w 2 ∧ w 2 ≤ k ∧ sd0 w row s (k - w 2) = 2 ∧ sd0 w row s k = 0
noncomputable def sd (w row : Int → Int) (s k : Int) : Int := if dP (ec w row s k) = true then 1 else sd0 w row s k
theorem sd0_rng {w row : Int → Int} {s k : Int} (hw : WfWar w) (hr : 0 ≤ row k ∧ row k ≤ 3) : 0 ≤ sd0 w row s k ∧ sd0 w row s k ≤ 3 := by
  unfold sd0
  split
  · exact hw.2.2.2.1 0 (by omega) (by omega)
  · exact hw.2.2.2.1 _ hr.1 hr.2
theorem sd_rng {w row : Int → Int} {s k : Int} (hw : WfWar w) (hr : 0 ≤ row k ∧ row k ≤ 3) : 0 ≤ sd w row s k ∧ sd w row s k ≤ 3 := by
  have := sd0_rng (s := s) hw hr
  unfold sd
  split <;> omega
theorem and1 (x : Int) : andI x 1 = 0 ∨ andI x 1 = 1 := by
  unfold andI
  have h : iI x &&& iI 1 = 0 ∨ iI x &&& iI 1 = 1 := by
    show iI x &&& (1 : Int32) = 0 ∨ iI x &&& (1 : Int32) = 1
    generalize iI x = y
    rcases Nat.mod_two_eq_zero_or_one y.toBitVec.toNat with h | h
    · left; rw [pk_and y (m := 1) 1 (by decide), show y.toBitVec.toNat % 2 ^ 1 = 0 from h]; decide
    · right; rw [pk_and y (m := 1) 1 (by decide), show y.toBitVec.toNat % 2 ^ 1 = 1 from h]; decide
  rcases h with h | h
  · left; rw [h]; decide
  · right; rw [h]; decide
/-! who hears what -/
def hrs (w : Int → Int) (n a : Int) : Int := if n ≤ w (7 + a) then 0 else (n - w (7 + a) - 1) / w (9 + a) + 1
def plc (w : Int → Int) (a k : Int) : Int := w (7 + a) + k * w (9 + a)
theorem hrs_rng {w : Int → Int} {n a : Int} (hw : WfArmy w a) (hn : 0 ≤ n ∧ n ≤ 24) : 0 ≤ hrs w n a ∧ hrs w n a ≤ 24 := by
  unfold hrs
  have h1 := hw.1
  have h2 := hw.2.1
  split
  · omega
  · have a1 := Int.ediv_nonneg (a := n - w (7 + a) - 1) (b := w (9 + a)) (by omega) (by omega)
    have a2 := Int.ediv_le_self (a := n - w (7 + a) - 1) (w (9 + a)) (by omega)
    omega
theorem plc_rng {w : Int → Int} {n a k : Int} (hw : WfArmy w a) (hk : 0 ≤ k) (h : k < hrs w n a) : 0 ≤ plc w a k ∧ plc w a k < n := by
  unfold hrs at h
  unfold plc
  have h1 := hw.1
  have h2 := hw.2.1
  split at h
  · omega
  · have a1 : k ≤ (n - w (7 + a) - 1) / w (9 + a) := by omega
    have a2 := (Int.le_ediv_iff_mul_le (by omega)).mp a1
    have a3 := Int.mul_nonneg hk (show 0 ≤ w (9 + a) by omega)
    omega
/-! arrays filled up to a place -/
def fil (σ : St) (v : Nat) (n : Int) (f : Int → Int) : Prop := ∀ i : Int, 0 ≤ i → i < n → σ v i = f i
theorem fil_0 {σ : St} {v : Nat} {f : Int → Int} : fil σ v 0 f := fun i h1 h2 => absurd h2 (by omega)
theorem fil_up {σ : St} {v : Nat} {n z : Int} {f : Int → Int} (h : fil σ v n f) (hz : z = f n) : fil (up σ v n z) v (n + 1) f := by
  intro i h1 h2
  by_cases hi : i = n
  · subst hi; rw [up_self, hz]
  · rw [up_nei hi]; exact h i h1 (by omega)
theorem fil_ne {σ : St} {v v' : Nat} {n j z : Int} {f : Int → Int} (h : fil σ v n f) (hv : v ≠ v') : fil (up σ v' j z) v n f := fun i h1 h2 => (up_ne hv).trans (h i h1 h2)
theorem fil_eq {σ σ' : St} {v : Nat} {n : Int} {f : Int → Int} (h : fil σ v n f) (e : σ' v = σ v) : fil σ' v n f := fun i h1 h2 => by rw [e]; exact h i h1 h2
theorem fil_le {σ : St} {v : Nat} {n n' : Int} {f : Int → Int} (h : fil σ v n f) (hn : n' ≤ n) : fil σ v n' f := fun i h1 h2 => h i h1 (by omega)
theorem fil_set {σ : St} {v : Nat} {n j z : Int} {f g : Int → Int} (h : fil σ v n f) (hz : z = g j) (hg : ∀ i, i ≠ j → 0 ≤ i → i < n → f i = g i) : fil (up σ v j z) v n g := by
  intro i h1 h2
  by_cases hi : i = j
  · subst hi; rw [up_self, hz]
  · rw [up_nei hi, h i h1 h2]; exact hg i hi h1 h2
theorem fil_f {σ : St} {v : Nat} {n : Int} {f g : Int → Int} (h : fil σ v n f) (hg : ∀ i, 0 ≤ i → i < n → f i = g i) : fil σ v n g := fun i h1 h2 => (h i h1 h2).trans (hg i h1 h2)
def rf (L : List (Int × Int)) (i : Int) : Int := (L.getD i.toNat (0, 0)).1
def rg (L : List (Int × Int)) (i : Int) : Int := (L.getD i.toNat (0, 0)).2
/-- the row stands in the arrays v, v + 1 -/
def Row (σ : St) (v1 v2 : Nat) (L : List (Int × Int)) (n : Int) : Prop := fil σ v1 n (rf L) ∧ fil σ v2 n (rg L)
def Snd (σ : St) (v1 v2 : Nat) (w : Int → Int) (L : List (Int × Int)) (s : Int) : Prop := fil σ v1 L.length (sd w (rf L) s) ∧ fil σ v2 L.length (fun i => b2i (dP (ec w (rf L) s i)))
def rowV (L : List (Int × Int)) : Prop := ∀ i : Int, 0 ≤ i → i < L.length → 0 ≤ rf L i ∧ rf L i ≤ 3
abbrev wr (σ : St) (j : Int) : Int := σ 0 (σ 10 0 + j)
/-! databases: the reference's own row of numbers -/
def wAt (a : Int → Int) (k : Int) : Int → Int := fun j => a (610 + 89 * k + j)
def gAt (a : Int → Int) (k : Int) : Int → Int := fun j => a (788 + 26 * k + j)
def hAt (a : Int → Int) (k : Int) : Int → Int := fun j => a (840 + 14 * k + j)
def vAt (a : Int → Int) (k : Int) : Int → Int := fun j => a (868 + 33 * k + j)
def gl (g : Int → Int) (x : Int) : List Int := (List.range (g x).toNat).map (fun i : Nat => g (2 + 12 * x + i))
theorem gl_len {g : Int → Int} {x : Int} (h : 0 ≤ g x) : ((gl g x).length : Int) = g x := by
  unfold gl
  rw [List.length_map, List.length_range]
  omega
theorem gl_at {g : Int → Int} {x i : Int} (h : 0 ≤ i ∧ i < g x) : gi (gl g x) i = g (2 + 12 * x + i) := by
  unfold gi gl
  rw [List.getD_eq_getElem?_getD, List.getElem?_map, List.getElem?_range (by omega)]
  show g (2 + 12 * x + ((i.toNat : Nat) : Int)) = _
  rw [show ((i.toNat : Nat) : Int) = i by omega]
def WfScore (g : Int → Int) : Prop := ∀ x, 0 ≤ x → x ≤ 1 → (0 ≤ g x ∧ g x ≤ 12) ∧ ∀ i, 0 ≤ i → i < g x → 0 ≤ g (2 + 12 * x + i) ∧ g (2 + 12 * x + i) ≤ 3
def WfHear (h : Int → Int) : Prop := ∀ x, 0 ≤ x → x ≤ 1 → (-1 ≤ h x ∧ h x ≤ 6) ∧ ∀ i, 0 ≤ i → i < h x → 0 ≤ h (2 + 6 * x + i) ∧ h (2 + 6 * x + i) ≤ 4
def WfVill (v : Int → Int) : Prop := (0 ≤ v 0 ∧ v 0 ≤ 8) ∧ ∀ k, 0 ≤ k → k < v 0 → (v (1 + 4 * k) = 8 ∨ (0 ≤ v (1 + 4 * k) ∧ v (1 + 4 * k) < k)) ∧ ((v (1 + 4 * k + 1) = 0 ∧ 1 ≤ v (1 + 4 * k + 2) ∧ v (1 + 4 * k + 2) ≤ 9 ∧ v (1 + 4 * k + 3) = -1) ∨ (v (1 + 4 * k + 1) = 1 ∧ 0 ≤ v (1 + 4 * k + 2) ∧ v (1 + 4 * k + 2) ≤ 3 ∧ 0 ≤ v (1 + 4 * k + 3) ∧ v (1 + 4 * k + 3) ≤ 3) ∨ (v (1 + 4 * k + 1) = 2 ∧ 0 ≤ v (1 + 4 * k + 2) ∧ v (1 + 4 * k + 2) ≤ 3 ∧ v (1 + 4 * k + 3) = -1) ∨ (v (1 + 4 * k + 1) = 3 ∧ v (1 + 4 * k + 2) = -1 ∧ v (1 + 4 * k + 3) = -1))
/-- a database of the reference: counts, tape, records -/
def WfDB (a : Int → Int) : Prop := (0 ≤ a 0 ∧ a 0 ≤ 2) ∧ (0 ≤ a 1 ∧ a 1 ≤ 2) ∧ (0 ≤ a 2 ∧ a 2 ≤ 2) ∧ (0 ≤ a 3 ∧ a 3 ≤ 2) ∧ (0 ≤ a 4 ∧ a 4 ≤ 600) ∧ (0 ≤ a 5 ∧ a 5 ≤ 4) ∧ (-1 ≤ a 6 ∧ a 6 ≤ 600) ∧ (∀ i, 0 ≤ i → i < a 4 → 0 ≤ a (10 + i) ∧ a (10 + i) ≤ 255) ∧ (∀ k, 0 ≤ k → k < a 0 → WfWar (wAt a k)) ∧ (∀ k, 0 ≤ k → k < a 1 → WfScore (gAt a k)) ∧ (∀ k, 0 ≤ k → k < a 2 → WfHear (hAt a k)) ∧ (∀ k, 0 ≤ k → k < a 3 → WfVill (vAt a k))
def rowG (w g : Int → Int) : List (Int × Int) := rowL (w 0).toNat (gl g 0) (gl g 1)
theorem rowG_len {w g : Int → Int} (hw : WfWar w) (hg : WfScore g) : ((rowG w g).length : Int) = g 0 + g 1 := by
  unfold rowG
  rw [rowL_len (by have := hw.1; omega) _ _ _ (Nat.le_refl _)]
  have h0 := (hg 0 (by omega) (by omega)).1
  have h1 := (hg 1 (by omega) (by omega)).1
  have e0 := gl_len h0.1
  have e1 := gl_len h1.1
  omega
theorem rowL_all {P : Int × Int → Prop} {t : Nat} : ∀ (n : Nat) (a b : List Int), a.length + b.length ≤ n → (∀ x ∈ a, P (x, 0)) → (∀ x ∈ b, P (x, 1)) → ∀ y ∈ rowL t a b, P y := by
  intro n
  induction n with
  | zero =>
    intro a b h _ _ y hy
    have ha : a = [] := List.eq_nil_of_length_eq_zero (by omega)
    have hb : b = [] := List.eq_nil_of_length_eq_zero (by omega)
    subst ha; subst hb
    rw [rowL_nil] at hy
    exact absurd hy List.not_mem_nil
  | succ n ih =>
    intro a b h ha hb y hy
    by_cases hn : a = [] ∧ b = []
    · obtain ⟨rfl, rfl⟩ := hn
      rw [rowL_nil] at hy
      exact absurd hy List.not_mem_nil
    · by_cases ht : 0 < t
      · rw [rowL_go hn ht] at hy
        unfold futA at hy
        have h0 : 0 < a.length + b.length := by
          rcases a with _ | ⟨x, a⟩
          · rcases b with _ | ⟨z, b⟩
            · exact absurd ⟨rfl, rfl⟩ hn
            · simp
          · simp; omega
        rcases List.mem_append.mp hy with hy | hy
        · obtain ⟨x, hx, rfl⟩ := List.mem_map.mp hy
          exact ha x (List.mem_of_mem_take hx)
        · rcases List.mem_append.mp hy with hy | hy
          · obtain ⟨x, hx, rfl⟩ := List.mem_map.mp hy
            exact hb x (List.mem_of_mem_take hx)
          · refine ih _ _ ?_ (fun x hx => ha x (List.mem_of_mem_drop hx)) (fun x hx => hb x (List.mem_of_mem_drop hx)) y hy
            rw [List.length_drop, List.length_drop]
            omega
      · rw [rowL, dif_neg hn, dif_pos (by omega)] at hy
        exact absurd hy List.not_mem_nil
theorem rowL_V {t : Nat} {a b : List Int} (ha : ∀ x ∈ a, 0 ≤ x ∧ x ≤ 3) (hb : ∀ x ∈ b, 0 ≤ x ∧ x ≤ 3) : rowV (rowL t a b) ∧ ∀ i : Int, 0 ≤ i → i < (rowL t a b).length → 0 ≤ rg (rowL t a b) i ∧ rg (rowL t a b) i ≤ 1 := by
  have h := rowL_all (P := fun y => (0 ≤ y.1 ∧ y.1 ≤ 3) ∧ (0 ≤ y.2 ∧ y.2 ≤ 1)) (t := t) _ a b (Nat.le_refl _) (fun x hx => ⟨ha x hx, show (0 : Int) ≤ 0 ∧ (0 : Int) ≤ 1 by decide⟩) (fun x hx => ⟨hb x hx, show (0 : Int) ≤ 1 ∧ (1 : Int) ≤ 1 by decide⟩)
  have key : ∀ i : Int, 0 ≤ i → i < (rowL t a b).length → (rowL t a b).getD i.toNat (0, 0) ∈ rowL t a b := by
    intro i h1 h2
    rw [List.getD_eq_getElem?_getD, List.getElem?_eq_getElem (by omega)]
    exact List.getElem_mem _
  exact ⟨fun i h1 h2 => (h _ (key i h1 h2)).1, fun i h1 h2 => (h _ (key i h1 h2)).2⟩
theorem gl_mem {g : Int → Int} {x : Int} (hg : WfScore g) (hx : 0 ≤ x ∧ x ≤ 1) : ∀ y ∈ gl g x, 0 ≤ y ∧ y ≤ 3 := by
  intro y hy
  unfold gl at hy
  obtain ⟨i, hi, rfl⟩ := List.mem_map.mp hy
  have h := hg x hx.1 hx.2
  have hi := List.mem_range.mp hi
  exact h.2 i (by omega) (by omega)
theorem rowG_V {w g : Int → Int} (hg : WfScore g) : rowV (rowG w g) := (rowL_V (gl_mem hg (by omega)) (gl_mem hg (by omega))).1
theorem lay_step {σ : St} {L r : List (Int × Int)} {x g : Int} (v1 v2 v3 : Nat) (h : Row σ v1 v2 L (σ v3 0)) (h0 : 0 ≤ σ v3 0) (hd : dr L (σ v3 0) = (x, g) :: r) (hv : v1 ≠ v2 ∧ v1 ≠ v3 ∧ v2 ≠ v3) : Row (up (up (up σ v1 (σ v3 0) x) v2 (σ v3 0) g) v3 0 (σ v3 0 + 1)) v1 v2 L ((up (up (up σ v1 (σ v3 0) x) v2 (σ v3 0) g) v3 0 (σ v3 0 + 1)) v3 0) ∧ σ v3 0 < L.length ∧ dr L ((up (up (up σ v1 (σ v3 0) x) v2 (σ v3 0) g) v3 0 (σ v3 0 + 1)) v3 0) = r := by
  obtain ⟨a1, a2, a3⟩ := dr_step (d := (0, 0)) h0 hd
  rw [up_self]
  refine ⟨⟨fil_ne (fil_ne (fil_up h.1 ?_) hv.1) hv.2.1, fil_ne (fil_up (fil_ne h.2 (Ne.symm hv.1)) ?_) hv.2.2⟩, a1, a3⟩
  · unfold rf; rw [a2]
  · unfold rg; rw [a2]
theorem fil_mix {σ : St} {v : Nat} {n k : Int} {f g : Int → Int} (h : fil σ v n (fun i => if i < k then g i else f i)) (hk : f k = g k) : fil σ v n (fun i => if i < k + 1 then g i else f i) := by
  intro i h1 h2
  have h3 := h i h1 h2
  dsimp only at h3 ⊢
  by_cases a : i < k
  · rw [if_pos a] at h3; rw [if_pos (by omega)]; exact h3
  · rw [if_neg a] at h3
    by_cases b : i = k
    · subst b; rw [if_pos (by omega), ← hk]; exact h3
    · rw [if_neg (by omega)]; exact h3
theorem fil_mixU {σ : St} {v : Nat} {n k z : Int} {f g : Int → Int} (h : fil σ v n (fun i => if i < k then g i else f i)) (hz : z = g k) : fil (up σ v k z) v n (fun i => if i < k + 1 then g i else f i) := by
  intro i h1 h2
  have h3 := h i h1 h2
  dsimp only at h3 ⊢
  by_cases b : i = k
  · subst b; rw [up_self, if_pos (by omega)]; exact hz
  · rw [up_nei b]
    by_cases a : i < k
    · rw [if_pos a] at h3; rw [if_pos (by omega)]; exact h3
    · rw [if_neg a] at h3; rw [if_neg (by omega)]; exact h3
theorem fil_all {σ : St} {v : Nat} {n k : Int} {f g : Int → Int} (h : fil σ v n (fun i => if i < k then g i else f i)) (hk : n ≤ k) : fil σ v n g := fil_f h (fun i _ h2 => if_pos (by omega))
