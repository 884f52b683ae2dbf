/-! THE SPEC, part 13: reading: errors (wrong, fault, place), the reader's place p -/
abbrev ER : Type := Int × Int × Int
def eEnd (e : ER) (q : Int) : ER := if e.1 = 1 then e else (1, 1, q)
def eNote (e : ER) (k q : Int) : ER := if e.1 = 1 ∨ (e.2.1 ≠ 0 ∧ (e.2.2 < q ∨ (e.2.2 = q ∧ e.2.1 ≤ k))) then e else (e.1, k, q)
def eOk (e : ER) : Prop := (e.1 = 0 ∨ e.1 = 1) ∧ (0 ≤ e.2.1 ∧ e.2.1 ≤ 4) ∧ (-1 ≤ e.2.2 ∧ e.2.2 ≤ 601)
theorem eEnd_ok {e : ER} {q : Int} (h : eOk e) (hq : 0 ≤ q ∧ q ≤ 601) : eOk (eEnd e q) := by
  unfold eEnd
  split
  · exact h
  · refine ⟨Or.inr rfl, ?_, ?_⟩
    · show (0 : Int) ≤ 1 ∧ (1 : Int) ≤ 4; omega
    · show -1 ≤ q ∧ q ≤ 601; omega
theorem eNote_ok {e : ER} {k q : Int} (h : eOk e) (hq : 0 ≤ q ∧ q ≤ 601) (hk : 1 ≤ k ∧ k ≤ 4) : eOk (eNote e k q) := by
  unfold eNote
  split
  · exact h
  · refine ⟨h.1, ?_, ?_⟩
    · show 0 ≤ k ∧ k ≤ 4; omega
    · show -1 ≤ q ∧ q ≤ 601; omega
theorem eNote_1 {e : ER} {k q : Int} : (eNote e k q).1 = e.1 := by unfold eNote; split <;> rfl
theorem eEnd_1 {e : ER} {q : Int} (h : eOk e) : (eEnd e q).1 = 1 := by
  unfold eEnd
  split
  · assumption
  · rfl
def Er (σ : St) (e : ER) : Prop := σ 8 0 = e.1 ∧ σ 0 5 = e.2.1 ∧ σ 0 6 = e.2.2
/-- the array all is the same but for the fault and its place -/
def sameA (σ σ' : St) : Prop := ∀ j : Int, j ≠ 5 → j ≠ 6 → σ' 0 j = σ 0 j
theorem sameA_rf {σ : St} : sameA σ σ := fun _ _ _ => rfl
theorem sameA_tr {σ σ' σ'' : St} (h1 : sameA σ σ') (h2 : sameA σ' σ'') : sameA σ σ'' := fun j a b => (h2 j a b).trans (h1 j a b)
theorem sameA_eq {σ σ' : St} (h : σ' 0 = σ 0) : sameA σ σ' := fun j _ _ => by rw [h]
theorem Tap_A {σ σ' : St} {t : Int → Int} {n : Int} (h : Tap σ t n) (h2 : σ' 2 = σ 2) (h0 : sameA σ σ') : Tap σ' t n := by
  refine ⟨by rw [h2]; exact h.1, h.2.1, fun j j1 j2 => ?_⟩
  rw [h0 (10 + j) (by omega) (by omega)]
  exact h.2.2 j j1 j2
theorem Cur_eq {σ σ' : St} {t : Int → Int} {n p : Int} (h : Cur σ t n p) (h3 : σ' 3 = σ 3) (h4 : σ' 4 = σ 4) (h5 : σ' 5 = σ 5) (h6 : σ' 6 = σ 6) (h7 : σ' 7 = σ 7) : Cur σ' t n p := by
  unfold Cur
  rw [h3, h4, h5, h6, h7]
  exact h
/-- the reference reads: at the token behind p, its errors e -/
def MS (σ : St) (t : Int → Int) (n p : Int) (e : ER) : Prop := Tap σ t n ∧ Cur σ t n p ∧ (0 ≤ p ∧ p ≤ 601) ∧ Er σ e ∧ eOk e
theorem MS_eq {σ σ' : St} {t : Int → Int} {n p : Int} {e : ER} (h : MS σ t n p e) (hs : ∀ k, k ≠ 9 → σ' k = σ k) : MS σ' t n p e := by
  refine ⟨Tap_eq h.1 (hs 2 (by decide)) (hs 0 (by decide)), Cur_eq h.2.1 (hs 3 (by decide)) (hs 4 (by decide)) (hs 5 (by decide)) (hs 6 (by decide)) (hs 7 (by decide)), h.2.2.1, ?_, h.2.2.2.2⟩
  unfold Er
  rw [hs 8 (by decide), hs 0 (by decide)]
  exact h.2.2.2.1
theorem MS_rng {σ : St} {t : Int → Int} {n p : Int} {e : ER} (h : MS σ t n p e) : (0 ≤ n ∧ n ≤ 600) ∧ (p ≤ tkW t n p ∧ tkW t n p ≤ 601) ∧ (p ≤ tkN t n p ∧ tkN t n p ≤ 601) ∧ (0 ≤ tkK t n p ∧ tkK t n p ≤ 5) ∧ (0 ≤ tkV t n p ∧ tkV t n p ≤ 99) ∧ (1 ≤ tkC t n p ∧ tkC t n p ≤ 99) := ⟨h.1.2.1, wsE_rng h.2.2.1, tkN_rng h.1.2.1.2 h.2.2.1, kdQ_rng, tkV_rng h.2.2.1, wcd_rng _⟩
noncomputable def nmF (t : Int → Int) (n p : Int) (e : ER) : Prop := e.1 = 1 ∨ tkK t n p ≠ 1
/-- a number: its value, the place behind it, the errors -/
noncomputable def nmV (t : Int → Int) (n p : Int) (e : ER) (lo hi : Int) : Int := if dP (nmF t n p e) = true then lo else if lo ≤ tkV t n p ∧ tkV t n p ≤ hi then tkV t n p else lo
noncomputable def nmP (t : Int → Int) (n p : Int) (e : ER) : Int := if dP (nmF t n p e) = true then p else tkN t n p
noncomputable def nmE (t : Int → Int) (n p : Int) (e : ER) (lo hi : Int) : ER := if dP (nmF t n p e) = true then eEnd e (tkW t n p) else if lo ≤ tkV t n p ∧ tkV t n p ≤ hi then e else eNote e 2 (tkW t n p)
def isC (t : Int → Int) (n p : Int) (e : ER) (lo hi : Int) : Prop := e.1 = 0 ∧ tkK t n p = 3 ∧ lo ≤ tkC t n p ∧ tkC t n p ≤ hi
noncomputable def tkVl (t : Int → Int) (n p : Int) (e : ER) (lo hi : Int) : Int := if dP (isC t n p e lo hi) = true then tkC t n p else 0
noncomputable def tkP (t : Int → Int) (n p : Int) (e : ER) (lo hi : Int) : Int := if dP (isC t n p e lo hi) = true then tkN t n p else p
noncomputable def tkE (t : Int → Int) (n p : Int) (e : ER) (lo hi : Int) : ER := if dP (isC t n p e lo hi) = true then e else eEnd e (tkW t n p)
def isS (t : Int → Int) (n p : Int) (e : ER) : Prop := e.1 = 0 ∧ tkK t n p = 2
noncomputable def elP (t : Int → Int) (n p : Int) (e : ER) : Int := if dP (isS t n p e) = true then tkN t n p else p
noncomputable def elE (t : Int → Int) (n p : Int) (e : ER) : ER := if dP (isS t n p e) = true then e else eEnd e (tkW t n p)
