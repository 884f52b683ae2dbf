/-- the tape stands in the reference -/
def Tap (σ : St) (t : Int → Int) (n : Int) : Prop := σ 2 0 = n ∧ (0 ≤ n ∧ n ≤ 600) ∧ ∀ j : Int, 0 ≤ j → j < n → σ 0 (10 + j) = t j ∧ 0 ≤ t j ∧ t j ≤ 255
theorem Tap_eq {σ σ' : St} {t : Int → Int} {n : Int} (h : Tap σ t n) (h2 : σ' 2 = σ 2) (h0 : σ' 0 = σ 0) : Tap σ' t n := by
  unfold Tap
  rw [h2, h0]
  exact h
theorem Tap_bA {σ : St} {t : Int → Int} {n p : Int} (h : Tap σ t n) (hp : 0 ≤ p) : -1 ≤ bA t n p ∧ bA t n p ≤ 255 := by
  unfold bA
  split
  · have := h.2.2 p hp (by assumption)
    omega
  · omega
theorem Tap_in {σ : St} {t : Int → Int} {n p : Int} (h : Tap σ t n) (hp : 0 ≤ p) (hb : 0 ≤ bA t n p) : p < n ∧ bA t n p = t p := by
  have h1 := bA_le hb
  exact ⟨h1, by unfold bA; rw [if_pos h1]⟩
theorem letL_cons {b : Int} {l : List Int} (hb : 97 ≤ b ∧ b ≤ 122) (h : letL l) : letL (b :: l) := by
  intro y hy
  rcases List.mem_cons.mp hy with e | e
  · rw [e]; exact hb
  · exact h y e
/-- words of the token, told by its letters -/
theorem wcd_min {t : Int → Int} {q d : Int} (hd : 0 ≤ d) (hl : letL (wlI t q (min d 8))) : (if 8 < d then 99 else wrdN (pk5 (wlI t q (min d 8)))) = wcd (wlI t q d) := by
  split
  · rename_i h
    rw [wcd_long]
    unfold wlI
    rw [wlr_len]
    omega
  · rename_i h
    rw [wrd_is hl, show min d 8 = d by omega]
