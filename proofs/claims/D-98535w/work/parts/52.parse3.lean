/-! THE SPEC, part 15: a hearing's, an order's, a war's, a village's line -/
/-- a step of a run of words: n of them read, room for some; mo: they are kept -/
noncomputable def gB (t : Int → Int) (n lo hi room base : Int) (mo : Prop) (x : PS × Int) : PS × Int := (if x.2 < room then (if dP mo = true then sSt (base + x.2) (sTv t n lo hi x.1 - lo) (sTk t n lo hi x.1) else sTk t n lo hi x.1) else sTk t n lo hi (sNo 3 (tkW t n x.1.1) x.1), x.2 + 1)
noncomputable def gL (t : Int → Int) (n lo hi room base : Int) (mo : Prop) (x : PS × Int) : PS × Int := itP (fun x : PS × Int => x.1.1) (fun x => (0 ≤ x.1.1 ∧ n ≤ 600) ∧ sIs t n lo hi x.1) (gB t n lo hi room base mo) x
theorem gB_go {t : Int → Int} {n lo hi room base : Int} {mo : Prop} (x : PS × Int) (h : (0 ≤ x.1.1 ∧ n ≤ 600) ∧ sIs t n lo hi x.1) (hp : x.1.1 ≤ 601) : x.1.1 < (gB t n lo hi room base mo x).1.1 ∧ (gB t n lo hi room base mo x).1.1 ≤ 601 := by
  have h1 := sIs_go h.2 h.1.2 ⟨h.1.1, hp⟩
  have h2 := sIs_go (S := sNo 3 (tkW t n x.1.1) x.1) (sIs_no.mpr h.2) h.1.2 ⟨h.1.1, hp⟩
  unfold gB
  by_cases c : x.2 < room
  · rw [if_pos c]
    split
    · show x.1.1 < (sTk t n lo hi x.1).1 ∧ (sTk t n lo hi x.1).1 ≤ 601
      rw [h1.2.2]; exact h1.1
    · show x.1.1 < (sTk t n lo hi x.1).1 ∧ (sTk t n lo hi x.1).1 ≤ 601
      rw [h1.2.2]; exact h1.1
  · rw [if_neg c]
    show x.1.1 < (sTk t n lo hi (sNo 3 (tkW t n x.1.1) x.1)).1 ∧ (sTk t n lo hi (sNo 3 (tkW t n x.1.1) x.1)).1 ≤ 601
    rw [h2.2.2]; exact h2.1
theorem gL_y {t : Int → Int} {n lo hi room base : Int} {mo : Prop} {x : PS × Int} (hn : n ≤ 600) (hp : 0 ≤ x.1.1 ∧ x.1.1 ≤ 601) (h : sIs t n lo hi x.1) : gL t n lo hi room base mo x = gL t n lo hi room base mo (gB t n lo hi room base mo x) := itP_y (fun s a b => gB_go s a b) hp.2 ⟨⟨hp.1, hn⟩, h⟩
theorem gL_n {t : Int → Int} {n lo hi room base : Int} {mo : Prop} {x : PS × Int} (h : ¬ sIs t n lo hi x.1) : gL t n lo hi room base mo x = x := itP_n (fun z => h z.2)
/-- places outside the run stay -/
theorem gB_rd {t : Int → Int} {n lo hi room base : Int} {mo : Prop} {x : PS × Int} {j : Int} (h0 : 0 ≤ x.2) (h : j < base ∨ base + room ≤ j) : (gB t n lo hi room base mo x).1.2.2 j = x.1.2.2 j := by
  unfold gB
  by_cases c : x.2 < room
  · rw [if_pos c]
    split
    · show fu x.1.2.2 _ _ j = _
      rw [fu_ne (by omega)]
    · rfl
  · rw [if_neg c]
    rfl
/-! hearing -/
noncomputable def heG (t : Int → Int) (n : Int) (S : PS) : Int := sNv t n 0 1 (sTk t n 20 20 S)
noncomputable def heA (t : Int → Int) (n : Int) (S : PS) : PS := sNm t n 0 1 (sTk t n 20 20 S)
noncomputable def heL (t : Int → Int) (n : Int) (S : PS) : PS × Int := gL t n 14 18 6 (2 + 6 * heG t n S) True (heA t n S, 0)
noncomputable def heS (t : Int → Int) (n : Int) (S : PS) : PS := sEl t n (sSt (heG t n S) (min (heL t n S).2 6) (heL t n S).1)
/-! order -/
noncomputable def orA (t : Int → Int) (n : Int) (S : PS) : PS := sTk t n 9 9 S
def orI9 (t : Int → Int) (n : Int) (A : PS) : Prop := A.2.1.1 = 0 ∧ tkK t n A.1 = 1 ∧ 0 ≤ tkV t n A.1 ∧ tkV t n A.1 ≤ 1
noncomputable def orG (t : Int → Int) (n : Int) (S : PS) : Int := sNv t n 0 1 (orA t n S)
noncomputable def orB (t : Int → Int) (n : Int) (S : PS) : PS := sNm t n 0 1 (orA t n S)
def orM (t : Int → Int) (n : Int) (S : PS) : Prop := orI9 t n (orA t n S) ∧ S.2.2 (15 + orG t n S) < 6
noncomputable def orC (t : Int → Int) (n : Int) (S : PS) : PS := if dP ((orB t n S).2.1.1 = 0 ∧ orI9 t n (orA t n S) ∧ ¬ orM t n S) = true then sNo 3 (tkW t n S.1) (orB t n S) else orB t n S
noncomputable def orK (t : Int → Int) (n : Int) (S : PS) : Int := 17 + 36 * orG t n S + 6 * (if dP (orM t n S) = true then S.2.2 (15 + orG t n S) else 0)
noncomputable def orV (t : Int → Int) (n : Int) (S : PS) : Int := sTv t n 14 18 (orC t n S) - 14
noncomputable def orD (t : Int → Int) (n : Int) (S : PS) : PS := sWn t n 10 13 (sTk t n 14 18 (orC t n S))
noncomputable def orL (t : Int → Int) (n : Int) (S : PS) : PS × Int := gL t n 10 13 4 (orK t n S + 2) (orM t n S) (orD t n S, 0)
noncomputable def orS (t : Int → Int) (n : Int) (S : PS) : PS := if dP (orM t n S) = true then sSt (15 + orG t n S) (S.2.2 (15 + orG t n S) + 1) (sSt (orK t n S + 1) (min (orL t n S).2 4) (sSt (orK t n S) (orV t n S) (orL t n S).1)) else (orL t n S).1
theorem orC_rd {t : Int → Int} {n : Int} {S : PS} : (orC t n S).2.2 = S.2.2 := by
  unfold orC
  split <;> rfl
theorem orD_rd {t : Int → Int} {n : Int} {S : PS} : (orD t n S).2.2 = S.2.2 := by
  unfold orD sWn
  split <;> exact orC_rd
/-! war -/
noncomputable def waB (t : Int → Int) (n : Int) (d : Int) (A : PS) : PS :=
  if d = 1 then sSt 0 (sNv t n 1 4 A) (sNm t n 1 4 A)
  else if d = 2 then sSt 1 (sNv t n 0 9 A) (sNm t n 0 9 A)
  else if d = 3 then sSt 2 (sNv t n 0 9 A) (sNm t n 0 9 A)
  else if d = 4 then (if (sTk t n 10 13 (sTk t n 10 13 A)).2.1.1 = 0 then sSt (3 + (sTv t n 10 13 A - 10)) (sTv t n 10 13 (sTk t n 10 13 A) - 10) (sTk t n 10 13 (sTk t n 10 13 A)) else sTk t n 10 13 (sTk t n 10 13 A))
  else if d = 5 then sSt (7 + sNv t n 0 1 A) (sNv t n 0 3 (sNm t n 0 1 A)) (sNm t n 0 3 (sNm t n 0 1 A))
  else if d = 6 then sSt (9 + sNv t n 0 1 A) (sNv t n 1 4 (sNm t n 0 1 A)) (sNm t n 1 4 (sNm t n 0 1 A))
  else if d = 7 then sSt (11 + sNv t n 0 1 A) (sNv t n 0 3 (sNm t n 0 1 A)) (sNm t n 0 3 (sNm t n 0 1 A))
  else if d = 8 then sSt (13 + sNv t n 0 1 A) (sNv t n 0 20 (sNm t n 0 1 A)) (sNm t n 0 20 (sNm t n 0 1 A))
  else A
noncomputable def waS (t : Int → Int) (n : Int) (S : PS) : PS := if dP (sIs t n 9 9 S) = true then sEl t n (orS t n S) else sEl t n (waB t n (sTv t n 1 8 S) (sTk t n 1 8 S))
/-! villages -/
noncomputable def viD (t : Int → Int) (n : Int) (S : PS) : Int := sTv t n 21 24 S - 21
noncomputable def viA (t : Int → Int) (n : Int) (S : PS) : PS := if dP ((sTk t n 21 24 S).2.1.1 = 0 ∧ ¬ S.2.2 0 < 8) = true then sNo 3 (tkW t n S.1) (sTk t n 21 24 S) else sTk t n 21 24 S
noncomputable def viB (t : Int → Int) (n : Int) (S : PS) : PS := if dP ((viA t n S).2.1.1 = 0 ∧ tkK t n (viA t n S).1 = 1 ∧ S.2.2 0 ≤ tkV t n (viA t n S).1 ∧ tkV t n (viA t n S).1 ≤ 7) = true then sNo 2 (tkW t n (viA t n S).1) (viA t n S) else viA t n S
noncomputable def viP (t : Int → Int) (n : Int) (S : PS) : Int := sNv t n 0 8 (viB t n S)
noncomputable def viC (t : Int → Int) (n : Int) (S : PS) : PS := sNm t n 0 8 (viB t n S)
noncomputable def viO (t : Int → Int) (n : Int) (S : PS) : Int := if viD t n S = 0 then sNv t n 1 9 (viC t n S) else if viD t n S = 1 ∨ viD t n S = 2 then sTv t n 10 13 (viC t n S) - 10 else -1
noncomputable def viE (t : Int → Int) (n : Int) (S : PS) : PS := if viD t n S = 0 then sNm t n 1 9 (viC t n S) else if viD t n S = 1 ∨ viD t n S = 2 then sTk t n 10 13 (viC t n S) else viC t n S
noncomputable def viF (t : Int → Int) (n : Int) (S : PS) : PS := if dP (sIs t n 10 13 (viE t n S) ∧ tkC t n (viE t n S).1 - 10 = viO t n S) = true then sNo 4 (tkW t n (viE t n S).1) (viE t n S) else viE t n S
noncomputable def viT (t : Int → Int) (n : Int) (S : PS) : Int := if viD t n S = 1 then sTv t n 10 13 (viF t n S) - 10 else -1
noncomputable def viG (t : Int → Int) (n : Int) (S : PS) : PS := if viD t n S = 1 then sTk t n 10 13 (viF t n S) else viE t n S
noncomputable def viH (t : Int → Int) (n : Int) (S : PS) : PS := if S.2.2 0 < 8 then sSt 0 (S.2.2 0 + 1) (sSt (1 + 4 * S.2.2 0 + 3) (viT t n S) (sSt (1 + 4 * S.2.2 0 + 2) (viO t n S) (sSt (1 + 4 * S.2.2 0 + 1) (viD t n S) (sSt (1 + 4 * S.2.2 0) (viP t n S) (viG t n S))))) else viG t n S
noncomputable def viS (t : Int → Int) (n : Int) (S : PS) : PS := sEl t n (viH t n S)
theorem viA_rd {t : Int → Int} {n : Int} {S : PS} : (viA t n S).2.2 = S.2.2 := by unfold viA; split <;> rfl
theorem viB_rd {t : Int → Int} {n : Int} {S : PS} : (viB t n S).2.2 = S.2.2 := by unfold viB; split <;> exact viA_rd
theorem viE_rd {t : Int → Int} {n : Int} {S : PS} : (viE t n S).2.2 = S.2.2 := by unfold viE; split <;> first | exact viB_rd | (split <;> exact viB_rd)
theorem viF_rd {t : Int → Int} {n : Int} {S : PS} : (viF t n S).2.2 = S.2.2 := by unfold viF; split <;> exact viE_rd
theorem viG_rd {t : Int → Int} {n : Int} {S : PS} : (viG t n S).2.2 = S.2.2 := by unfold viG; split <;> first | exact viF_rd | exact viE_rd
theorem viD_rng {t : Int → Int} {n : Int} {S : PS} : -21 ≤ viD t n S ∧ viD t n S ≤ 3 := by have := tkVl_rng (t := t) (n := n) (p := S.1) (e := S.2.1) (lo := 21) (hi := 24) (by omega); unfold viD sTv; omega
theorem viO_rng {t : Int → Int} {n : Int} {S : PS} : -10 ≤ viO t n S ∧ viO t n S ≤ 9 := by
  have h1 := tkVl_rng (t := t) (n := n) (p := (viC t n S).1) (e := (viC t n S).2.1) (lo := 10) (hi := 13) (by omega)
  have h2 := nmV_rng (t := t) (n := n) (p := (viC t n S).1) (e := (viC t n S).2.1) (lo := 1) (hi := 9) (by omega)
  unfold viO sNv sTv
  split
  · omega
  · split <;> omega
theorem MP_5 {σ : St} {t : Int → Int} {n : Int} {S : PS} (h : MP σ t n S) : 0 ≤ σ 5 0 ∧ σ 5 0 ≤ 4 := by
  have h5 : σ 5 0 = mK (tkK t n S.1) := h.1.2.1.2.2.1
  have hg := MS_rng h.1
  rw [h5]
  unfold mK
  split <;> omega
/-- nothing is wrong behind two beats: they were told -/
theorem tk10_ok {σ : St} {t : Int → Int} {n : Int} {A : PS} (h : MP σ t n (sTk t n 10 13 (sTk t n 10 13 A))) (h0 : (sTk t n 10 13 (sTk t n 10 13 A)).2.1.1 = 0) : (10 ≤ sTv t n 10 13 A ∧ sTv t n 10 13 A ≤ 13) ∧ 10 ≤ sTv t n 10 13 (sTk t n 10 13 A) ∧ sTv t n 10 13 (sTk t n 10 13 A) ≤ 13 := by
  have key : ∀ (S : PS), (sTk t n 10 13 S).2.1.1 = 0 → sIs t n 10 13 S := by
    intro S hS
    by_cases hc : sIs t n 10 13 S
    · exact hc
    · exfalso
      have e : (sTk t n 10 13 S).2.1 = eEnd S.2.1 (tkW t n S.1) := by
        show tkE t n S.1 S.2.1 10 13 = _
        unfold tkE
        exact if_neg (fun z => hc (dP_t.mp z))
      rw [e] at hS
      unfold eEnd at hS
      split at hS
      · omega
      · exact absurd (show (1 : Int) = 0 from hS) (by decide)
  have h2 := key _ h0
  have h1 : sIs t n 10 13 A := key _ h2.1
  have a1 := tkVl_is h1
  have a2 := tkVl_is h2
  have b1 := h1.2
  have b2 := h2.2
  unfold sTv
  rw [a1.1, a2.1]
  omega
