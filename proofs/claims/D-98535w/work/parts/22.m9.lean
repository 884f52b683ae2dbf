set_option maxHeartbeats 4000000 in
theorem tX5_codesOf (l : Launch) (n : Int) (h : 0 ≤ n ∧ n ≤ 5) : Met l yX5_codesOf (ws_ yX5_codesOf cX5_codesOf 1 (some .int)) ⟨0, 0, 0, 0⟩ (va_Pc [.int (iI n)] (fun _ => True)) (qP (.int (iI (p4 n)))) 0 0 (fun _ => False) := by
  refine sStart (by decide) (Nat.le_of_ble_eq_true rfl) (fun p e s m below meth c S hr hlk ls hW hl => ?_)
  have hl : lv_has ls 1 [(0, .int (iI n))] := hl
  refine r_iconst S dX5_codesOf_0 ?_
  refine r_iconst S dX5_codesOf_1 ?_
  refine lv_iload_n S.1 S.2.1 dX5_codesOf_2 rfl (lv_at hl 0 rfl) ?_
  refine r_imul S dX5_codesOf_3 ?_
  refine r_ishl S dX5_codesOf_4 ?_
  exact e_iP S hr hlk hW (shl_p4 h) dX5_codesOf_5
set_option maxHeartbeats 4000000 in
theorem tX5_givesNumber (l : Launch) (G : GG) (ad : Nat → Nat) (σ : St) (who : Int) (code : Int) (n : Int) (hw : 0 ≤ who ∧ who ≤ 1) (hc : 0 ≤ code ∧ code < p4 n) (hn : 0 ≤ n ∧ n ≤ 5) : Met l yX5_givesNumber (ws_ yX5_givesNumber cX5_givesNumber 6 none) ⟨0, 0, 0, 0⟩ (wPre G shM ad σ (fun _ => True) [.ref (ad 0), .int (iI who), .int (iI code), .int (iI n)]) (qS G shM ad (aM ad) (rV (fun σ' => (Gv σ' who (digL code n)) ∧ (∀ l : List Int, l.length ≤ 12 → Gv σ (1 - who) l → Gv σ' (1 - who) l) ∧ (same [12, 13] σ σ')))) 0 0 (aM ad) := by
  refine wStart (by decide) (Nat.le_of_ble_eq_true rfl) (fun k hk => ⟨k, hk, rfl⟩) (fun p e s m below meth c S hr hlk _ _ ls hW hl => ?_)
  have hl : lv_has ls 6 [(0, .ref (ad 0)), (1, .int (iI who)), (2, .int (iI code)), (3, .int (iI n))] := hl
  have hp4 := p4_le hn
  have hdl := digL_len (code := code) hn.1
  refine lv_iload_n S.1 S.2.1 dX5_givesNumber_0 rfl (lv_at hl 2 rfl) ?_
  refine lv_istore (lv' := [(4, .int (iI code)), (0, .ref (ad 0)), (1, .int (iI who)), (2, .int (iI code)), (3, .int (iI n))]) S.1 S.2.1 dX5_givesNumber_1 hl (by decide) rfl (fun ls hl => ?_)
  refine lv_aload_n S.1 S.2.1 dX5_givesNumber_3 rfl (lv_at hl 1 rfl) ?_
  refine w_getr S hW in_X5 0 rfl rfl 13 (by decide) q1664 rfl rfl dX5_givesNumber_4 ?_
  refine lv_iload_n S.1 S.2.1 dX5_givesNumber_7 rfl (lv_at hl 2 rfl) ?_
  refine lv_iload_n S.1 S.2.1 dX5_givesNumber_8 rfl (lv_at hl 4 rfl) ?_
  refine w_ast S hW 5 0 rfl rfl rfl (z := n) (by omega) dX5_givesNumber_9 (fun H locs hW => ?_)
  refine lv_iload_n S.1 S.2.1 dX5_givesNumber_10 rfl (lv_at hl 4 rfl) ?_
  refine r_iconst S dX5_givesNumber_11 ?_
  refine r_isub S dX5_givesNumber_12 ?_
  refine lv_istore (lv' := [(5, .int (iI (n - 1))), (4, .int (iI code)), (0, .ref (ad 0)), (1, .int (iI who)), (2, .int (iI code)), (3, .int (iI n))]) S.1 S.2.1 dX5_givesNumber_13 hl (by decide) rfl (fun ls hl => ?_)
  have cut_15 : ∀ (N_15 : Nat) (k rest : Int) (σ1 : St) (H : Heap) (locs : List Loc) (ls : Array Slot), (-1 ≤ k ∧ k < n ∨ (n = 0 ∧ k = -1)) → (rest = code / p4 (n - 1 - k) ∧ 0 ≤ rest ∧ rest < 2147483648) → (same [12, 13] σ σ1) → (∀ j : Int, σ1 13 j = if j = who then n else σ 13 j) → (∀ j : Int, σ1 12 j = if 12 * who + k < j ∧ j < 12 * who + n then dgt code n (j - 12 * who) else σ 12 j) → ((k + 1).toNat) < N_15 → WD G shM ad (aM ad) s s.heap σ1 H locs → lv_has ls 6 [(5, .int (iI k)), (4, .int (iI rest)), (0, .ref (ad 0)), (1, .int (iI who)), (2, .int (iI code)), (3, .int (iI n))] → W p l e (⟨0, 0, 0, 0⟩ : Room) s m ([.ref (ad 0), .int (iI who), .int (iI code), .int (iI n)] : List Value).toArray below meth c H locs 0 0 (MQ below (qS G shM ad (aM ad) (rV (fun σ' => (Gv σ' who (digL code n)) ∧ (∀ l : List Int, l.length ≤ 12 → Gv σ (1 - who) l → Gv σ' (1 - who) l) ∧ (same [12, 13] σ σ')))) ([.ref (ad 0), .int (iI who), .int (iI code), .int (iI n)] : List Value).toArray s 0 0 (aM ad)) (F0 m 15 ls []) := by
    intro N_15
    induction N_15 with
    | zero =>
      intro k rest σ1 H locs ls hk hre hsm hm hg hμ_15 hW hl
      exact absurd hμ_15 (by omega)
    | succ N_15 ih_15 =>
      intro k rest σ1 H locs ls hk hre hsm hm hg hμ_15 hW hl
      refine lv_iload S.1 S.2.1 dX5_givesNumber_15 (lv_at hl 0 rfl) ?_
      refine r_if_lt S (tgt := 48) dX5_givesNumber_17 rfl (by omega) (fun c_17 => ?_) (fun c_17 => ?_)
      ·
        exact e_vS S hr hlk hW ⟨rfl, ⟨(⟨by rw [hm who, if_pos rfl]; omega, fun i i1 i2 => by rw [hg, if_pos (by omega), digL_at (by omega)]; congr 1; omega⟩), (fun l hl9 h => ⟨by rw [hm, if_neg (by omega)]; exact h.1, fun i i1 i2 => by rw [hg, if_neg (by omega)]; exact h.2 i i1 i2⟩), (hsm)⟩⟩ dX5_givesNumber_48
      ·
        have hr0 := hre.2
        refine lv_aload_n S.1 S.2.1 dX5_givesNumber_20 rfl (lv_at hl 2 rfl) ?_
        refine w_getr S hW in_X5 0 rfl rfl 12 (by decide) q1663 rfl rfl dX5_givesNumber_21 ?_
        refine r_bipush S dX5_givesNumber_24 (by decide) ?_
        refine lv_iload_n S.1 S.2.1 dX5_givesNumber_26 rfl (lv_at hl 3 rfl) ?_
        refine r_imul S dX5_givesNumber_27 ?_
        refine lv_iload S.1 S.2.1 dX5_givesNumber_28 (lv_at hl 0 rfl) ?_
        refine r_iadd S dX5_givesNumber_30 ?_
        refine lv_iload S.1 S.2.1 dX5_givesNumber_31 (lv_at hl 1 rfl) ?_
        refine r_iconst S dX5_givesNumber_33 ?_
        refine r_irem S dX5_givesNumber_34 (by omega) ?_
        refine w_ast S hW 4 0 rfl rfl rfl (z := (rest % 4)) (by omega) dX5_givesNumber_35 (fun H locs hW => ?_)
        refine lv_iload S.1 S.2.1 dX5_givesNumber_36 (lv_at hl 1 rfl) ?_
        refine r_iconst S dX5_givesNumber_38 ?_
        refine r_idiv S dX5_givesNumber_39 (by omega) ?_
        refine lv_istore (lv' := [(4, .int (iI (rest / 4))), (5, .int (iI k)), (0, .ref (ad 0)), (1, .int (iI who)), (2, .int (iI code)), (3, .int (iI n))]) S.1 S.2.1 dX5_givesNumber_40 hl (by decide) rfl (fun ls hl => ?_)
        refine lv_iinc (v := iI (k + (-1))) (lv' := [(5, .int (iI (k + (-1)))), (4, .int (iI (rest / 4))), (0, .ref (ad 0)), (1, .int (iI who)), (2, .int (iI code)), (3, .int (iI n))]) S.1 S.2.1 dX5_givesNumber_42 hl (k := 1) rfl (iI_add _ _) (by decide) rfl (fun ls hl => ?_)
        refine lv_goto (tgt := 15) S.1 S.2.1 dX5_givesNumber_45 rfl ?_
        exact ih_15 (k + (-1)) (rest / 4) (up σ1 12 ((12 * who) + k) (rest % 4)) H _ _ (by omega) (by rw [show n - 1 - (k + (-1)) = n - 1 - k + 1 by omega, p4_s (by omega), hre.1, Int.mul_comm, ← Int.ediv_ediv_of_nonneg (by have := p4_pos (n - 1 - k); omega)]; exact ⟨rfl, by omega⟩) (same_up hsm (by decide)) (fun j => by rw [up_ne (by decide)]; exact hm j) (fun j => (show j = 12 * who + k ∨ j ≠ 12 * who + k by omega).elim (fun hj => by subst hj; rw [up_self, if_pos (by omega), show 12 * who + k - 12 * who = k by omega, hre.1]; rfl) (fun hj => by rw [up_nei hj, hg j]; congr 1; apply propext; omega)) (by omega) hW (lv_sub hl [0, 1, 2, 3, 4, 5] rfl)
  exact cut_15 _ (n - 1) code (up σ 13 who n) H _ _ (by omega) (by rw [show n - 1 - (n - 1) = 0 by omega]; exact ⟨by simp [p4], by omega⟩) (same_up same_rf (by decide)) (fun j => by simp only [up]; by_cases hj : j = who <;> simp [hj]) (fun j => by rw [up_ne (by decide), if_neg (by omega)]) (Nat.lt_succ_self _) hW (lv_sub hl [0, 1, 2, 3, 4, 5] rfl)
set_option maxHeartbeats 4000000 in
theorem tX5_isMade (l : Launch) (G : GG) (ad : Nat → Nat) (σ : St) (army : Int) (move : Int) (L : List (Int × Int)) (s1 : Int) (hw0 : 0 ≤ σ 10 0 ∧ σ 10 0 ≤ 700) (ha : 0 ≤ army ∧ army ≤ 1) (hWf : WfWar (wr σ)) (hn : σ 18 0 = L.length) (hL : L.length ≤ 24) (hv : rowV L) (hs : fil σ 16 L.length (sd (wr σ) (rf L) s1)) (hmv : -2147483648 ≤ move ∧ move < 2147483648) : Met l yX5_isMade (ws_ yX5_isMade cX5_isMade 5 (some .boolean)) ⟨5, 0, 0, 114⟩ (wPre G shM ad σ (fun _ => True) [.ref (ad 0), .int (iI army), .int (iI move)]) (qS G shM ad (aM ad) (rZ (fun r σ' => (r = dP (hasM (wr σ) L s1 army move)) ∧ (Mad σ' (wr σ) L s1 army) ∧ (Oth σ σ' army) ∧ (same [19, 20, 21, 22, 23] σ σ')))) 0 0 (aM ad) := by
  refine wStart (by decide) (Nat.le_of_ble_eq_true rfl) (fun k hk => ⟨k, hk, rfl⟩) (fun p e s m below meth c S hr hlk _ _ ls hW hl => ?_)
  have hl : lv_has ls 5 [(0, .ref (ad 0)), (1, .int (iI army)), (2, .int (iI move))] := hl
  have hA := hWf.2.2.2.2 army ha.1 ha.2
  have h5 := hA.2.2.2.2.1
  have hh := hrs_rng (n := σ 18 0) hA (by omega)
  have hne : hrs (wr σ) (σ 18 0) army = hrs (wr σ) L.length army := by rw [hn]
  have hM := mvs_len (s := s1) hA hL
  refine lv_aload_n S.1 S.2.1 dX5_isMade_0 rfl (lv_at hl 0 rfl) ?_
  refine lv_iload_n S.1 S.2.1 dX5_isMade_1 rfl (lv_at hl 1 rfl) ?_
  refine c_VSv S hW (tX5_makes l G ad σ army L s1 (hw0) (ha) (hWf) (hn) (hL) (hv) (hs)) (cw_X5_270 S.2.2.2.2 ⟨Nat.le_of_ble_eq_true rfl, Nat.le_of_ble_eq_true rfl⟩) eBlind_T (fun _ _ _ => trivial) (w_recv hW (q0 := 0) rfl rfl) rfl hl.1 (rest := []) rfl (Nat.le_of_ble_eq_true rfl) dX5_isMade_2 ⟨Nat.le_of_ble_eq_true rfl, Nat.le_of_ble_eq_true rfl⟩ (fun σ2 H locs q2 hW => ?_)
  obtain ⟨q2_mad, q2_oth, q2_sm⟩ := q2
  have md := q2_mad.1
  refine r_iconst S dX5_isMade_5 ?_
  refine r_as (b2i (dP (hasU (wr σ) L s1 army move 0))) (dP_0 hasU_0) ?_
  refine lv_istore_n (lv' := [(3, .int (iI (b2i (dP (hasU (wr σ) L s1 army move 0))))), (0, .ref (ad 0)), (1, .int (iI army)), (2, .int (iI move))]) S.1 S.2.1 dX5_isMade_6 rfl hl (by decide) rfl (fun ls hl => ?_)
  refine r_iconst S dX5_isMade_7 ?_
  refine lv_istore (lv' := [(4, .int (iI 0)), (3, .int (iI (b2i (dP (hasU (wr σ) L s1 army move 0))))), (0, .ref (ad 0)), (1, .int (iI army)), (2, .int (iI move))]) S.1 S.2.1 dX5_isMade_8 hl (by decide) rfl (fun ls hl => ?_)
  have cut_10 : ∀ (N_10 : Nat) (j : Int) (H : Heap) (locs : List Loc) (ls : Array Slot), (0 ≤ j ∧ j ≤ (mvs (wr σ) L s1 army).length) → (((mvs (wr σ) L s1 army).length - j).toNat) < N_10 → WD G shM ad (aM ad) s s.heap σ2 H locs → lv_has ls 5 [(4, .int (iI j)), (3, .int (iI (b2i (dP (hasU (wr σ) L s1 army move j))))), (0, .ref (ad 0)), (1, .int (iI army)), (2, .int (iI move))] → W p l e (⟨5, 0, 0, 114⟩ : Room) s m ([.ref (ad 0), .int (iI army), .int (iI move)] : List Value).toArray below meth c H locs 0 0 (MQ below (qS G shM ad (aM ad) (rZ (fun r σ' => (r = dP (hasM (wr σ) L s1 army move)) ∧ (Mad σ' (wr σ) L s1 army) ∧ (Oth σ σ' army) ∧ (same [19, 20, 21, 22, 23] σ σ')))) ([.ref (ad 0), .int (iI army), .int (iI move)] : List Value).toArray s 0 0 (aM ad)) (F0 m 10 ls []) := by
    intro N_10
    induction N_10 with
    | zero =>
      intro j H locs ls hj hμ_10 hW hl
      exact absurd hμ_10 (by omega)
    | succ N_10 ih_10 =>
      intro j H locs ls hj hμ_10 hW hl
      refine lv_iload S.1 S.2.1 dX5_isMade_10 (lv_at hl 0 rfl) ?_
      refine lv_aload_n S.1 S.2.1 dX5_isMade_12 rfl (lv_at hl 2 rfl) ?_
      refine w_getr S hW in_X5 0 rfl rfl 22 (by decide) q1673 rfl rfl dX5_isMade_13 ?_
      refine lv_iload_n S.1 S.2.1 dX5_isMade_16 rfl (lv_at hl 3 rfl) ?_
      refine w_ald S hW 13 0 rfl rfl (by omega) dX5_isMade_17 ?_
      refine r_icmp_ge S (tgt := 53) dX5_isMade_18 rfl (by omega) (fun c_18 => ?_) (fun c_18 => ?_)
      ·
        refine lv_iload_n S.1 S.2.1 dX5_isMade_53 rfl (lv_at hl 1 rfl) ?_
        exact e_zS S hr hlk hW (b2i_or _) ⟨(dP (hasU (wr σ) L s1 army move j)), rfl, ⟨(dP_c (by rw [show j = (mvs (wr σ) L s1 army).length by omega]; exact Iff.rfl)), (q2_mad), (q2_oth), (q2_sm)⟩⟩ dX5_isMade_54
      ·
        refine lv_iload_n S.1 S.2.1 dX5_isMade_21 rfl (lv_at hl 1 rfl) ?_
        refine r_ifne_p S (tgt := 41) dX5_isMade_22 rfl (fun c_22 => ?_) (fun c_22 => ?_)
        ·
          refine r_iconst S dX5_isMade_41 ?_
          refine lv_goto (tgt := 46) S.1 S.2.1 dX5_isMade_42 rfl ?_
          refine r_as (b2i (dP (hasU (wr σ) L s1 army move (j + 1)))) (by first | exact dP_1 ((hasU_s hj.1).mpr (Or.inl c_22)) | exact dP_1 ((hasU_s hj.1).mpr (Or.inr (by rw [← hE.1]; exact c_38))) | exact dP_0 (fun z => ((hasU_s hj.1).mp z).elim c_22 (fun z2 => c_38 (by rw [hE.1]; exact z2)))) ?_
          refine lv_istore_n (lv' := [(3, .int (iI (b2i (dP (hasU (wr σ) L s1 army move (j + 1)))))), (4, .int (iI j)), (0, .ref (ad 0)), (1, .int (iI army)), (2, .int (iI move))]) S.1 S.2.1 dX5_isMade_46 rfl hl (by decide) rfl (fun ls hl => ?_)
          refine lv_iinc (v := iI (j + 1)) (lv' := [(4, .int (iI (j + 1))), (3, .int (iI (b2i (dP (hasU (wr σ) L s1 army move (j + 1)))))), (0, .ref (ad 0)), (1, .int (iI army)), (2, .int (iI move))]) S.1 S.2.1 dX5_isMade_47 hl (k := 1) rfl (iI_add _ _) (by decide) rfl (fun ls hl => ?_)
          refine lv_goto (tgt := 10) S.1 S.2.1 dX5_isMade_50 rfl ?_
          exact ih_10 (j + 1) H _ _ (by omega) (by omega) hW (lv_sub hl [0, 1, 2, 3, 4] rfl)
        ·
          have hE := q2_mad.2.2 j (by omega) (by omega)
          have hB := mvs_at (s := s1) (L := L) hA (j := j) (by omega)
          have hO := (hA.2.2.2.2.2 _ hB.1 hB.2.1).1
          rw [← hE.1] at hO
          refine lv_aload_n S.1 S.2.1 dX5_isMade_25 rfl (lv_at hl 2 rfl) ?_
          refine w_getr S hW in_X5 0 rfl rfl 19 (by decide) q1670 rfl rfl dX5_isMade_26 ?_
          refine r_bipush S dX5_isMade_29 (by decide) ?_
          refine lv_iload_n S.1 S.2.1 dX5_isMade_31 rfl (lv_at hl 3 rfl) ?_
          refine r_imul S dX5_isMade_32 ?_
          refine lv_iload S.1 S.2.1 dX5_isMade_33 (lv_at hl 0 rfl) ?_
          refine r_iadd S dX5_isMade_35 ?_
          refine w_ald S hW 10 0 rfl rfl (by omega) dX5_isMade_36 ?_
          refine lv_iload_n S.1 S.2.1 dX5_isMade_37 rfl (lv_at hl 4 rfl) ?_
          refine r_icmp_ne S (tgt := 45) dX5_isMade_38 rfl (by omega) (fun c_38 => ?_) (fun c_38 => ?_)
          ·
            refine r_iconst S dX5_isMade_45 ?_
            refine r_as (b2i (dP (hasU (wr σ) L s1 army move (j + 1)))) (by first | exact dP_1 ((hasU_s hj.1).mpr (Or.inl c_22)) | exact dP_1 ((hasU_s hj.1).mpr (Or.inr (by rw [← hE.1]; exact c_38))) | exact dP_0 (fun z => ((hasU_s hj.1).mp z).elim c_22 (fun z2 => c_38 (by rw [hE.1]; exact z2)))) ?_
            refine lv_istore_n (lv' := [(3, .int (iI (b2i (dP (hasU (wr σ) L s1 army move (j + 1)))))), (4, .int (iI j)), (0, .ref (ad 0)), (1, .int (iI army)), (2, .int (iI move))]) S.1 S.2.1 dX5_isMade_46 rfl hl (by decide) rfl (fun ls hl => ?_)
            refine lv_iinc (v := iI (j + 1)) (lv' := [(4, .int (iI (j + 1))), (3, .int (iI (b2i (dP (hasU (wr σ) L s1 army move (j + 1)))))), (0, .ref (ad 0)), (1, .int (iI army)), (2, .int (iI move))]) S.1 S.2.1 dX5_isMade_47 hl (k := 1) rfl (iI_add _ _) (by decide) rfl (fun ls hl => ?_)
            refine lv_goto (tgt := 10) S.1 S.2.1 dX5_isMade_50 rfl ?_
            exact ih_10 (j + 1) H _ _ (by omega) (by omega) hW (lv_sub hl [0, 1, 2, 3, 4] rfl)
          ·
            refine r_iconst S dX5_isMade_41 ?_
            refine lv_goto (tgt := 46) S.1 S.2.1 dX5_isMade_42 rfl ?_
            refine r_as (b2i (dP (hasU (wr σ) L s1 army move (j + 1)))) (by first | exact dP_1 ((hasU_s hj.1).mpr (Or.inl c_22)) | exact dP_1 ((hasU_s hj.1).mpr (Or.inr (by rw [← hE.1]; exact c_38))) | exact dP_0 (fun z => ((hasU_s hj.1).mp z).elim c_22 (fun z2 => c_38 (by rw [hE.1]; exact z2)))) ?_
            refine lv_istore_n (lv' := [(3, .int (iI (b2i (dP (hasU (wr σ) L s1 army move (j + 1)))))), (4, .int (iI j)), (0, .ref (ad 0)), (1, .int (iI army)), (2, .int (iI move))]) S.1 S.2.1 dX5_isMade_46 rfl hl (by decide) rfl (fun ls hl => ?_)
            refine lv_iinc (v := iI (j + 1)) (lv' := [(4, .int (iI (j + 1))), (3, .int (iI (b2i (dP (hasU (wr σ) L s1 army move (j + 1)))))), (0, .ref (ad 0)), (1, .int (iI army)), (2, .int (iI move))]) S.1 S.2.1 dX5_isMade_47 hl (k := 1) rfl (iI_add _ _) (by decide) rfl (fun ls hl => ?_)
            refine lv_goto (tgt := 10) S.1 S.2.1 dX5_isMade_50 rfl ?_
            exact ih_10 (j + 1) H _ _ (by omega) (by omega) hW (lv_sub hl [0, 1, 2, 3, 4] rfl)
  exact cut_10 _ 0 H _ _ (by omega) (Nat.lt_succ_self _) hW (lv_sub hl [0, 1, 2, 3, 4] rfl)
