set_option maxHeartbeats 4000000 in
theorem tX5_readings (l : Launch) (G : GG) (ad : Nat → Nat) (σ : St) (k : Int) (s0 : Int) (army : Int) (few : Bool) (hr0 : -2147483648 ≤ k ∧ k < 2147483648 ∧ -2147483648 ≤ s0 ∧ s0 < 2147483648 ∧ -2147483648 ≤ army ∧ army < 2147483648) (hdb : WfDB (σ 0)) : Met l yX5_readings (ws_ yX5_readings cX5_readings 8 (some .long)) ⟨4, 0, 0, 90⟩ (wPre G shM ad σ (fun _ => True) [.ref (ad 0), .int (iI k), .int (iI s0), .int (iI army), .int (iI (b2i few))]) (qS G shM ad (aM ad) (rL (fun r σ' => (r = sReadings (σ 0) k s0 army few) ∧ (same [10, 11, 12, 13, 14, 15, 16, 17, 18, 35, 36] σ σ')))) 0 0 (aM ad) := by
  refine wStart (by decide) (Nat.le_of_ble_eq_true rfl) (fun k hk => ⟨k, hk, rfl⟩) (fun p e s m below meth c S hr hlk _ _ ls hW hl => ?_)
  have hl : lv_has ls 8 [(0, .ref (ad 0)), (1, .int (iI k)), (2, .int (iI s0)), (3, .int (iI army)), (4, .int (iI (b2i few)))] := hl
  have d0 := hdb.1
  have d1 := hdb.2.1
  have d2 := hdb.2.2.1
  have d3 := hdb.2.2.2.1
  refine lv_aload_n S.1 S.2.1 dX5_readings_0 rfl (lv_at hl 0 rfl) ?_
  refine lv_iload_n S.1 S.2.1 dX5_readings_1 rfl (lv_at hl 1 rfl) ?_
  refine lv_iload_n S.1 S.2.1 dX5_readings_2 rfl (lv_at hl 2 rfl) ?_
  refine c_VSz S hW (tX5_arePlayed l G ad σ k s0 (by omega) (by omega)) (cw_X5_255 S.2.2.2.2 ⟨Nat.le_of_ble_eq_true rfl, Nat.le_of_ble_eq_true rfl⟩) eBlind_T (fun _ _ _ => trivial) (w_recv hW (q0 := 0) rfl rfl) rfl hl.1 (rest := []) rfl (Nat.le_of_ble_eq_true rfl) dX5_readings_3 ⟨Nat.le_of_ble_eq_true rfl, Nat.le_of_ble_eq_true rfl⟩ (fun r3 σ3 H locs q3 hW => ?_)
  obtain ⟨rfl, q3_sm, q3_pl⟩ := q3
  have e0 : σ3 0 = σ 0 := q3_sm 0 (by decide)
  refine r_ifeq_p S (tgt := 16) dX5_readings_6 rfl (fun c_6 => ?_) (fun c_6 => ?_)
  ·
    refine r_ldc2 (z := -2) S q2161 (by decide) dX5_readings_16 ?_
    exact e_lS S hr hlk hW ⟨(-2), rfl, ⟨(by unfold sReadings; rw [if_neg (fun z => by have z2 := dP_t.mp z; first | exact absurd z2.1 (by assumption) | exact absurd z2.2 (by omega))]), (same_w q3_sm (by decide))⟩⟩ dX5_readings_19
  ·
    obtain ⟨w10, pl⟩ := q3_pl (by first | exact c_6 | assumption)
    have ws9 : inWS (σ 0) k s0 := by first | exact c_6 | assumption
    have hWf := hdb.2.2.2.2.2.2.2.2.1 k (by unfold inWS at ws9; omega) (by unfold inWS at ws9; omega)
    have hg := hdb.2.2.2.2.2.2.2.2.2.1 s0 (by unfold inWS at ws9; omega) (by unfold inWS at ws9; omega)
    have w10b : σ3 10 0 = 610 ∨ σ3 10 0 = 699 := by unfold inWS at ws9; omega
    have wq : wr σ3 = wAt (σ 0) k := wr_at e0 w10
    have n18 := pl.1
    have hL9 := rowG_len hWf hg
    have hg00 := (hg 0 (by omega) (by omega)).1
    have hg11 := (hg 1 (by omega) (by omega)).1
    obtain ⟨LL, eLL⟩ : ∃ z, z = rowG (wAt (σ 0) k) (gAt (σ 0) s0) := ⟨_, rfl⟩
    have hLr := rowG_V (w := wAt (σ 0) k) hg
    have hLg := (rowL_V (t := (wAt (σ 0) k 0).toNat) (gl_mem hg (x := 0) (by omega)) (gl_mem hg (x := 1) (by omega))).2
    have w10c : 0 ≤ σ3 10 0 ∧ σ3 10 0 ≤ 700 := by omega
    have sn9 : fil σ3 16 (rowG (wAt (σ 0) k) (gAt (σ 0) s0)).length (sd (wr σ3) (rf (rowG (wAt (σ 0) k) (gAt (σ 0) s0))) 0) := by rw [wq]; exact pl.2.2.1
    have l24 : (rowG (wAt (σ 0) k) (gAt (σ 0) s0)).length ≤ 24 := by omega
    refine lv_iload_n S.1 S.2.1 dX5_readings_9 rfl (lv_at hl 3 rfl) ?_
    refine c_SPw S hW (tX5_isArmy l army (by omega)) (cw_X5_218 S.2.2.2.2 ⟨Nat.le_of_ble_eq_true rfl, Nat.le_of_ble_eq_true rfl⟩) rfl hl.1 (rest := []) rfl (Nat.le_of_ble_eq_true rfl) dX5_readings_10 ⟨Nat.le_of_ble_eq_true rfl, Nat.le_of_ble_eq_true rfl⟩ (fun locs hW => ?_)
    refine r_ifne_p S (tgt := 20) dX5_readings_13 rfl (fun c_13 => ?_) (fun c_13 => ?_)
    ·
      have hA := hWf.2.2.2.2 army (by omega) (by omega)
      have hh := hrs_rng (n := (rowG (wAt (σ 0) k) (gAt (σ 0) s0)).length) hA (by omega)
      have h5 := hA.2.2.2.2.1
      refine lv_aload_n S.1 S.2.1 dX5_readings_20 rfl (lv_at hl 0 rfl) ?_
      refine lv_iload_n S.1 S.2.1 dX5_readings_21 rfl (lv_at hl 3 rfl) ?_
      refine c_VP S hW (tX5_hears l G ad σ3 army (by omega) (by omega) (by rw [wq]; exact hA) (by omega)) (cw_X5_261 S.2.2.2.2 ⟨Nat.le_of_ble_eq_true rfl, Nat.le_of_ble_eq_true rfl⟩) eBlind_T (fun _ _ _ => trivial) (w_recv hW (q0 := 0) rfl rfl) rfl hl.1 (rest := []) rfl (Nat.le_of_ble_eq_true rfl) dX5_readings_22 ⟨Nat.le_of_ble_eq_true rfl, Nat.le_of_ble_eq_true rfl⟩ (fun locs hW => ?_)
      refine r_as (hrs (wAt (σ 0) k) (rowG (wAt (σ 0) k) (gAt (σ 0) s0)).length army) (by rw [wq, n18]) ?_
      refine lv_istore (lv' := [(5, .int (iI (hrs (wAt (σ 0) k) (rowG (wAt (σ 0) k) (gAt (σ 0) s0)).length army))), (0, .ref (ad 0)), (1, .int (iI k)), (2, .int (iI s0)), (3, .int (iI army)), (4, .int (iI (b2i few)))]) S.1 S.2.1 dX5_readings_25 hl (by decide) rfl (fun ls hl => ?_)
      refine lv_aload_n S.1 S.2.1 dX5_readings_27 rfl (lv_at hl 1 rfl) ?_
      refine w_getr S hW in_X5 0 rfl rfl 35 (by decide) q1686 rfl rfl dX5_readings_28 ?_
      refine lv_iload S.1 S.2.1 dX5_readings_31 (lv_at hl 0 rfl) ?_
      refine r_lconst1 S dX5_readings_33 ?_
      refine w_last S hW 23 3 rfl rfl rfl (z := 1) (by omega) dX5_readings_34 (fun H locs hW => ?_)
      refine lv_aload_n S.1 S.2.1 dX5_readings_35 rfl (lv_at hl 1 rfl) ?_
      refine w_getr S hW in_X5 0 rfl rfl 36 (by decide) q1687 rfl rfl dX5_readings_36 ?_
      refine lv_iload S.1 S.2.1 dX5_readings_39 (lv_at hl 0 rfl) ?_
      refine r_iconst S dX5_readings_41 ?_
      refine w_ast S hW 24 0 rfl rfl rfl (z := 0) (by omega) dX5_readings_42 (fun H locs hW => ?_)
      obtain ⟨σ4, e_σ4⟩ : ∃ z, z = (up (up σ3 35 (hrs (wAt (σ 0) k) (rowG (wAt (σ 0) k) (gAt (σ 0) s0)).length army) 1) 36 (hrs (wAt (σ 0) k) (rowG (wAt (σ 0) k) (gAt (σ 0) s0)).length army) 0) := ⟨_, rfl⟩
      rw [← e_σ4] at hW
      have hs4 : same [35, 36] σ3 σ4 := by rw [e_σ4]; exact same_up (same_up same_rf (by decide)) (by decide)
      have ht4 : ∀ j : Int, (hrs (wAt (σ 0) k) (rowG (wAt (σ 0) k) (gAt (σ 0) s0)).length army) - 1 < j → j ≤ (hrs (wAt (σ 0) k) (rowG (wAt (σ 0) k) (gAt (σ 0) s0)).length army) → σ4 35 j = (rdI (wAt (σ 0) k) (rowG (wAt (σ 0) k) (gAt (σ 0) s0)) army j).1 ∧ σ4 36 j = cF (rdI (wAt (σ 0) k) (rowG (wAt (σ 0) k) (gAt (σ 0) s0)) army j).2 := by rw [e_σ4]; exact fun j j1 j2 => by rw [show j = (hrs (wAt (σ 0) k) (rowG (wAt (σ 0) k) (gAt (σ 0) s0)).length army) by omega, rdI_end hh.1]; simp [up, cF]
      refine lv_iload S.1 S.2.1 dX5_readings_43 (lv_at hl 0 rfl) ?_
      refine r_iconst S dX5_readings_45 ?_
      refine r_isub S dX5_readings_46 ?_
      refine lv_istore (lv' := [(6, .int (iI ((hrs (wAt (σ 0) k) (rowG (wAt (σ 0) k) (gAt (σ 0) s0)).length army) - 1))), (5, .int (iI (hrs (wAt (σ 0) k) (rowG (wAt (σ 0) k) (gAt (σ 0) s0)).length army))), (0, .ref (ad 0)), (1, .int (iI k)), (2, .int (iI s0)), (3, .int (iI army)), (4, .int (iI (b2i few)))]) S.1 S.2.1 dX5_readings_47 hl (by decide) rfl (fun ls hl => ?_)
      have cut_49 : ∀ (N_49 : Nat) (kk : Int) (σ1 : St) (H : Heap) (locs : List Loc) (ls : Array Slot), (-1 ≤ kk ∧ kk < (hrs (wAt (σ 0) k) (rowG (wAt (σ 0) k) (gAt (σ 0) s0)).length army) ∨ kk = -1) → (same [35, 36] σ3 σ1) → (∀ j : Int, kk < j → j ≤ (hrs (wAt (σ 0) k) (rowG (wAt (σ 0) k) (gAt (σ 0) s0)).length army) → σ1 35 j = (rdI (wAt (σ 0) k) (rowG (wAt (σ 0) k) (gAt (σ 0) s0)) army j).1 ∧ σ1 36 j = cF (rdI (wAt (σ 0) k) (rowG (wAt (σ 0) k) (gAt (σ 0) s0)) army j).2) → ((kk + 1).toNat) < N_49 → WD G shM ad (aM ad) s s.heap σ1 H locs → lv_has ls 8 [(6, .int (iI kk)), (5, .int (iI (hrs (wAt (σ 0) k) (rowG (wAt (σ 0) k) (gAt (σ 0) s0)).length army))), (0, .ref (ad 0)), (1, .int (iI k)), (2, .int (iI s0)), (3, .int (iI army)), (4, .int (iI (b2i few)))] → W p l e (⟨4, 0, 0, 90⟩ : Room) s m ([.ref (ad 0), .int (iI k), .int (iI s0), .int (iI army), .int (iI (b2i few))] : List Value).toArray below meth c H locs 0 0 (MQ below (qS G shM ad (aM ad) (rL (fun r σ' => (r = sReadings (σ 0) k s0 army few) ∧ (same [10, 11, 12, 13, 14, 15, 16, 17, 18, 35, 36] σ σ')))) ([.ref (ad 0), .int (iI k), .int (iI s0), .int (iI army), .int (iI (b2i few))] : List Value).toArray s 0 0 (aM ad)) (F0 m 49 ls []) := by
        intro N_49
        induction N_49 with
        | zero =>
          intro kk σ1 H locs ls hkk hsm ht hμ_49 hW hl
          exact absurd hμ_49 (by omega)
        | succ N_49 ih_49 =>
          intro kk σ1 H locs ls hkk hsm ht hμ_49 hW hl
          have y0 : σ1 0 = σ 0 := (hsm 0 (by decide)).trans e0
          have y10 : σ1 10 = σ3 10 := hsm 10 (by decide)
          have y10b : σ1 10 0 = σ3 10 0 := by rw [y10]
          have wq1 : wr σ1 = wAt (σ 0) k := by rw [← wq]; funext j; simp only [wr, y0, y10, e0]
          have y18 : σ1 18 0 = (rowG (wAt (σ 0) k) (gAt (σ 0) s0)).length := by rw [hsm 18 (by decide)]; exact n18
          have yo : wr σ1 (15 + army) = (wAt (σ 0) k) (15 + army) := by rw [wq1]
          have y16 : fil σ1 16 (rowG (wAt (σ 0) k) (gAt (σ 0) s0)).length (sd (wr σ1) (rf (rowG (wAt (σ 0) k) (gAt (σ 0) s0))) 0) := by rw [wq1]; exact fil_eq pl.2.2.1 (hsm 16 (by decide))
          refine lv_iload S.1 S.2.1 dX5_readings_49 (lv_at hl 0 rfl) ?_
          refine r_if_lt S (tgt := 171) dX5_readings_51 rfl (by omega) (fun c_51 => ?_) (fun c_51 => ?_)
          ·
            have t0 := ht 0 (by omega) (by omega)
            have rok0 := rdI_ok (k := 0) hA l24 (by omega) (by omega)
            have fr0 : 0 ≤ σ1 36 0 ∧ σ1 36 0 ≤ 999 := by rw [t0.2]; unfold cF; split <;> omega
            refine lv_iload S.1 S.2.1 dX5_readings_171 (lv_at hl 6 rfl) ?_
            refine r_ifne_b S (tgt := 185) dX5_readings_173 rfl (fun c_173 => ?_) (fun c_173 => ?_)
            ·
              refine lv_aload_n S.1 S.2.1 dX5_readings_185 rfl (lv_at hl 2 rfl) ?_
              refine w_getr S hW in_X5 0 rfl rfl 35 (by decide) q1686 rfl rfl dX5_readings_186 ?_
              refine r_iconst S dX5_readings_189 ?_
              refine w_lald S hW 23 3 rfl rfl (by omega) dX5_readings_190 ?_
              refine r_lconst0 S dX5_readings_191 ?_
              refine r_lcmp_ne S (tgt := 202) dX5_readings_192 dX5_readings_193 rfl (by omega) (fun c_192 => ?_) (fun c_192 => ?_)
              ·
                refine lv_aload_n S.1 S.2.1 dX5_readings_202 rfl (lv_at hl 2 rfl) ?_
                refine w_getr S hW in_X5 0 rfl rfl 36 (by decide) q1687 rfl rfl dX5_readings_203 ?_
                refine r_iconst S dX5_readings_206 ?_
                refine w_ald S hW 24 0 rfl rfl (by omega) dX5_readings_207 ?_
                refine r_i2l S dX5_readings_208 (by omega) ?_
                exact e_lS S hr hlk hW ⟨(σ1 36 0), rfl, ⟨(by unfold sReadings sRead2; rw [if_pos (dP_t.mpr ⟨ws9, by omega⟩)]; first | (rw [if_neg (by rw [c_173]; decide)]; exact t0.1) | (rw [if_pos c_173]; exact (rok0.2.2.1.mp (by rw [← t0.1]; exact c_192)).symm) | (rw [if_pos c_173, t0.2]; unfold cF; rw [if_neg (fun z => c_192 (by rw [t0.1]; exact rok0.2.2.1.mpr z))])), (same_tr (same_w q3_sm (by decide)) hsm (by decide))⟩⟩ dX5_readings_209
              ·
                refine r_ldc2 (z := -1) S q2162 (by decide) dX5_readings_196 ?_
                refine lv_goto (tgt := 209) S.1 S.2.1 dX5_readings_199 rfl ?_
                exact e_lS S hr hlk hW ⟨(-1), rfl, ⟨(by unfold sReadings sRead2; rw [if_pos (dP_t.mpr ⟨ws9, by omega⟩)]; first | (rw [if_neg (by rw [c_173]; decide)]; exact t0.1) | (rw [if_pos c_173]; exact (rok0.2.2.1.mp (by rw [← t0.1]; exact c_192)).symm) | (rw [if_pos c_173, t0.2]; unfold cF; rw [if_neg (fun z => c_192 (by rw [t0.1]; exact rok0.2.2.1.mpr z))])), (same_tr (same_w q3_sm (by decide)) hsm (by decide))⟩⟩ dX5_readings_209
            ·
              refine lv_aload_n S.1 S.2.1 dX5_readings_176 rfl (lv_at hl 2 rfl) ?_
              refine w_getr S hW in_X5 0 rfl rfl 35 (by decide) q1686 rfl rfl dX5_readings_177 ?_
              refine r_iconst S dX5_readings_180 ?_
              refine w_lald S hW 23 3 rfl rfl (by omega) dX5_readings_181 ?_
              refine lv_goto (tgt := 209) S.1 S.2.1 dX5_readings_182 rfl ?_
              exact e_lS S hr hlk hW ⟨(σ1 35 0), rfl, ⟨(by unfold sReadings sRead2; rw [if_pos (dP_t.mpr ⟨ws9, by omega⟩)]; first | (rw [if_neg (by rw [c_173]; decide)]; exact t0.1) | (rw [if_pos c_173]; exact (rok0.2.2.1.mp (by rw [← t0.1]; exact c_192)).symm) | (rw [if_pos c_173, t0.2]; unfold cF; rw [if_neg (fun z => c_192 (by rw [t0.1]; exact rok0.2.2.1.mpr z))])), (same_tr (same_w q3_sm (by decide)) hsm (by decide))⟩⟩ dX5_readings_209
          ·
            refine lv_aload_n S.1 S.2.1 dX5_readings_54 rfl (lv_at hl 2 rfl) ?_
            refine w_getr S hW in_X5 0 rfl rfl 35 (by decide) q1686 rfl rfl dX5_readings_55 ?_
            refine lv_iload S.1 S.2.1 dX5_readings_58 (lv_at hl 0 rfl) ?_
            refine r_lconst0 S dX5_readings_60 ?_
            refine w_last S hW 23 3 rfl rfl rfl (z := 0) (by omega) dX5_readings_61 (fun H locs hW => ?_)
            refine lv_aload_n S.1 S.2.1 dX5_readings_62 rfl (lv_at hl 2 rfl) ?_
            refine w_getr S hW in_X5 0 rfl rfl 36 (by decide) q1687 rfl rfl dX5_readings_63 ?_
            refine lv_iload S.1 S.2.1 dX5_readings_66 (lv_at hl 0 rfl) ?_
            refine r_sipush S dX5_readings_68 (by decide) ?_
            refine w_ast S hW 24 0 rfl rfl rfl (z := 999) (by omega) dX5_readings_71 (fun H locs hW => ?_)
            refine r_iconst S dX5_readings_72 ?_
            refine lv_istore (lv' := [(7, .int (iI 0)), (6, .int (iI kk)), (5, .int (iI (hrs (wAt (σ 0) k) (rowG (wAt (σ 0) k) (gAt (σ 0) s0)).length army))), (0, .ref (ad 0)), (1, .int (iI k)), (2, .int (iI s0)), (3, .int (iI army)), (4, .int (iI (b2i few)))]) S.1 S.2.1 dX5_readings_73 hl (by decide) rfl (fun ls hl => ?_)
            have cut_75 : ∀ (N_75 : Nat) (i : Int) (σ2 : St) (H : Heap) (locs : List Loc) (ls : Array Slot), (0 ≤ i ∧ i ≤ (wAt (σ 0) k) (15 + army)) → (same [35, 36] σ3 σ2) → (∀ j : Int, kk < j → j ≤ (hrs (wAt (σ 0) k) (rowG (wAt (σ 0) k) (gAt (σ 0) s0)).length army) → σ2 35 j = (rdI (wAt (σ 0) k) (rowG (wAt (σ 0) k) (gAt (σ 0) s0)) army j).1 ∧ σ2 36 j = cF (rdI (wAt (σ 0) k) (rowG (wAt (σ 0) k) (gAt (σ 0) s0)) army j).2) → (σ2 35 kk = (suI (wAt (σ 0) k) (rowG (wAt (σ 0) k) (gAt (σ 0) s0)) army kk (rdI (wAt (σ 0) k) (rowG (wAt (σ 0) k) (gAt (σ 0) s0)) army) i).1 ∧ σ2 36 kk = cF (suI (wAt (σ 0) k) (rowG (wAt (σ 0) k) (gAt (σ 0) s0)) army kk (rdI (wAt (σ 0) k) (rowG (wAt (σ 0) k) (gAt (σ 0) s0)) army) i).2) → (((wAt (σ 0) k) (15 + army) - i).toNat) < N_75 → WD G shM ad (aM ad) s s.heap σ2 H locs → lv_has ls 8 [(7, .int (iI i)), (6, .int (iI kk)), (5, .int (iI (hrs (wAt (σ 0) k) (rowG (wAt (σ 0) k) (gAt (σ 0) s0)).length army))), (0, .ref (ad 0)), (1, .int (iI k)), (2, .int (iI s0)), (3, .int (iI army)), (4, .int (iI (b2i few)))] → W p l e (⟨4, 0, 0, 90⟩ : Room) s m ([.ref (ad 0), .int (iI k), .int (iI s0), .int (iI army), .int (iI (b2i few))] : List Value).toArray below meth c H locs 0 0 (MQ below (qS G shM ad (aM ad) (rL (fun r σ' => (r = sReadings (σ 0) k s0 army few) ∧ (same [10, 11, 12, 13, 14, 15, 16, 17, 18, 35, 36] σ σ')))) ([.ref (ad 0), .int (iI k), .int (iI s0), .int (iI army), .int (iI (b2i few))] : List Value).toArray s 0 0 (aM ad)) (F0 m 75 ls []) := by
              intro N_75
              induction N_75 with
              | zero =>
                intro i σ2 H locs ls hi hs2 htb hsu hμ_75 hW hl
                exact absurd hμ_75 (by omega)
              | succ N_75 ih_75 =>
                intro i σ2 H locs ls hi hs2 htb hsu hμ_75 hW hl
                have y0 : σ2 0 = σ 0 := (hs2 0 (by decide)).trans e0
                have y10 : σ2 10 = σ3 10 := hs2 10 (by decide)
                have y10b : σ2 10 0 = σ3 10 0 := by rw [y10]
                have wq1 : wr σ2 = wAt (σ 0) k := by rw [← wq]; funext j; simp only [wr, y0, y10, e0]
                have y18 : σ2 18 0 = (rowG (wAt (σ 0) k) (gAt (σ 0) s0)).length := by rw [hs2 18 (by decide)]; exact n18
                have yo : wr σ2 (15 + army) = (wAt (σ 0) k) (15 + army) := by rw [wq1]
                have y16 : fil σ2 16 (rowG (wAt (σ 0) k) (gAt (σ 0) s0)).length (sd (wr σ2) (rf (rowG (wAt (σ 0) k) (gAt (σ 0) s0))) 0) := by rw [wq1]; exact fil_eq pl.2.2.1 (hs2 16 (by decide))
                have sok := suI_ok (k := kk) (i := i) hA l24 (by omega) (by omega) (by omega) (by omega)
                refine lv_iload S.1 S.2.1 dX5_readings_75 (lv_at hl 0 rfl) ?_
                refine lv_aload_n S.1 S.2.1 dX5_readings_77 rfl (lv_at hl 3 rfl) ?_
                refine lv_iload_n S.1 S.2.1 dX5_readings_78 rfl (lv_at hl 6 rfl) ?_
                refine c_VP S hW (tX5_orders l G ad σ2 army (by omega) (by omega)) (cw_X5_221 S.2.2.2.2 ⟨Nat.le_of_ble_eq_true rfl, Nat.le_of_ble_eq_true rfl⟩) eBlind_T (fun _ _ _ => trivial) (w_recv hW (q0 := 0) rfl rfl) rfl hl.1 (rest := [.int (iI i)]) rfl (Nat.le_of_ble_eq_true rfl) dX5_readings_79 ⟨Nat.le_of_ble_eq_true rfl, Nat.le_of_ble_eq_true rfl⟩ (fun locs hW => ?_)
                refine r_icmp_ge S (tgt := 165) dX5_readings_82 rfl (by omega) (fun c_82 => ?_) (fun c_82 => ?_)
                ·
                  refine lv_iinc (v := iI (kk + (-1))) (lv' := [(6, .int (iI (kk + (-1)))), (7, .int (iI i)), (5, .int (iI (hrs (wAt (σ 0) k) (rowG (wAt (σ 0) k) (gAt (σ 0) s0)).length army))), (0, .ref (ad 0)), (1, .int (iI k)), (2, .int (iI s0)), (3, .int (iI army)), (4, .int (iI (b2i few)))]) S.1 S.2.1 dX5_readings_165 hl (k := 1) rfl (iI_add _ _) (by decide) rfl (fun ls hl => ?_)
                  refine lv_goto (tgt := 49) S.1 S.2.1 dX5_readings_168 rfl ?_
                  exact ih_49 (kk + (-1)) σ2 H _ _ (by omega) (hs2) (fun j j1 j2 => (show j = kk ∨ kk < j by omega).elim (fun z => by rw [z, rdI_s hA (by omega) (by omega), ← show i = (wAt (σ 0) k) (15 + army) by omega]; exact hsu) (fun z => htb j z j2)) (by omega) hW (lv_sub hl [0, 2, 3, 4, 5, 6, 7] rfl)
                ·
                  refine lv_aload_n S.1 S.2.1 dX5_readings_85 rfl (lv_at hl 3 rfl) ?_
                  refine lv_iload_n S.1 S.2.1 dX5_readings_86 rfl (lv_at hl 6 rfl) ?_
                  refine lv_iload S.1 S.2.1 dX5_readings_87 (lv_at hl 0 rfl) ?_
                  refine lv_iload S.1 S.2.1 dX5_readings_89 (lv_at hl 1 rfl) ?_
                  refine c_VP S hW (tX5_isFrom l G ad σ2 army i kk (rowG (wAt (σ 0) k) (gAt (σ 0) s0)) 0 (by omega) (by omega) (by rw [wq1]; exact hWf) (y18) (l24) (hLr) (y16) (by omega) (by omega)) (cw_X5_267 S.2.2.2.2 ⟨Nat.le_of_ble_eq_true rfl, Nat.le_of_ble_eq_true rfl⟩) eBlind_T (fun _ _ _ => trivial) (w_recv hW (q0 := 0) rfl rfl) rfl hl.1 (rest := []) rfl (Nat.le_of_ble_eq_true rfl) dX5_readings_91 ⟨Nat.le_of_ble_eq_true rfl, Nat.le_of_ble_eq_true rfl⟩ (fun locs hW => ?_)
                  refine r_ifne_p S (tgt := 100) dX5_readings_94 rfl (fun c_94 => ?_) (fun c_94 => ?_)
                  ·
                    rw [wq1] at c_94
                    have hO := (hA.2.2.2.2.2 i (by omega) (by omega)).2.1
                    have hfe := c_94.1
                    have ole : oLen (wr σ2) army i = oLen (wAt (σ 0) k) army i := by rw [wq1]
                    have tb := htb (kk + oLen (wAt (σ 0) k) army i) (by omega) (by omega)
                    have rok := rdI_ok (k := kk + oLen (wAt (σ 0) k) army i) hA l24 (by omega) (by omega)
                    have fr : 0 ≤ cF (rdI (wAt (σ 0) k) (rowG (wAt (σ 0) k) (gAt (σ 0) s0)) army (kk + oLen (wAt (σ 0) k) army i)).2 ∧ cF (rdI (wAt (σ 0) k) (rowG (wAt (σ 0) k) (gAt (σ 0) s0)) army (kk + oLen (wAt (σ 0) k) army i)).2 ≤ 999 := by unfold cF; split <;> omega
                    have fr2 : 0 ≤ cF (suI (wAt (σ 0) k) (rowG (wAt (σ 0) k) (gAt (σ 0) s0)) army kk (rdI (wAt (σ 0) k) (rowG (wAt (σ 0) k) (gAt (σ 0) s0)) army) i).2 ∧ cF (suI (wAt (σ 0) k) (rowG (wAt (σ 0) k) (gAt (σ 0) s0)) army kk (rdI (wAt (σ 0) k) (rowG (wAt (σ 0) k) (gAt (σ 0) s0)) army) i).2 ≤ 999 := by unfold cF; split <;> omega
                    refine lv_aload_n S.1 S.2.1 dX5_readings_100 rfl (lv_at hl 3 rfl) ?_
                    refine w_getr S hW in_X5 0 rfl rfl 35 (by decide) q1686 rfl rfl dX5_readings_101 ?_
                    refine lv_iload S.1 S.2.1 dX5_readings_104 (lv_at hl 1 rfl) ?_
                    refine lv_dup2_11 S.1 S.2.1 dX5_readings_106 rfl rfl ?_
                    refine w_lald S hW 23 3 rfl rfl (by omega) dX5_readings_107 ?_
                    refine lv_aload_n S.1 S.2.1 dX5_readings_108 rfl (lv_at hl 3 rfl) ?_
                    refine w_getr S hW in_X5 0 rfl rfl 35 (by decide) q1686 rfl rfl dX5_readings_109 ?_
                    refine lv_iload S.1 S.2.1 dX5_readings_112 (lv_at hl 1 rfl) ?_
                    refine lv_aload_n S.1 S.2.1 dX5_readings_114 rfl (lv_at hl 3 rfl) ?_
                    refine lv_iload_n S.1 S.2.1 dX5_readings_115 rfl (lv_at hl 6 rfl) ?_
                    refine lv_iload S.1 S.2.1 dX5_readings_116 (lv_at hl 0 rfl) ?_
                    refine c_VP S hW (tX5_lengthOf l G ad σ2 army i (by omega) (by omega)) (cw_X5_230 S.2.2.2.2 ⟨Nat.le_of_ble_eq_true rfl, Nat.le_of_ble_eq_true rfl⟩) eBlind_T (fun _ _ _ => trivial) (w_recv hW (q0 := 0) rfl rfl) rfl hl.1 (rest := [.int (iI kk), .ref (ad 23), .long (lI (σ2 35 kk)), .int (iI kk), .ref (ad 23)]) rfl (Nat.le_of_ble_eq_true rfl) dX5_readings_118 ⟨Nat.le_of_ble_eq_true rfl, Nat.le_of_ble_eq_true rfl⟩ (fun locs hW => ?_)
                    refine r_iadd S dX5_readings_121 ?_
                    refine w_lald S hW 23 3 rfl rfl (by omega) dX5_readings_122 ?_
                    refine r_ladd S dX5_readings_123 ?_
                    refine w_last S hW 23 3 rfl rfl rfl (z := ((σ2 35 kk) + (σ2 35 (kk + (oLen (wr σ2) army i))))) (by omega) dX5_readings_124 (fun H locs hW => ?_)
                    refine lv_aload_n S.1 S.2.1 dX5_readings_125 rfl (lv_at hl 3 rfl) ?_
                    refine w_getr S hW in_X5 0 rfl rfl 36 (by decide) q1687 rfl rfl dX5_readings_126 ?_
                    refine lv_iload S.1 S.2.1 dX5_readings_129 (lv_at hl 1 rfl) ?_
                    refine lv_aload_n S.1 S.2.1 dX5_readings_131 rfl (lv_at hl 3 rfl) ?_
                    refine w_getr S hW in_X5 0 rfl rfl 36 (by decide) q1687 rfl rfl dX5_readings_132 ?_
                    refine lv_iload S.1 S.2.1 dX5_readings_135 (lv_at hl 1 rfl) ?_
                    refine w_ald S hW 24 0 rfl rfl (by omega) dX5_readings_137 ?_
                    refine r_as (σ2 36 kk) (up_ne (by decide)) ?_
                    refine r_iconst S dX5_readings_138 ?_
                    refine lv_aload_n S.1 S.2.1 dX5_readings_139 rfl (lv_at hl 3 rfl) ?_
                    refine w_getr S hW in_X5 0 rfl rfl 36 (by decide) q1687 rfl rfl dX5_readings_140 ?_
                    refine lv_iload S.1 S.2.1 dX5_readings_143 (lv_at hl 1 rfl) ?_
                    refine lv_aload_n S.1 S.2.1 dX5_readings_145 rfl (lv_at hl 3 rfl) ?_
                    refine lv_iload_n S.1 S.2.1 dX5_readings_146 rfl (lv_at hl 6 rfl) ?_
                    refine lv_iload S.1 S.2.1 dX5_readings_147 (lv_at hl 0 rfl) ?_
                    refine c_VP S hW (tX5_lengthOf l G ad (up σ2 35 kk ((σ2 35 kk) + (σ2 35 (kk + (oLen (wr σ2) army i))))) army i (by rw [up_ne (by decide)]; omega) (by omega)) (cw_X5_230 S.2.2.2.2 ⟨Nat.le_of_ble_eq_true rfl, Nat.le_of_ble_eq_true rfl⟩) eBlind_T (fun _ _ _ => trivial) (w_recv hW (q0 := 0) rfl rfl) rfl hl.1 (rest := [.int (iI kk), .ref (ad 24), .int (iI 1), .int (iI (σ2 36 kk)), .int (iI kk), .ref (ad 24)]) rfl (Nat.le_of_ble_eq_true rfl) dX5_readings_149 ⟨Nat.le_of_ble_eq_true rfl, Nat.le_of_ble_eq_true rfl⟩ (fun locs hW => ?_)
                    refine r_as (oLen (wr σ2) army i) (rfl) ?_
                    refine r_iadd S dX5_readings_152 ?_
                    refine w_ald S hW 24 0 rfl rfl (by omega) dX5_readings_153 ?_
                    refine r_as (σ2 36 (kk + (oLen (wr σ2) army i))) (up_ne (by decide)) ?_
                    refine r_iadd S dX5_readings_154 ?_
                    have hmn : min (σ2 36 kk) (1 + σ2 36 (kk + oLen (wr σ2) army i)) = min (cF (suI (wAt (σ 0) k) (rowG (wAt (σ 0) k) (gAt (σ 0) s0)) army kk (rdI (wAt (σ 0) k) (rowG (wAt (σ 0) k) (gAt (σ 0) s0)) army) i).2) (1 + cF (rdI (wAt (σ 0) k) (rowG (wAt (σ 0) k) (gAt (σ 0) s0)) army (kk + oLen (wAt (σ 0) k) army i)).2) := by rw [hsu.2, ole, tb.2]
                    have b1 := hsu.2
                    have b2 : σ2 36 (kk + oLen (wr σ2) army i) = cF (rdI (wAt (σ 0) k) (rowG (wAt (σ 0) k) (gAt (σ 0) s0)) army (kk + oLen (wAt (σ 0) k) army i)).2 := by rw [ole, tb.2]
                    refine c_SPw S hW (tX5_lesser l (σ2 36 kk) (1 + (σ2 36 (kk + (oLen (wr σ2) army i)))) (by omega)) (cw_X5_320 S.2.2.2.2 ⟨Nat.le_of_ble_eq_true rfl, Nat.le_of_ble_eq_true rfl⟩) rfl hl.1 (rest := [.int (iI kk), .ref (ad 24)]) rfl (Nat.le_of_ble_eq_true rfl) dX5_readings_155 ⟨Nat.le_of_ble_eq_true rfl, Nat.le_of_ble_eq_true rfl⟩ (fun locs hW => ?_)
                    refine w_ast S hW 24 0 rfl rfl rfl (z := (min (σ2 36 kk) (1 + (σ2 36 (kk + (oLen (wr σ2) army i)))))) (by omega) dX5_readings_158 (fun H locs hW => ?_)
                    refine lv_iinc (v := iI (i + 1)) (lv' := [(7, .int (iI (i + 1))), (6, .int (iI kk)), (5, .int (iI (hrs (wAt (σ 0) k) (rowG (wAt (σ 0) k) (gAt (σ 0) s0)).length army))), (0, .ref (ad 0)), (1, .int (iI k)), (2, .int (iI s0)), (3, .int (iI army)), (4, .int (iI (b2i few)))]) S.1 S.2.1 dX5_readings_159 hl (k := 0) rfl (iI_add _ _) (by decide) rfl (fun ls hl => ?_)
                    refine lv_goto (tgt := 75) S.1 S.2.1 dX5_readings_162 rfl ?_
                    exact ih_75 (i + 1) (up (up σ2 35 kk ((σ2 35 kk) + (σ2 35 (kk + (oLen (wr σ2) army i))))) 36 kk (min (σ2 36 kk) (1 + (σ2 36 (kk + (oLen (wr σ2) army i)))))) H _ _ (by omega) (by first | exact hs2 | exact same_up (same_up hs2 (by decide)) (by decide)) (by first | exact htb | exact fun j j1 j2 => by have := htb j j1 j2; simp only [up]; simp [show j ≠ kk by omega]; exact this) (by first | (rw [suI_s hi.1, if_neg (fun z => c_94 (dP_t.mp z))]; exact hsu) | (rw [suI_s hi.1, if_pos (dP_t.mpr c_94)]; exact ⟨by rw [up_ne (by decide), up_self, hsu.1, ole, tb.1], by rw [up_self, ← cF_mn (by omega) (by omega)]; exact hmn⟩)) (by omega) hW (lv_sub hl [0, 1, 2, 3, 4, 5, 6, 7] rfl)
                  ·
                    rw [wq1] at c_94
                    refine lv_goto (tgt := 159) S.1 S.2.1 dX5_readings_97 rfl ?_
                    refine lv_iinc (v := iI (i + 1)) (lv' := [(7, .int (iI (i + 1))), (6, .int (iI kk)), (5, .int (iI (hrs (wAt (σ 0) k) (rowG (wAt (σ 0) k) (gAt (σ 0) s0)).length army))), (0, .ref (ad 0)), (1, .int (iI k)), (2, .int (iI s0)), (3, .int (iI army)), (4, .int (iI (b2i few)))]) S.1 S.2.1 dX5_readings_159 hl (k := 0) rfl (iI_add _ _) (by decide) rfl (fun ls hl => ?_)
                    refine lv_goto (tgt := 75) S.1 S.2.1 dX5_readings_162 rfl ?_
                    exact ih_75 (i + 1) σ2 H _ _ (by omega) (by first | exact hs2 | exact same_up (same_up hs2 (by decide)) (by decide)) (by first | exact htb | exact fun j j1 j2 => by have := htb j j1 j2; simp only [up]; simp [show j ≠ kk by omega]; exact this) (by first | (rw [suI_s hi.1, if_neg (fun z => c_94 (dP_t.mp z))]; exact hsu) | (rw [suI_s hi.1, if_pos (dP_t.mpr c_94)]; exact ⟨by rw [up_ne (by decide), up_self, hsu.1, ole, tb.1], by rw [up_self, ← cF_mn (by omega) (by omega)]; exact hmn⟩)) (by omega) hW (lv_sub hl [0, 1, 2, 3, 4, 5, 6, 7] rfl)
            exact cut_75 _ 0 (up (up σ1 35 kk 0) 36 kk 999) H _ _ (by omega) (same_up (same_up hsm (by decide)) (by decide)) (fun j j1 j2 => by have := ht j j1 j2; simp only [up]; simp [show j ≠ kk by omega]; exact this) (by constructor <;> simp [up, suI, suU, cF]) (Nat.lt_succ_self _) hW (lv_sub hl [0, 1, 2, 3, 4, 5, 6, 7] rfl)
      exact cut_49 _ ((hrs (wAt (σ 0) k) (rowG (wAt (σ 0) k) (gAt (σ 0) s0)).length army) - 1) σ4 H _ _ (by omega) (hs4) (ht4) (Nat.lt_succ_self _) hW (lv_sub hl [0, 1, 2, 3, 4, 5, 6] rfl)
    ·
      refine r_ldc2 (z := -2) S q2161 (by decide) dX5_readings_16 ?_
      exact e_lS S hr hlk hW ⟨(-2), rfl, ⟨(by unfold sReadings; rw [if_neg (fun z => by have z2 := dP_t.mp z; first | exact absurd z2.1 (by assumption) | exact absurd z2.2 (by omega))]), (same_w q3_sm (by decide))⟩⟩ dX5_readings_19
