theorem hd_X5_plays : yX5_plays.cls = RX5 ∧ yX5_plays.cls ≠ "java/lang/invoke/MethodHandle" ∧ yX5_plays.cls ≠ "java/lang/invoke/VarHandle" ∧ (parseMethodDescriptor yX5_plays.desc).map (fun d => d.parameters.length) = some 1 := by decide +kernel
theorem cw_X5_252 {R : Room} {s : State} {args : Array Value} (ht : ∀ w ∈ lw_all, w.before args s = true) (hR : 1 + 1 ≤ R.frames ∧ 8 + (4 + 11) + 21 ≤ R.locals) : CallW R s args "OneDrumModel" RX5 252 yX5_plays cX5_plays 4 none (ws_ yX5_plays cX5_plays 4 none) ⟨1, 0, 0, 21⟩ 0 0 1 := cwV 1 ht (lw_V q1947 q1949 qs79 q126 q1950) rfl rfl rfl hd_X5_plays hR
theorem hd_X5_takesScore : yX5_takesScore.cls = RX5 ∧ yX5_takesScore.cls ≠ "java/lang/invoke/MethodHandle" ∧ yX5_takesScore.cls ≠ "java/lang/invoke/VarHandle" ∧ (parseMethodDescriptor yX5_takesScore.desc).map (fun d => d.parameters.length) = some 0 := by decide +kernel
theorem cw_X5_249 {R : Room} {s : State} {args : Array Value} (ht : ∀ w ∈ lw_all, w.before args s = true) (hR : 2 + 1 ≤ R.frames ∧ 8 + (3 + 11) + 44 ≤ R.locals) : CallW R s args "OneDrumModel" RX5 249 yX5_takesScore cX5_takesScore 3 none (ws_ yX5_takesScore cX5_takesScore 3 none) ⟨2, 0, 0, 44⟩ 0 0 0 := cwV 0 ht (lw_V q1939 q1941 qs77 q126 q1942) rfl rfl rfl hd_X5_takesScore hR
set_option maxHeartbeats 4000000 in
theorem tX5_arePlayed (l : Launch) (G : GG) (ad : Nat → Nat) (σ : St) (k : Int) (s0 : Int) (hr0 : -2147483648 ≤ k ∧ k < 2147483648 ∧ -2147483648 ≤ s0 ∧ s0 < 2147483648) (hdb : WfDB (σ 0)) : Met l yX5_arePlayed (ws_ yX5_arePlayed cX5_arePlayed 3 (some .boolean)) ⟨3, 0, 0, 66⟩ (wPre G shM ad σ (fun _ => True) [.ref (ad 0), .int (iI k), .int (iI s0)]) (qS G shM ad (aM ad) (rZ (fun r σ' => (r = dP (inWS (σ 0) k s0)) ∧ (same [10, 11, 12, 13, 14, 15, 16, 17, 18] σ σ') ∧ (inWS (σ 0) k s0 → σ' 10 0 = 610 + 89 * k ∧ Pl σ' (wAt (σ 0) k) (gAt (σ 0) s0))))) 0 0 (aM ad) := by
  refine wStart (by decide) (Nat.le_of_ble_eq_true rfl) (fun k hk => ⟨k, hk, rfl⟩) (fun p e s m below meth c S hr hlk _ _ ls hW hl => ?_)
  have hl : lv_has ls 3 [(0, .ref (ad 0)), (1, .int (iI k)), (2, .int (iI s0))] := hl
  have d0 := hdb.1
  have d1 := hdb.2.1
  have d2 := hdb.2.2.1
  have d3 := hdb.2.2.2.1
  refine lv_aload_n S.1 S.2.1 dX5_arePlayed_0 rfl (lv_at hl 0 rfl) ?_
  refine lv_iload_n S.1 S.2.1 dX5_arePlayed_1 rfl (lv_at hl 1 rfl) ?_
  refine c_VSz S hW (tX5_isWar l G ad σ k (by omega) (by omega)) (cw_X5_224 S.2.2.2.2 ⟨Nat.le_of_ble_eq_true rfl, Nat.le_of_ble_eq_true rfl⟩) eBlind_T (fun _ _ _ => trivial) (w_recv hW (q0 := 0) rfl rfl) rfl hl.1 (rest := []) rfl (Nat.le_of_ble_eq_true rfl) dX5_arePlayed_2 ⟨Nat.le_of_ble_eq_true rfl, Nat.le_of_ble_eq_true rfl⟩ (fun r2 σ2 H locs q2 hW => ?_)
  obtain ⟨rfl, q2_sm, q2_w⟩ := q2
  have e0 : σ2 0 = σ 0 := q2_sm 0 (by decide)
  have e01 : σ2 0 1 = σ 0 1 := by rw [e0]
  refine r_ifeq_p S (tgt := 16) dX5_arePlayed_5 rfl (fun c_5 => ?_) (fun c_5 => ?_)
  ·
    refine r_iconst S dX5_arePlayed_16 ?_
    exact e_zS S hr hlk hW (by decide) ⟨false, rfl, ⟨(by first | exact (dP_t.mpr (by unfold inWS; omega)).symm | exact (dP_f.mpr (by unfold inWS; omega)).symm), (by first | exact same_w q2_sm (by decide) | exact same_tr (same_w q2_sm (by decide)) q10_sm (by decide)), (fun h9 => absurd h9 (by unfold inWS; omega))⟩⟩ dX5_arePlayed_17
  ·
    have w10 := q2_w (by omega)
    refine lv_aload_n S.1 S.2.1 dX5_arePlayed_8 rfl (lv_at hl 0 rfl) ?_
    refine lv_iload_n S.1 S.2.1 dX5_arePlayed_9 rfl (lv_at hl 2 rfl) ?_
    refine c_VSz S hW (tX5_isScore l G ad σ2 s0 (by omega) (by omega)) (cw_X5_240 S.2.2.2.2 ⟨Nat.le_of_ble_eq_true rfl, Nat.le_of_ble_eq_true rfl⟩) eBlind_T (fun _ _ _ => trivial) (w_recv hW (q0 := 0) rfl rfl) rfl hl.1 (rest := []) rfl (Nat.le_of_ble_eq_true rfl) dX5_arePlayed_10 ⟨Nat.le_of_ble_eq_true rfl, Nat.le_of_ble_eq_true rfl⟩ (fun r10 σ10 H locs q10 hW => ?_)
    obtain ⟨rfl, q10_sm, q10_w⟩ := q10
    have f0 : σ10 0 = σ 0 := (q10_sm 0 (by decide)).trans e0
    have f10 : σ10 10 = σ2 10 := q10_sm 10 (by decide)
    refine r_ifne_p S (tgt := 18) dX5_arePlayed_13 rfl (fun c_13 => ?_) (fun c_13 => ?_)
    ·
      have w11 := q10_w (by omega)
      have hWf := hdb.2.2.2.2.2.2.2.2.1 k (by omega) (by omega)
      have hg := hdb.2.2.2.2.2.2.2.2.2.1 s0 (by omega) (by omega)
      have wq : wr σ10 = wAt (σ 0) k := wr_at f0 (by rw [f10, w10])
      have gq : gr σ10 = gAt (σ 0) s0 := gr_at f0 w11
      have h1010 : σ10 10 0 = 610 + 89 * k := by rw [f10, w10]
      refine lv_aload_n S.1 S.2.1 dX5_arePlayed_18 rfl (lv_at hl 0 rfl) ?_
      refine c_VSv S hW (tX5_takesScore l G ad σ10 (by omega) (by omega) (by rw [wq]; exact hWf.1) (by rw [gq]; exact hg)) (cw_X5_249 S.2.2.2.2 ⟨Nat.le_of_ble_eq_true rfl, Nat.le_of_ble_eq_true rfl⟩) eBlind_T (fun _ _ _ => trivial) (w_recv hW (q0 := 0) rfl rfl) rfl hl.1 (rest := []) rfl (Nat.le_of_ble_eq_true rfl) dX5_arePlayed_19 ⟨Nat.le_of_ble_eq_true rfl, Nat.le_of_ble_eq_true rfl⟩ (fun σ19 H locs q19 hW => ?_)
      obtain ⟨q19_len, q19_row, q19_many, q19_g0, q19_g1, q19_sm⟩ := q19
      have g0 : σ19 0 = σ 0 := (q19_sm 0 (by decide)).trans f0
      have g10 : σ19 10 = σ10 10 := q19_sm 10 (by decide)
      have wq2 : wr σ19 = wAt (σ 0) k := wr_at g0 (by rw [g10, f10, w10])
      have h19 : σ19 10 0 = 610 + 89 * k := by rw [g10, f10, w10]
      rw [wq, gq] at q19_len q19_row
      have hL9 := rowG_len hWf hg
      have hg00 := (hg 0 (by omega) (by omega)).1
      have hg11 := (hg 1 (by omega) (by omega)).1
      refine lv_aload_n S.1 S.2.1 dX5_arePlayed_22 rfl (lv_at hl 0 rfl) ?_
      refine r_iconst S dX5_arePlayed_23 ?_
      refine c_VSv S hW (tX5_plays l G ad σ19 0 (rowG (wAt (σ 0) k) (gAt (σ 0) s0)) (by omega) (by rw [wq2]; exact hWf) (q19_len) (by omega) (q19_row.1) (rowG_V hg)) (cw_X5_252 S.2.2.2.2 ⟨Nat.le_of_ble_eq_true rfl, Nat.le_of_ble_eq_true rfl⟩) eBlind_T (fun _ _ _ => trivial) (w_recv hW (q0 := 0) rfl rfl) rfl hl.1 (rest := []) rfl (Nat.le_of_ble_eq_true rfl) dX5_arePlayed_24 ⟨Nat.le_of_ble_eq_true rfl, Nat.le_of_ble_eq_true rfl⟩ (fun σ24 H locs q24 hW => ?_)
      obtain ⟨q24_snd, q24_sm⟩ := q24
      rw [wq2] at q24_snd
      have k10 : σ24 10 = σ19 10 := q24_sm 10 (by decide)
      refine r_iconst S dX5_arePlayed_27 ?_
      exact e_zS S hr hlk hW (by decide) ⟨true, rfl, ⟨(by first | exact (dP_t.mpr (by unfold inWS; omega)).symm | exact (dP_f.mpr (by unfold inWS; omega)).symm), (same_tr (same_tr (same_tr (same_w q2_sm (by decide)) q10_sm (by decide)) q19_sm (by decide)) q24_sm (by decide)), (fun _ => ⟨by rw [k10, h19], by rw [q24_sm 18 (by decide)]; exact q19_len, ⟨fil_eq q19_row.1 (q24_sm 14 (by decide)), fil_eq q19_row.2 (q24_sm 15 (by decide))⟩, q24_snd⟩)⟩⟩ dX5_arePlayed_28
    ·
      refine r_iconst S dX5_arePlayed_16 ?_
      exact e_zS S hr hlk hW (by decide) ⟨false, rfl, ⟨(by first | exact (dP_t.mpr (by unfold inWS; omega)).symm | exact (dP_f.mpr (by unfold inWS; omega)).symm), (by first | exact same_w q2_sm (by decide) | exact same_tr (same_w q2_sm (by decide)) q10_sm (by decide)), (fun h9 => absurd h9 (by unfold inWS; omega))⟩⟩ dX5_arePlayed_17
theorem hd_X5_arePlayed : yX5_arePlayed.cls = RX5 ∧ yX5_arePlayed.cls ≠ "java/lang/invoke/MethodHandle" ∧ yX5_arePlayed.cls ≠ "java/lang/invoke/VarHandle" ∧ (parseMethodDescriptor yX5_arePlayed.desc).map (fun d => d.parameters.length) = some 2 := by decide +kernel
theorem cw_X5_255 {R : Room} {s : State} {args : Array Value} (ht : ∀ w ∈ lw_all, w.before args s = true) (hR : 3 + 1 ≤ R.frames ∧ 8 + (3 + 11) + 66 ≤ R.locals) : CallW R s args "OneDrumModel" RX5 255 yX5_arePlayed cX5_arePlayed 3 (some .boolean) (ws_ yX5_arePlayed cX5_arePlayed 3 (some .boolean)) ⟨3, 0, 0, 66⟩ 0 0 2 := cwV 2 ht (lw_V q1935 q1937 qs76 q126 q1938) rfl rfl rfl hd_X5_arePlayed hR
set_option maxHeartbeats 4000000 in
theorem tX5_row (l : Launch) (G : GG) (ad : Nat → Nat) (σ : St) (k : Int) (s0 : Int) (j : Int) (what : Int) (hr0 : -2147483648 ≤ k ∧ k < 2147483648 ∧ -2147483648 ≤ s0 ∧ s0 < 2147483648 ∧ -2147483648 ≤ j ∧ j < 2147483648 ∧ -2147483648 ≤ what ∧ what < 2147483648) (hdb : WfDB (σ 0)) : Met l yX5_row (ws_ yX5_row cX5_row 5 (some .int)) ⟨4, 0, 0, 88⟩ (wPre G shM ad σ (fun _ => True) [.ref (ad 0), .int (iI k), .int (iI s0), .int (iI j), .int (iI what)]) (qS G shM ad (aM ad) (rI (fun r σ' => (r = sRow (σ 0) k s0 j what) ∧ (same [10, 11, 12, 13, 14, 15, 16, 17, 18] σ σ')))) 0 0 (aM ad) := by
  refine wStart (by decide) (Nat.le_of_ble_eq_true rfl) (fun k hk => ⟨k, hk, rfl⟩) (fun p e s m below meth c S hr hlk _ _ ls hW hl => ?_)
  have hl : lv_has ls 5 [(0, .ref (ad 0)), (1, .int (iI k)), (2, .int (iI s0)), (3, .int (iI j)), (4, .int (iI what))] := hl
  have d0 := hdb.1
  have d1 := hdb.2.1
  have d2 := hdb.2.2.1
  have d3 := hdb.2.2.2.1
  refine lv_aload_n S.1 S.2.1 dX5_row_0 rfl (lv_at hl 0 rfl) ?_
  refine lv_iload_n S.1 S.2.1 dX5_row_1 rfl (lv_at hl 1 rfl) ?_
  refine lv_iload_n S.1 S.2.1 dX5_row_2 rfl (lv_at hl 2 rfl) ?_
  refine c_VSz S hW (tX5_arePlayed l G ad σ k s0 (by omega) (by omega)) (cw_X5_255 S.2.2.2.2 ⟨Nat.le_of_ble_eq_true rfl, Nat.le_of_ble_eq_true rfl⟩) eBlind_T (fun _ _ _ => trivial) (w_recv hW (q0 := 0) rfl rfl) rfl hl.1 (rest := []) rfl (Nat.le_of_ble_eq_true rfl) dX5_row_3 ⟨Nat.le_of_ble_eq_true rfl, Nat.le_of_ble_eq_true rfl⟩ (fun r3 σ3 H locs q3 hW => ?_)
  obtain ⟨rfl, q3_sm, q3_pl⟩ := q3
  have e0 : σ3 0 = σ 0 := q3_sm 0 (by decide)
  refine r_ifne_p S (tgt := 12) dX5_row_6 rfl (fun c_6 => ?_) (fun c_6 => ?_)
  ·
    obtain ⟨w10, pl⟩ := q3_pl (by first | exact c_6 | assumption)
    have ws9 : inWS (σ 0) k s0 := by first | exact c_6 | assumption
    have hWf := hdb.2.2.2.2.2.2.2.2.1 k (by unfold inWS at ws9; omega) (by unfold inWS at ws9; omega)
    have hg := hdb.2.2.2.2.2.2.2.2.2.1 s0 (by unfold inWS at ws9; omega) (by unfold inWS at ws9; omega)
    have w10b : σ3 10 0 = 610 ∨ σ3 10 0 = 699 := by unfold inWS at ws9; omega
    have wq : wr σ3 = wAt (σ 0) k := wr_at e0 w10
    have n18 := pl.1
    have hL9 := rowG_len hWf hg
    have hg00 := (hg 0 (by omega) (by omega)).1
    have hg11 := (hg 1 (by omega) (by omega)).1
    obtain ⟨LL, eLL⟩ : ∃ z, z = rowG (wAt (σ 0) k) (gAt (σ 0) s0) := ⟨_, rfl⟩
    refine lv_iload_n S.1 S.2.1 dX5_row_12 rfl (lv_at hl 3 rfl) ?_
    refine r_iconst S dX5_row_13 ?_
    refine r_icmp_ne S (tgt := 32) dX5_row_14 rfl (by omega) (fun c_14 => ?_) (fun c_14 => ?_)
    ·
      refine lv_iload_n S.1 S.2.1 dX5_row_32 rfl (lv_at hl 3 rfl) ?_
      refine r_iconst S dX5_row_33 ?_
      refine lv_aload_n S.1 S.2.1 dX5_row_34 rfl (lv_at hl 0 rfl) ?_
      refine w_geti S hW in_X5 0 rfl rfl 18 (by decide) q1669 rfl rfl dX5_row_35 ?_
      refine r_iconst S dX5_row_38 ?_
      refine r_isub S dX5_row_39 ?_
      refine c_SPw S hW (tX5_isIn l j 0 ((σ3 18 0) - 1) (by omega)) (cw_X5_145 S.2.2.2.2 ⟨Nat.le_of_ble_eq_true rfl, Nat.le_of_ble_eq_true rfl⟩) rfl hl.1 (rest := []) rfl (Nat.le_of_ble_eq_true rfl) dX5_row_40 ⟨Nat.le_of_ble_eq_true rfl, Nat.le_of_ble_eq_true rfl⟩ (fun locs hW => ?_)
      refine r_ifne_p S (tgt := 49) dX5_row_43 rfl (fun c_43 => ?_) (fun c_43 => ?_)
      ·
        have r1 := pl.2.1.1 j (by omega) (by omega)
        have r2 := pl.2.1.2 j (by omega) (by omega)
        have r3 := pl.2.2.1 j (by omega) (by omega)
        have r4 : σ3 17 j = b2i (dP (ec (wAt (σ 0) k) (rf (rowG (wAt (σ 0) k) (gAt (σ 0) s0))) 0 j)) := pl.2.2.2 j (by omega) (by omega)
        have r5 := b2i_in (dP (ec (wAt (σ 0) k) (rf (rowG (wAt (σ 0) k) (gAt (σ 0) s0))) 0 j))
        refine lv_iload S.1 S.2.1 dX5_row_49 (lv_at hl 4 rfl) ?_
        have sw_51 : what = 0 ∨ what = 1 ∨ what = 2 ∨ what = 3 ∨ (what < 0 ∨ 3 < what) := by omega
        rcases sw_51 with c_51 | c_51 | c_51 | c_51 | c_51
        ·
          refine r_tabIn S (tgt := 80) dX5_row_51 (by omega) 0 c_51 (by decide) (by decide) rfl rfl ?_
          refine lv_aload_n S.1 S.2.1 dX5_row_80 rfl (lv_at hl 0 rfl) ?_
          refine w_getr S hW in_X5 0 rfl rfl 14 (by decide) q1665 rfl rfl dX5_row_81 ?_
          refine lv_iload_n S.1 S.2.1 dX5_row_84 rfl (lv_at hl 3 rfl) ?_
          refine w_ald S hW 6 0 rfl rfl (by omega) dX5_row_85 ?_
          exact e_iS S hr hlk hW ⟨(σ3 14 j), rfl, ⟨(by unfold sRow sRow2; rw [if_pos (dP_t.mpr ws9)]; grind), (q3_sm)⟩⟩ dX5_row_86
        ·
          refine r_tabIn S (tgt := 87) dX5_row_51 (by omega) 1 c_51 (by decide) (by decide) rfl rfl ?_
          refine lv_aload_n S.1 S.2.1 dX5_row_87 rfl (lv_at hl 0 rfl) ?_
          refine w_getr S hW in_X5 0 rfl rfl 15 (by decide) q1666 rfl rfl dX5_row_88 ?_
          refine lv_iload_n S.1 S.2.1 dX5_row_91 rfl (lv_at hl 3 rfl) ?_
          refine w_ald S hW 7 0 rfl rfl (by omega) dX5_row_92 ?_
          exact e_iS S hr hlk hW ⟨(σ3 15 j), rfl, ⟨(by unfold sRow sRow2; rw [if_pos (dP_t.mpr ws9)]; grind), (q3_sm)⟩⟩ dX5_row_93
        ·
          refine r_tabIn S (tgt := 94) dX5_row_51 (by omega) 2 c_51 (by decide) (by decide) rfl rfl ?_
          refine lv_aload_n S.1 S.2.1 dX5_row_94 rfl (lv_at hl 0 rfl) ?_
          refine w_getr S hW in_X5 0 rfl rfl 16 (by decide) q1667 rfl rfl dX5_row_95 ?_
          refine lv_iload_n S.1 S.2.1 dX5_row_98 rfl (lv_at hl 3 rfl) ?_
          refine w_ald S hW 8 0 rfl rfl (by omega) dX5_row_99 ?_
          exact e_iS S hr hlk hW ⟨(σ3 16 j), rfl, ⟨(by unfold sRow sRow2; rw [if_pos (dP_t.mpr ws9)]; grind), (q3_sm)⟩⟩ dX5_row_100
        ·
          refine r_tabIn S (tgt := 101) dX5_row_51 (by omega) 3 c_51 (by decide) (by decide) rfl rfl ?_
          refine lv_aload_n S.1 S.2.1 dX5_row_101 rfl (lv_at hl 0 rfl) ?_
          refine w_getr S hW in_X5 0 rfl rfl 17 (by decide) q1668 rfl rfl dX5_row_102 ?_
          refine lv_iload_n S.1 S.2.1 dX5_row_105 rfl (lv_at hl 3 rfl) ?_
          refine w_zald S hW 9 1 rfl rfl (by omega) dX5_row_106 ?_
          refine r_if_eq S (tgt := 114) dX5_row_107 rfl (by omega) (fun c_107 => ?_) (fun c_107 => ?_)
          ·
            refine r_iconst S dX5_row_114 ?_
            exact e_iS S hr hlk hW ⟨0, rfl, ⟨(by unfold sRow sRow2; rw [if_pos (dP_t.mpr ws9)]; grind), (q3_sm)⟩⟩ dX5_row_115
          ·
            refine r_iconst S dX5_row_110 ?_
            refine lv_goto (tgt := 115) S.1 S.2.1 dX5_row_111 rfl ?_
            exact e_iS S hr hlk hW ⟨1, rfl, ⟨(by unfold sRow sRow2; rw [if_pos (dP_t.mpr ws9)]; grind), (q3_sm)⟩⟩ dX5_row_115
        ·
          refine r_tabOut S (tgt := 116) dX5_row_51 (by omega) c_51 rfl ?_
          refine r_bipush S dX5_row_116 (by decide) ?_
          exact e_iS S hr hlk hW ⟨(-2), rfl, ⟨(by unfold sRow sRow2; rw [if_pos (dP_t.mpr ws9)]; grind), (q3_sm)⟩⟩ dX5_row_118
      ·
        refine r_bipush S dX5_row_46 (by decide) ?_
        exact e_iS S hr hlk hW ⟨(-2), rfl, ⟨(by unfold sRow sRow2; rw [if_pos (dP_t.mpr ws9)]; grind), (q3_sm)⟩⟩ dX5_row_48
    ·
      refine lv_iload S.1 S.2.1 dX5_row_17 (lv_at hl 4 rfl) ?_
      refine r_if_ne S (tgt := 29) dX5_row_19 rfl (by omega) (fun c_19 => ?_) (fun c_19 => ?_)
      ·
        refine r_bipush S dX5_row_29 (by decide) ?_
        exact e_iS S hr hlk hW ⟨(-2), rfl, ⟨(by unfold sRow sRow2; rw [if_pos (dP_t.mpr ws9)]; grind), (q3_sm)⟩⟩ dX5_row_31
      ·
        refine lv_aload_n S.1 S.2.1 dX5_row_22 rfl (lv_at hl 0 rfl) ?_
        refine w_geti S hW in_X5 0 rfl rfl 18 (by decide) q1669 rfl rfl dX5_row_23 ?_
        refine lv_goto (tgt := 31) S.1 S.2.1 dX5_row_26 rfl ?_
        exact e_iS S hr hlk hW ⟨(σ3 18 0), rfl, ⟨(by unfold sRow sRow2; rw [if_pos (dP_t.mpr ws9)]; grind), (q3_sm)⟩⟩ dX5_row_31
  ·
    refine r_bipush S dX5_row_9 (by decide) ?_
    exact e_iS S hr hlk hW ⟨(-2), rfl, ⟨(by unfold sRow; rw [if_neg (fun z => absurd (dP_t.mp z) (by first | assumption | (unfold inWS; omega)))]), (q3_sm)⟩⟩ dX5_row_11
theorem hd_X5_heardAt : yX5_heardAt.cls = RX5 ∧ yX5_heardAt.cls ≠ "java/lang/invoke/MethodHandle" ∧ yX5_heardAt.cls ≠ "java/lang/invoke/VarHandle" ∧ (parseMethodDescriptor yX5_heardAt.desc).map (fun d => d.parameters.length) = some 2 := by decide +kernel
theorem cw_X5_264 {R : Room} {s : State} {args : Array Value} (ht : ∀ w ∈ lw_all, w.before args s = true) (hR : 2 + 1 ≤ R.frames ∧ 8 + (3 + 11) + 43 ≤ R.locals) : CallW R s args "OneDrumModel" RX5 264 yX5_heardAt cX5_heardAt 3 (some .int) (ws_ yX5_heardAt cX5_heardAt 3 (some .int)) ⟨2, 0, 0, 43⟩ 0 0 2 := cwV 2 ht (lw_V q1959 q1961 qs81 q126 q1962) rfl rfl rfl hd_X5_heardAt hR
theorem hd_X5_hears : yX5_hears.cls = RX5 ∧ yX5_hears.cls ≠ "java/lang/invoke/MethodHandle" ∧ yX5_hears.cls ≠ "java/lang/invoke/VarHandle" ∧ (parseMethodDescriptor yX5_hears.desc).map (fun d => d.parameters.length) = some 1 := by decide +kernel
theorem cw_X5_261 {R : Room} {s : State} {args : Array Value} (ht : ∀ w ∈ lw_all, w.before args s = true) (hR : 1 + 1 ≤ R.frames ∧ 8 + (3 + 11) + 21 ≤ R.locals) : CallW R s args "OneDrumModel" RX5 261 yX5_hears cX5_hears 3 (some .int) (ws_ yX5_hears cX5_hears 3 (some .int)) ⟨1, 0, 0, 21⟩ 0 0 1 := cwV 1 ht (lw_V q1955 q1957 qs80 q126 q1958) rfl rfl rfl hd_X5_hears hR
set_option maxHeartbeats 4000000 in
theorem tX5_heard (l : Launch) (G : GG) (ad : Nat → Nat) (σ : St) (k : Int) (s0 : Int) (army : Int) (j : Int) (hr0 : -2147483648 ≤ k ∧ k < 2147483648 ∧ -2147483648 ≤ s0 ∧ s0 < 2147483648 ∧ -2147483648 ≤ army ∧ army < 2147483648 ∧ -2147483648 ≤ j ∧ j < 2147483648) (hdb : WfDB (σ 0)) : Met l yX5_heard (ws_ yX5_heard cX5_heard 5 (some .int)) ⟨4, 0, 0, 88⟩ (wPre G shM ad σ (fun _ => True) [.ref (ad 0), .int (iI k), .int (iI s0), .int (iI army), .int (iI j)]) (qS G shM ad (aM ad) (rI (fun r σ' => (r = sHeard (σ 0) k s0 army j) ∧ (same [10, 11, 12, 13, 14, 15, 16, 17, 18] σ σ')))) 0 0 (aM ad) := by
  refine wStart (by decide) (Nat.le_of_ble_eq_true rfl) (fun k hk => ⟨k, hk, rfl⟩) (fun p e s m below meth c S hr hlk _ _ ls hW hl => ?_)
  have hl : lv_has ls 5 [(0, .ref (ad 0)), (1, .int (iI k)), (2, .int (iI s0)), (3, .int (iI army)), (4, .int (iI j))] := hl
  have d0 := hdb.1
  have d1 := hdb.2.1
  have d2 := hdb.2.2.1
  have d3 := hdb.2.2.2.1
  refine lv_aload_n S.1 S.2.1 dX5_heard_0 rfl (lv_at hl 0 rfl) ?_
  refine lv_iload_n S.1 S.2.1 dX5_heard_1 rfl (lv_at hl 1 rfl) ?_
  refine lv_iload_n S.1 S.2.1 dX5_heard_2 rfl (lv_at hl 2 rfl) ?_
  refine c_VSz S hW (tX5_arePlayed l G ad σ k s0 (by omega) (by omega)) (cw_X5_255 S.2.2.2.2 ⟨Nat.le_of_ble_eq_true rfl, Nat.le_of_ble_eq_true rfl⟩) eBlind_T (fun _ _ _ => trivial) (w_recv hW (q0 := 0) rfl rfl) rfl hl.1 (rest := []) rfl (Nat.le_of_ble_eq_true rfl) dX5_heard_3 ⟨Nat.le_of_ble_eq_true rfl, Nat.le_of_ble_eq_true rfl⟩ (fun r3 σ3 H locs q3 hW => ?_)
  obtain ⟨rfl, q3_sm, q3_pl⟩ := q3
  have e0 : σ3 0 = σ 0 := q3_sm 0 (by decide)
  refine r_ifeq_p S (tgt := 16) dX5_heard_6 rfl (fun c_6 => ?_) (fun c_6 => ?_)
  ·
    refine r_iconst S dX5_heard_16 ?_
    exact e_iS S hr hlk hW ⟨(-1), rfl, ⟨(by unfold sHeard; first | rw [if_neg (fun z => absurd (dP_t.mp z) (by assumption))] | (rw [if_pos (dP_t.mpr ws9)]; unfold sHeard2; rw [if_neg (by omega)])), (q3_sm)⟩⟩ dX5_heard_17
  ·
    obtain ⟨w10, pl⟩ := q3_pl (by first | exact c_6 | assumption)
    have ws9 : inWS (σ 0) k s0 := by first | exact c_6 | assumption
    have hWf := hdb.2.2.2.2.2.2.2.2.1 k (by unfold inWS at ws9; omega) (by unfold inWS at ws9; omega)
    have hg := hdb.2.2.2.2.2.2.2.2.2.1 s0 (by unfold inWS at ws9; omega) (by unfold inWS at ws9; omega)
    have w10b : σ3 10 0 = 610 ∨ σ3 10 0 = 699 := by unfold inWS at ws9; omega
    have wq : wr σ3 = wAt (σ 0) k := wr_at e0 w10
    have n18 := pl.1
    have hL9 := rowG_len hWf hg
    have hg00 := (hg 0 (by omega) (by omega)).1
    have hg11 := (hg 1 (by omega) (by omega)).1
    obtain ⟨LL, eLL⟩ : ∃ z, z = rowG (wAt (σ 0) k) (gAt (σ 0) s0) := ⟨_, rfl⟩
    refine lv_iload_n S.1 S.2.1 dX5_heard_9 rfl (lv_at hl 3 rfl) ?_
    refine c_SPw S hW (tX5_isArmy l army (by omega)) (cw_X5_218 S.2.2.2.2 ⟨Nat.le_of_ble_eq_true rfl, Nat.le_of_ble_eq_true rfl⟩) rfl hl.1 (rest := []) rfl (Nat.le_of_ble_eq_true rfl) dX5_heard_10 ⟨Nat.le_of_ble_eq_true rfl, Nat.le_of_ble_eq_true rfl⟩ (fun locs hW => ?_)
    refine r_ifne_p S (tgt := 18) dX5_heard_13 rfl (fun c_13 => ?_) (fun c_13 => ?_)
    ·
      have hA := hWf.2.2.2.2 army (by omega) (by omega)
      have hh := hrs_rng (n := σ3 18 0) hA (by omega)
      have hhe : hrs (wr σ3) (σ3 18 0) army = hrs (wAt (σ 0) k) (σ3 18 0) army := by rw [wq]
      refine lv_iload S.1 S.2.1 dX5_heard_18 (lv_at hl 4 rfl) ?_
      refine r_iconst S dX5_heard_20 ?_
      refine r_icmp_ne S (tgt := 32) dX5_heard_21 rfl (by omega) (fun c_21 => ?_) (fun c_21 => ?_)
      ·
        refine lv_iload S.1 S.2.1 dX5_heard_32 (lv_at hl 4 rfl) ?_
        refine r_iconst S dX5_heard_34 ?_
        refine lv_aload_n S.1 S.2.1 dX5_heard_35 rfl (lv_at hl 0 rfl) ?_
        refine lv_iload_n S.1 S.2.1 dX5_heard_36 rfl (lv_at hl 3 rfl) ?_
        refine c_VP S hW (tX5_hears l G ad σ3 army (by omega) (by omega) (by rw [wq]; exact hA) (by omega)) (cw_X5_261 S.2.2.2.2 ⟨Nat.le_of_ble_eq_true rfl, Nat.le_of_ble_eq_true rfl⟩) eBlind_T (fun _ _ _ => trivial) (w_recv hW (q0 := 0) rfl rfl) rfl hl.1 (rest := [.int (iI 0), .int (iI j)]) rfl (Nat.le_of_ble_eq_true rfl) dX5_heard_37 ⟨Nat.le_of_ble_eq_true rfl, Nat.le_of_ble_eq_true rfl⟩ (fun locs hW => ?_)
        refine r_iconst S dX5_heard_40 ?_
        refine r_isub S dX5_heard_41 ?_
        refine c_SPw S hW (tX5_isIn l j 0 ((hrs (wr σ3) (σ3 18 0) army) - 1) (by omega)) (cw_X5_145 S.2.2.2.2 ⟨Nat.le_of_ble_eq_true rfl, Nat.le_of_ble_eq_true rfl⟩) rfl hl.1 (rest := []) rfl (Nat.le_of_ble_eq_true rfl) dX5_heard_42 ⟨Nat.le_of_ble_eq_true rfl, Nat.le_of_ble_eq_true rfl⟩ (fun locs hW => ?_)
        refine r_ifeq_p S (tgt := 58) dX5_heard_45 rfl (fun c_45 => ?_) (fun c_45 => ?_)
        ·
          refine r_iconst S dX5_heard_58 ?_
          exact e_iS S hr hlk hW ⟨(-1), rfl, ⟨(by unfold sHeard sHeard2; rw [if_pos (dP_t.mpr ws9)]; rw [if_pos (by omega), ← n18]; first | (rw [if_pos (by omega)]; exact hhe) | (rw [if_neg (by omega), if_pos (by omega), hpe]; exact r3) | (rw [if_neg (by omega), if_neg (by omega)])), (q3_sm)⟩⟩ dX5_heard_59
        ·
          have hp := plc_rng hA (k := j) (n := σ3 18 0) (by omega) (by omega)
          have hpe : plc (wr σ3) army j = plc (wAt (σ 0) k) army j := by rw [wq]
          have r3 := pl.2.2.1 (plc (wAt (σ 0) k) army j) (by omega) (by omega)
          refine lv_aload_n S.1 S.2.1 dX5_heard_48 rfl (lv_at hl 0 rfl) ?_
          refine lv_iload_n S.1 S.2.1 dX5_heard_49 rfl (lv_at hl 3 rfl) ?_
          refine lv_iload S.1 S.2.1 dX5_heard_50 (lv_at hl 4 rfl) ?_
          refine c_VP S hW (tX5_heardAt l G ad σ3 army j (by omega) (by omega) (by omega)) (cw_X5_264 S.2.2.2.2 ⟨Nat.le_of_ble_eq_true rfl, Nat.le_of_ble_eq_true rfl⟩) eBlind_T (fun _ _ _ => trivial) (w_recv hW (q0 := 0) rfl rfl) rfl hl.1 (rest := []) rfl (Nat.le_of_ble_eq_true rfl) dX5_heard_52 ⟨Nat.le_of_ble_eq_true rfl, Nat.le_of_ble_eq_true rfl⟩ (fun locs hW => ?_)
          refine lv_goto (tgt := 59) S.1 S.2.1 dX5_heard_55 rfl ?_
          exact e_iS S hr hlk hW ⟨(σ3 16 (plc (wr σ3) army j)), rfl, ⟨(by unfold sHeard sHeard2; rw [if_pos (dP_t.mpr ws9)]; rw [if_pos (by omega), ← n18]; first | (rw [if_pos (by omega)]; exact hhe) | (rw [if_neg (by omega), if_pos (by omega), hpe]; exact r3) | (rw [if_neg (by omega), if_neg (by omega)])), (q3_sm)⟩⟩ dX5_heard_59
      ·
        refine lv_aload_n S.1 S.2.1 dX5_heard_24 rfl (lv_at hl 0 rfl) ?_
        refine lv_iload_n S.1 S.2.1 dX5_heard_25 rfl (lv_at hl 3 rfl) ?_
        refine c_VP S hW (tX5_hears l G ad σ3 army (by omega) (by omega) (by rw [wq]; exact hA) (by omega)) (cw_X5_261 S.2.2.2.2 ⟨Nat.le_of_ble_eq_true rfl, Nat.le_of_ble_eq_true rfl⟩) eBlind_T (fun _ _ _ => trivial) (w_recv hW (q0 := 0) rfl rfl) rfl hl.1 (rest := []) rfl (Nat.le_of_ble_eq_true rfl) dX5_heard_26 ⟨Nat.le_of_ble_eq_true rfl, Nat.le_of_ble_eq_true rfl⟩ (fun locs hW => ?_)
        refine lv_goto (tgt := 59) S.1 S.2.1 dX5_heard_29 rfl ?_
        exact e_iS S hr hlk hW ⟨(hrs (wr σ3) (σ3 18 0) army), rfl, ⟨(by unfold sHeard sHeard2; rw [if_pos (dP_t.mpr ws9)]; rw [if_pos (by omega), ← n18]; first | (rw [if_pos (by omega)]; exact hhe) | (rw [if_neg (by omega), if_pos (by omega), hpe]; exact r3) | (rw [if_neg (by omega), if_neg (by omega)])), (q3_sm)⟩⟩ dX5_heard_59
    ·
      refine r_iconst S dX5_heard_16 ?_
      exact e_iS S hr hlk hW ⟨(-1), rfl, ⟨(by unfold sHeard; first | rw [if_neg (fun z => absurd (dP_t.mp z) (by assumption))] | (rw [if_pos (dP_t.mpr ws9)]; unfold sHeard2; rw [if_neg (by omega)])), (q3_sm)⟩⟩ dX5_heard_17
