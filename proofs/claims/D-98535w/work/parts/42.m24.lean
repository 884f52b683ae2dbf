theorem hd_X5_isFixed : yX5_isFixed.cls = RX5 ∧ yX5_isFixed.cls ≠ "java/lang/invoke/MethodHandle" ∧ yX5_isFixed.cls ≠ "java/lang/invoke/VarHandle" ∧ (parseMethodDescriptor yX5_isFixed.desc).map (fun d => d.parameters.length) = some 4 := by decide +kernel
theorem cw_X5_391 {R : Room} {s : State} {args : Array Value} (ht : ∀ w ∈ lw_all, w.before args s = true) (hR : 6 + 1 ≤ R.frames ∧ 8 + (9 + 11) + 138 ≤ R.locals) : CallW R s args "OneDrumModel" RX5 391 yX5_isFixed cX5_isFixed 9 (some .boolean) (ws_ yX5_isFixed cX5_isFixed 9 (some .boolean)) ⟨6, 0, 0, 138⟩ 0 0 4 := cwV 4 ht (lw_V q2187 q2189 qs116 q126 q2190) rfl rfl rfl hd_X5_isFixed hR
set_option maxHeartbeats 4000000 in
theorem tX5_fix (l : Launch) (G : GG) (ad : Nat → Nat) (σ : St) (k : Int) (s0 : Int) (army : Int) (mv : Int) (bits : Bool) (hr0 : -2147483648 ≤ k ∧ k < 2147483648 ∧ -2147483648 ≤ s0 ∧ s0 < 2147483648 ∧ -2147483648 ≤ army ∧ army < 2147483648 ∧ -2147483648 ≤ mv ∧ mv < 2147483648) (hdb : WfDB (σ 0)) : Met l yX5_fix (ws_ yX5_fix cX5_fix 8 (some .int)) ⟨7, 0, 0, 166⟩ (wPre G shM ad σ (fun _ => True) [.ref (ad 0), .int (iI k), .int (iI s0), .int (iI army), .int (iI mv), .int (iI (b2i bits))]) (qS G shM ad (aM ad) (rI (fun r σ' => (r = sFix (σ 0) k s0 army mv bits) ∧ (same [10, 11, 12, 13, 14, 15, 16, 17, 18, 19, 20, 21, 22, 23] σ σ')))) 0 0 (aM ad) := by
  refine wStart (by decide) (Nat.le_of_ble_eq_true rfl) (fun k hk => ⟨k, hk, rfl⟩) (fun p e s m below meth c S hr hlk _ _ ls hW hl => ?_)
  have hl : lv_has ls 8 [(0, .ref (ad 0)), (1, .int (iI k)), (2, .int (iI s0)), (3, .int (iI army)), (4, .int (iI mv)), (5, .int (iI (b2i bits)))] := hl
  have d0 := hdb.1
  have d1 := hdb.2.1
  have d2 := hdb.2.2.1
  have d3 := hdb.2.2.2.1
  refine lv_aload_n S.1 S.2.1 dX5_fix_0 rfl (lv_at hl 0 rfl) ?_
  refine lv_iload_n S.1 S.2.1 dX5_fix_1 rfl (lv_at hl 1 rfl) ?_
  refine lv_iload_n S.1 S.2.1 dX5_fix_2 rfl (lv_at hl 2 rfl) ?_
  refine c_VSz S hW (tX5_arePlayed l G ad σ k s0 (by omega) (by omega)) (cw_X5_255 S.2.2.2.2 ⟨Nat.le_of_ble_eq_true rfl, Nat.le_of_ble_eq_true rfl⟩) eBlind_T (fun _ _ _ => trivial) (w_recv hW (q0 := 0) rfl rfl) rfl hl.1 (rest := []) rfl (Nat.le_of_ble_eq_true rfl) dX5_fix_3 ⟨Nat.le_of_ble_eq_true rfl, Nat.le_of_ble_eq_true rfl⟩ (fun r3 σ3 H locs q3 hW => ?_)
  obtain ⟨rfl, q3_sm, q3_pl⟩ := q3
  have e0 : σ3 0 = σ 0 := q3_sm 0 (by decide)
  refine r_ifeq_p S (tgt := 26) dX5_fix_6 rfl (fun c_6 => ?_) (fun c_6 => ?_)
  ·
    refine r_iconst S dX5_fix_26 ?_
    exact e_iS S hr hlk hW ⟨(-1), rfl, ⟨(by unfold sFix; rw [if_neg (fun z => by have z2 := dP_t.mp z; first | exact absurd z2.1 (by assumption) | exact absurd z2.2 (by omega))]), (same_w q3_sm (by decide))⟩⟩ dX5_fix_27
  ·
    obtain ⟨w10, pl⟩ := q3_pl (by first | exact c_6 | assumption)
    have ws9 : inWS (σ 0) k s0 := by first | exact c_6 | assumption
    have hWf := hdb.2.2.2.2.2.2.2.2.1 k (by unfold inWS at ws9; omega) (by unfold inWS at ws9; omega)
    have hg := hdb.2.2.2.2.2.2.2.2.2.1 s0 (by unfold inWS at ws9; omega) (by unfold inWS at ws9; omega)
    have w10b : σ3 10 0 = 610 ∨ σ3 10 0 = 699 := by unfold inWS at ws9; omega
    have wq : wr σ3 = wAt (σ 0) k := wr_at e0 w10
    have n18 := pl.1
    have hL9 := rowG_len hWf hg
    have hg00 := (hg 0 (by omega) (by omega)).1
    have hg11 := (hg 1 (by omega) (by omega)).1
    obtain ⟨LL, eLL⟩ : ∃ z, z = rowG (wAt (σ 0) k) (gAt (σ 0) s0) := ⟨_, rfl⟩
    have hLr := rowG_V (w := wAt (σ 0) k) hg
    have hLg := (rowL_V (t := (wAt (σ 0) k 0).toNat) (gl_mem hg (x := 0) (by omega)) (gl_mem hg (x := 1) (by omega))).2
    have w10c : 0 ≤ σ3 10 0 ∧ σ3 10 0 ≤ 700 := by omega
    have sn9 : fil σ3 16 (rowG (wAt (σ 0) k) (gAt (σ 0) s0)).length (sd (wr σ3) (rf (rowG (wAt (σ 0) k) (gAt (σ 0) s0))) 0) := by rw [wq]; exact pl.2.2.1
    have l24 : (rowG (wAt (σ 0) k) (gAt (σ 0) s0)).length ≤ 24 := by omega
    refine lv_iload_n S.1 S.2.1 dX5_fix_9 rfl (lv_at hl 3 rfl) ?_
    refine c_SPw S hW (tX5_isArmy l army (by omega)) (cw_X5_218 S.2.2.2.2 ⟨Nat.le_of_ble_eq_true rfl, Nat.le_of_ble_eq_true rfl⟩) rfl hl.1 (rest := []) rfl (Nat.le_of_ble_eq_true rfl) dX5_fix_10 ⟨Nat.le_of_ble_eq_true rfl, Nat.le_of_ble_eq_true rfl⟩ (fun locs hW => ?_)
    refine r_ifeq_p S (tgt := 26) dX5_fix_13 rfl (fun c_13 => ?_) (fun c_13 => ?_)
    ·
      refine r_iconst S dX5_fix_26 ?_
      exact e_iS S hr hlk hW ⟨(-1), rfl, ⟨(by unfold sFix; rw [if_neg (fun z => by have z2 := dP_t.mp z; first | exact absurd z2.1 (by assumption) | exact absurd z2.2 (by omega))]), (same_w q3_sm (by decide))⟩⟩ dX5_fix_27
    ·
      refine lv_iload S.1 S.2.1 dX5_fix_16 (lv_at hl 4 rfl) ?_
      refine r_iconst S dX5_fix_18 ?_
      refine r_iconst S dX5_fix_19 ?_
      refine c_SPw S hW (tX5_isIn l mv 0 4 (by omega)) (cw_X5_145 S.2.2.2.2 ⟨Nat.le_of_ble_eq_true rfl, Nat.le_of_ble_eq_true rfl⟩) rfl hl.1 (rest := []) rfl (Nat.le_of_ble_eq_true rfl) dX5_fix_20 ⟨Nat.le_of_ble_eq_true rfl, Nat.le_of_ble_eq_true rfl⟩ (fun locs hW => ?_)
      refine r_ifne_p S (tgt := 28) dX5_fix_23 rfl (fun c_23 => ?_) (fun c_23 => ?_)
      ·
        refine lv_aload_n S.1 S.2.1 dX5_fix_28 rfl (lv_at hl 0 rfl) ?_
        refine lv_iload_n S.1 S.2.1 dX5_fix_29 rfl (lv_at hl 3 rfl) ?_
        refine lv_iload S.1 S.2.1 dX5_fix_30 (lv_at hl 4 rfl) ?_
        refine c_VSz S hW (tX5_isMade l G ad σ3 army mv (rowG (wAt (σ 0) k) (gAt (σ 0) s0)) 0 (w10c) (by omega) (by rw [wq]; exact hWf) (n18) (l24) (hLr) (sn9) (by omega)) (cw_X5_301 S.2.2.2.2 ⟨Nat.le_of_ble_eq_true rfl, Nat.le_of_ble_eq_true rfl⟩) eBlind_T (fun _ _ _ => trivial) (w_recv hW (q0 := 0) rfl rfl) rfl hl.1 (rest := []) rfl (Nat.le_of_ble_eq_true rfl) dX5_fix_32 ⟨Nat.le_of_ble_eq_true rfl, Nat.le_of_ble_eq_true rfl⟩ (fun r32 σ32 H locs q32 hW => ?_)
        obtain ⟨rfl, q32_mad, q32_oth, q32_sm⟩ := q32
        refine r_ifeq_p S (tgt := 40) dX5_fix_35 rfl (fun c_35 => ?_) (fun c_35 => ?_)
        ·
          rw [wq] at c_35
          refine r_iconst S dX5_fix_40 ?_
          refine lv_istore (lv' := [(6, .int (iI 0)), (0, .ref (ad 0)), (1, .int (iI k)), (2, .int (iI s0)), (3, .int (iI army)), (4, .int (iI mv)), (5, .int (iI (b2i bits)))]) S.1 S.2.1 dX5_fix_41 hl (by decide) rfl (fun ls hl => ?_)
          have cut_43 : ∀ (N_43 : Nat) (x : Int) (σ1 : St) (H : Heap) (locs : List Loc) (ls : Array Slot), (0 ≤ x ∧ x ≤ (rowG (wAt (σ 0) k) (gAt (σ 0) s0)).length) → (same [14, 16, 17, 19, 20, 21, 22, 23] σ3 σ1) → (fil σ1 14 (rowG (wAt (σ 0) k) (gAt (σ 0) s0)).length (rf (rowG (wAt (σ 0) k) (gAt (σ 0) s0)))) → (fsI (fun x => fxP (wAt (σ 0) k) (rowG (wAt (σ 0) k) (gAt (σ 0) s0)) army mv x x) x = -1) → (((rowG (wAt (σ 0) k) (gAt (σ 0) s0)).length - x).toNat) < N_43 → WD G shM ad (aM ad) s s.heap σ1 H locs → lv_has ls 8 [(6, .int (iI x)), (0, .ref (ad 0)), (1, .int (iI k)), (2, .int (iI s0)), (3, .int (iI army)), (4, .int (iI mv)), (5, .int (iI (b2i bits)))] → W p l e (⟨7, 0, 0, 166⟩ : Room) s m ([.ref (ad 0), .int (iI k), .int (iI s0), .int (iI army), .int (iI mv), .int (iI (b2i bits))] : List Value).toArray below meth c H locs 0 0 (MQ below (qS G shM ad (aM ad) (rI (fun r σ' => (r = sFix (σ 0) k s0 army mv bits) ∧ (same [10, 11, 12, 13, 14, 15, 16, 17, 18, 19, 20, 21, 22, 23] σ σ')))) ([.ref (ad 0), .int (iI k), .int (iI s0), .int (iI army), .int (iI mv), .int (iI (b2i bits))] : List Value).toArray s 0 0 (aM ad)) (F0 m 43 ls []) := by
            intro N_43
            induction N_43 with
            | zero =>
              intro x σ1 H locs ls hx hsm hrw hno hμ_43 hW hl
              exact absurd hμ_43 (by omega)
            | succ N_43 ih_43 =>
              intro x σ1 H locs ls hx hsm hrw hno hμ_43 hW hl
              have y0 : σ1 0 = σ 0 := (hsm 0 (by decide)).trans e0
              have y10 : σ1 10 = σ3 10 := hsm 10 (by decide)
              have y10b : σ1 10 0 = σ3 10 0 := by rw [y10]
              have wq1 : wr σ1 = wAt (σ 0) k := by rw [← wq]; funext j; simp only [wr, y0, y10, e0]
              have y18 : σ1 18 0 = (rowG (wAt (σ 0) k) (gAt (σ 0) s0)).length := by rw [hsm 18 (by decide)]; exact n18
              refine lv_iload S.1 S.2.1 dX5_fix_43 (lv_at hl 0 rfl) ?_
              refine lv_aload_n S.1 S.2.1 dX5_fix_45 rfl (lv_at hl 1 rfl) ?_
              refine w_geti S hW in_X5 0 rfl rfl 18 (by decide) q1669 rfl rfl dX5_fix_46 ?_
              refine r_icmp_ge S (tgt := 86) dX5_fix_49 rfl (by omega) (fun c_49 => ?_) (fun c_49 => ?_)
              ·
                have hn1 : fsI (fun x => fxP (wAt (σ 0) k) (rowG (wAt (σ 0) k) (gAt (σ 0) s0)) army mv x x) (rowG (wAt (σ 0) k) (gAt (σ 0) s0)).length = -1 := by rw [← show x = (rowG (wAt (σ 0) k) (gAt (σ 0) s0)).length by omega]; exact hno
                refine r_iconst S dX5_fix_86 ?_
                refine lv_istore (lv' := [(6, .int (iI 1)), (0, .ref (ad 0)), (1, .int (iI k)), (2, .int (iI s0)), (3, .int (iI army)), (4, .int (iI mv)), (5, .int (iI (b2i bits)))]) S.1 S.2.1 dX5_fix_87 hl (by decide) rfl (fun ls hl => ?_)
                have cut_89 : ∀ (N_89 : Nat) (b : Int) (σ2 : St) (H : Heap) (locs : List Loc) (ls : Array Slot), (1 ≤ b ∧ (b ≤ (rowG (wAt (σ 0) k) (gAt (σ 0) s0)).length ∨ b = 1)) → (same [14, 16, 17, 19, 20, 21, 22, 23] σ3 σ2) → (fil σ2 14 (rowG (wAt (σ 0) k) (gAt (σ 0) s0)).length (rf (rowG (wAt (σ 0) k) (gAt (σ 0) s0)))) → (fxF (fxP (wAt (σ 0) k) (rowG (wAt (σ 0) k) (gAt (σ 0) s0)) army mv) (fun x b => if bits = true then orI (shlI 1 x) (shlI 1 b) else 2) ((rowG (wAt (σ 0) k) (gAt (σ 0) s0)).length - b).toNat b = fxF (fxP (wAt (σ 0) k) (rowG (wAt (σ 0) k) (gAt (σ 0) s0)) army mv) (fun x b => if bits = true then orI (shlI 1 x) (shlI 1 b) else 2) (((rowG (wAt (σ 0) k) (gAt (σ 0) s0)).length : Int) - 1).toNat 1) → (((rowG (wAt (σ 0) k) (gAt (σ 0) s0)).length + 1 - b).toNat) < N_89 → WD G shM ad (aM ad) s s.heap σ2 H locs → lv_has ls 8 [(6, .int (iI b)), (0, .ref (ad 0)), (1, .int (iI k)), (2, .int (iI s0)), (3, .int (iI army)), (4, .int (iI mv)), (5, .int (iI (b2i bits)))] → W p l e (⟨7, 0, 0, 166⟩ : Room) s m ([.ref (ad 0), .int (iI k), .int (iI s0), .int (iI army), .int (iI mv), .int (iI (b2i bits))] : List Value).toArray below meth c H locs 0 0 (MQ below (qS G shM ad (aM ad) (rI (fun r σ' => (r = sFix (σ 0) k s0 army mv bits) ∧ (same [10, 11, 12, 13, 14, 15, 16, 17, 18, 19, 20, 21, 22, 23] σ σ')))) ([.ref (ad 0), .int (iI k), .int (iI s0), .int (iI army), .int (iI mv), .int (iI (b2i bits))] : List Value).toArray s 0 0 (aM ad)) (F0 m 89 ls []) := by
                  intro N_89
                  induction N_89 with
                  | zero =>
                    intro b σ2 H locs ls hb hs2 hrw2 hf hμ_89 hW hl
                    exact absurd hμ_89 (by omega)
                  | succ N_89 ih_89 =>
                    intro b σ2 H locs ls hb hs2 hrw2 hf hμ_89 hW hl
                    have y0 : σ2 0 = σ 0 := (hs2 0 (by decide)).trans e0
                    have y10 : σ2 10 = σ3 10 := hs2 10 (by decide)
                    have y10b : σ2 10 0 = σ3 10 0 := by rw [y10]
                    have wq1 : wr σ2 = wAt (σ 0) k := by rw [← wq]; funext j; simp only [wr, y0, y10, e0]
                    have y18 : σ2 18 0 = (rowG (wAt (σ 0) k) (gAt (σ 0) s0)).length := by rw [hs2 18 (by decide)]; exact n18
                    refine lv_iload S.1 S.2.1 dX5_fix_89 (lv_at hl 0 rfl) ?_
                    refine lv_aload_n S.1 S.2.1 dX5_fix_91 rfl (lv_at hl 1 rfl) ?_
                    refine w_geti S hW in_X5 0 rfl rfl 18 (by decide) q1669 rfl rfl dX5_fix_92 ?_
                    refine r_icmp_ge S (tgt := 153) dX5_fix_95 rfl (by omega) (fun c_95 => ?_) (fun c_95 => ?_)
                    ·
                      refine r_iconst S dX5_fix_153 ?_
                      exact e_iS S hr hlk hW ⟨(-1), rfl, ⟨(by unfold sFix sFix2; rw [if_pos (dP_t.mpr ⟨ws9, by omega, by omega⟩), if_neg (fun z => c_35 (dP_t.mp z)), hn1, if_neg (by decide), ← hf, show (((rowG (wAt (σ 0) k) (gAt (σ 0) s0)).length : Int) - b).toNat = 0 by omega]; rfl), (same_tr (same_w q3_sm (by decide)) hs2 (by decide))⟩⟩ dX5_fix_154
                    ·
                      refine r_iconst S dX5_fix_98 ?_
                      refine lv_istore (lv' := [(7, .int (iI 0)), (6, .int (iI b)), (0, .ref (ad 0)), (1, .int (iI k)), (2, .int (iI s0)), (3, .int (iI army)), (4, .int (iI mv)), (5, .int (iI (b2i bits)))]) S.1 S.2.1 dX5_fix_99 hl (by decide) rfl (fun ls hl => ?_)
                      have cut_101 : ∀ (N_101 : Nat) (x : Int) (σ4 : St) (H : Heap) (locs : List Loc) (ls : Array Slot), (0 ≤ x ∧ x ≤ b ∧ b < (rowG (wAt (σ 0) k) (gAt (σ 0) s0)).length) → (same [14, 16, 17, 19, 20, 21, 22, 23] σ3 σ4) → (fil σ4 14 (rowG (wAt (σ 0) k) (gAt (σ 0) s0)).length (rf (rowG (wAt (σ 0) k) (gAt (σ 0) s0)))) → (fsI (fun x => (fxP (wAt (σ 0) k) (rowG (wAt (σ 0) k) (gAt (σ 0) s0)) army mv) x b) x = -1) → ((b - x).toNat) < N_101 → WD G shM ad (aM ad) s s.heap σ4 H locs → lv_has ls 8 [(7, .int (iI x)), (6, .int (iI b)), (0, .ref (ad 0)), (1, .int (iI k)), (2, .int (iI s0)), (3, .int (iI army)), (4, .int (iI mv)), (5, .int (iI (b2i bits)))] → W p l e (⟨7, 0, 0, 166⟩ : Room) s m ([.ref (ad 0), .int (iI k), .int (iI s0), .int (iI army), .int (iI mv), .int (iI (b2i bits))] : List Value).toArray below meth c H locs 0 0 (MQ below (qS G shM ad (aM ad) (rI (fun r σ' => (r = sFix (σ 0) k s0 army mv bits) ∧ (same [10, 11, 12, 13, 14, 15, 16, 17, 18, 19, 20, 21, 22, 23] σ σ')))) ([.ref (ad 0), .int (iI k), .int (iI s0), .int (iI army), .int (iI mv), .int (iI (b2i bits))] : List Value).toArray s 0 0 (aM ad)) (F0 m 101 ls []) := by
                        intro N_101
                        induction N_101 with
                        | zero =>
                          intro x σ4 H locs ls hx hs4 hrw hnx hμ_101 hW hl
                          exact absurd hμ_101 (by omega)
                        | succ N_101 ih_101 =>
                          intro x σ4 H locs ls hx hs4 hrw hnx hμ_101 hW hl
                          have y0 : σ4 0 = σ 0 := (hs4 0 (by decide)).trans e0
                          have y10 : σ4 10 = σ3 10 := hs4 10 (by decide)
                          have y10b : σ4 10 0 = σ3 10 0 := by rw [y10]
                          have wq1 : wr σ4 = wAt (σ 0) k := by rw [← wq]; funext j; simp only [wr, y0, y10, e0]
                          have y18 : σ4 18 0 = (rowG (wAt (σ 0) k) (gAt (σ 0) s0)).length := by rw [hs4 18 (by decide)]; exact n18
                          refine lv_iload S.1 S.2.1 dX5_fix_101 (lv_at hl 0 rfl) ?_
                          refine lv_iload S.1 S.2.1 dX5_fix_103 (lv_at hl 1 rfl) ?_
                          refine r_icmp_ge S (tgt := 147) dX5_fix_105 rfl (by omega) (fun c_105 => ?_) (fun c_105 => ?_)
                          ·
                            have hnb : fsI (fun x => (fxP (wAt (σ 0) k) (rowG (wAt (σ 0) k) (gAt (σ 0) s0)) army mv) x b) b = -1 := by have z9 := hnx; rw [show x = b by omega] at z9; exact z9
                            refine lv_iinc (v := iI (b + 1)) (lv' := [(6, .int (iI (b + 1))), (7, .int (iI x)), (0, .ref (ad 0)), (1, .int (iI k)), (2, .int (iI s0)), (3, .int (iI army)), (4, .int (iI mv)), (5, .int (iI (b2i bits)))]) S.1 S.2.1 dX5_fix_147 hl (k := 1) rfl (iI_add _ _) (by decide) rfl (fun ls hl => ?_)
                            refine lv_goto (tgt := 89) S.1 S.2.1 dX5_fix_150 rfl ?_
                            exact ih_89 (b + 1) σ4 H _ _ (by omega) (hs4) (hrw) (by rw [← hf, show (((rowG (wAt (σ 0) k) (gAt (σ 0) s0)).length : Int) - b).toNat = (((rowG (wAt (σ 0) k) (gAt (σ 0) s0)).length : Int) - (b + 1)).toNat + 1 by omega, fxF_no hnb]) (by omega) hW (lv_sub hl [0, 2, 3, 4, 5, 6, 7] rfl)
                          ·
                            refine lv_aload_n S.1 S.2.1 dX5_fix_108 rfl (lv_at hl 2 rfl) ?_
                            refine lv_iload_n S.1 S.2.1 dX5_fix_109 rfl (lv_at hl 5 rfl) ?_
                            refine lv_iload S.1 S.2.1 dX5_fix_110 (lv_at hl 6 rfl) ?_
                            refine lv_iload S.1 S.2.1 dX5_fix_112 (lv_at hl 0 rfl) ?_
                            refine lv_iload S.1 S.2.1 dX5_fix_114 (lv_at hl 1 rfl) ?_
                            refine c_VSz S hW (tX5_isFixed l G ad σ4 army mv x b (rowG (wAt (σ 0) k) (gAt (σ 0) s0)) (by omega) (by omega) (by rw [wq1]; exact hWf) (y18) (l24) (hLr) (hrw) (by omega) (by omega) (by omega)) (cw_X5_391 S.2.2.2.2 ⟨Nat.le_of_ble_eq_true rfl, Nat.le_of_ble_eq_true rfl⟩) eBlind_T (fun _ _ _ => trivial) (w_recv hW (q0 := 0) rfl rfl) rfl hl.1 (rest := []) rfl (Nat.le_of_ble_eq_true rfl) dX5_fix_116 ⟨Nat.le_of_ble_eq_true rfl, Nat.le_of_ble_eq_true rfl⟩ (fun r116 σ116 H locs q116 hW => ?_)
                            obtain ⟨rfl, q116_row, q116_sm⟩ := q116
                            refine r_ifeq_p S (tgt := 141) dX5_fix_119 rfl (fun c_119 => ?_) (fun c_119 => ?_)
                            ·
                              rw [wq1] at c_119
                              refine lv_iinc (v := iI (x + 1)) (lv' := [(7, .int (iI (x + 1))), (6, .int (iI b)), (0, .ref (ad 0)), (1, .int (iI k)), (2, .int (iI s0)), (3, .int (iI army)), (4, .int (iI mv)), (5, .int (iI (b2i bits)))]) S.1 S.2.1 dX5_fix_141 hl (k := 0) rfl (iI_add _ _) (by decide) rfl (fun ls hl => ?_)
                              refine lv_goto (tgt := 101) S.1 S.2.1 dX5_fix_144 rfl ?_
                              exact ih_101 (x + 1) σ116 H _ _ (by omega) (same_tr hs4 q116_sm (by decide)) (q116_row) (by rw [fsI_no (fun x => (fxP (wAt (σ 0) k) (rowG (wAt (σ 0) k) (gAt (σ 0) s0)) army mv) x b) hx.1 c_119]; exact hnx) (by omega) hW (lv_sub hl [0, 1, 2, 3, 4, 5, 6, 7] rfl)
                            ·
                              rw [wq1] at c_119
                              have hf2 : fsI (fun x => (fxP (wAt (σ 0) k) (rowG (wAt (σ 0) k) (gAt (σ 0) s0)) army mv) x b) b = x := fsI_first (fun x => (fxP (wAt (σ 0) k) (rowG (wAt (σ 0) k) (gAt (σ 0) s0)) army mv) x b) hx.1 c_119 hnx _ (by omega)
                              refine lv_iload S.1 S.2.1 dX5_fix_122 (lv_at hl 7 rfl) ?_
                              refine r_ifeq_b S (tgt := 139) dX5_fix_124 rfl (fun c_124 => ?_) (fun c_124 => ?_)
                              ·
                                refine r_iconst S dX5_fix_139 ?_
                                exact e_iS S hr hlk hW ⟨2, rfl, ⟨(by unfold sFix sFix2; rw [if_pos (dP_t.mpr ⟨ws9, by omega, by omega⟩), if_neg (fun z => c_35 (dP_t.mp z)), hn1, if_neg (by decide), ← hf, show (((rowG (wAt (σ 0) k) (gAt (σ 0) s0)).length : Int) - b).toNat = (((rowG (wAt (σ 0) k) (gAt (σ 0) s0)).length : Int) - b - 1).toNat + 1 by omega, fxF_yes hf2 (by omega)]; first | rw [if_pos c_124] | rw [if_neg (by rw [c_124]; decide)]), (same_tr (same_tr (same_w q3_sm (by decide)) hs4 (by decide)) q116_sm (by decide))⟩⟩ dX5_fix_140
                              ·
                                refine r_iconst S dX5_fix_127 ?_
                                refine lv_iload S.1 S.2.1 dX5_fix_128 (lv_at hl 0 rfl) ?_
                                refine r_ishl S dX5_fix_130 ?_
                                refine r_iconst S dX5_fix_131 ?_
                                refine lv_iload S.1 S.2.1 dX5_fix_132 (lv_at hl 1 rfl) ?_
                                refine r_ishl S dX5_fix_134 ?_
                                refine r_ior S dX5_fix_135 ?_
                                refine lv_goto (tgt := 140) S.1 S.2.1 dX5_fix_136 rfl ?_
                                exact e_iS S hr hlk hW ⟨(orI (shlI 1 x) (shlI 1 b)), rfl, ⟨(by unfold sFix sFix2; rw [if_pos (dP_t.mpr ⟨ws9, by omega, by omega⟩), if_neg (fun z => c_35 (dP_t.mp z)), hn1, if_neg (by decide), ← hf, show (((rowG (wAt (σ 0) k) (gAt (σ 0) s0)).length : Int) - b).toNat = (((rowG (wAt (σ 0) k) (gAt (σ 0) s0)).length : Int) - b - 1).toNat + 1 by omega, fxF_yes hf2 (by omega)]; first | rw [if_pos c_124] | rw [if_neg (by rw [c_124]; decide)]), (same_tr (same_tr (same_w q3_sm (by decide)) hs4 (by decide)) q116_sm (by decide))⟩⟩ dX5_fix_140
                      exact cut_101 _ 0 σ2 H _ _ (by omega) (hs2) (hrw2) (rfl) (Nat.lt_succ_self _) hW (lv_sub hl [0, 1, 2, 3, 4, 5, 6, 7] rfl)
                exact cut_89 _ 1 σ1 H _ _ (by omega) (hsm) (hrw) (rfl) (Nat.lt_succ_self _) hW (lv_sub hl [0, 1, 2, 3, 4, 5, 6] rfl)
              ·
                refine lv_aload_n S.1 S.2.1 dX5_fix_52 rfl (lv_at hl 1 rfl) ?_
                refine lv_iload_n S.1 S.2.1 dX5_fix_53 rfl (lv_at hl 4 rfl) ?_
                refine lv_iload S.1 S.2.1 dX5_fix_54 (lv_at hl 5 rfl) ?_
                refine lv_iload S.1 S.2.1 dX5_fix_56 (lv_at hl 0 rfl) ?_
                refine lv_iload S.1 S.2.1 dX5_fix_58 (lv_at hl 0 rfl) ?_
                refine c_VSz S hW (tX5_isFixed l G ad σ1 army mv x x (rowG (wAt (σ 0) k) (gAt (σ 0) s0)) (by omega) (by omega) (by rw [wq1]; exact hWf) (y18) (l24) (hLr) (hrw) (by omega) (by omega) (by omega)) (cw_X5_391 S.2.2.2.2 ⟨Nat.le_of_ble_eq_true rfl, Nat.le_of_ble_eq_true rfl⟩) eBlind_T (fun _ _ _ => trivial) (w_recv hW (q0 := 0) rfl rfl) rfl hl.1 (rest := []) rfl (Nat.le_of_ble_eq_true rfl) dX5_fix_60 ⟨Nat.le_of_ble_eq_true rfl, Nat.le_of_ble_eq_true rfl⟩ (fun r60 σ60 H locs q60 hW => ?_)
                obtain ⟨rfl, q60_row, q60_sm⟩ := q60
                refine r_ifeq_p S (tgt := 80) dX5_fix_63 rfl (fun c_63 => ?_) (fun c_63 => ?_)
                ·
                  rw [wq1] at c_63
                  refine lv_iinc (v := iI (x + 1)) (lv' := [(6, .int (iI (x + 1))), (0, .ref (ad 0)), (1, .int (iI k)), (2, .int (iI s0)), (3, .int (iI army)), (4, .int (iI mv)), (5, .int (iI (b2i bits)))]) S.1 S.2.1 dX5_fix_80 hl (k := 0) rfl (iI_add _ _) (by decide) rfl (fun ls hl => ?_)
                  refine lv_goto (tgt := 43) S.1 S.2.1 dX5_fix_83 rfl ?_
                  exact ih_43 (x + 1) σ60 H _ _ (by omega) (same_tr hsm q60_sm (by decide)) (q60_row) (by rw [fsI_no (fun x => fxP (wAt (σ 0) k) (rowG (wAt (σ 0) k) (gAt (σ 0) s0)) army mv x x) hx.1 c_63]; exact hno) (by omega) hW (lv_sub hl [0, 1, 2, 3, 4, 5, 6] rfl)
                ·
                  rw [wq1] at c_63
                  have hf1 : fsI (fun x => fxP (wAt (σ 0) k) (rowG (wAt (σ 0) k) (gAt (σ 0) s0)) army mv x x) (rowG (wAt (σ 0) k) (gAt (σ 0) s0)).length = x := fsI_first (fun x => fxP (wAt (σ 0) k) (rowG (wAt (σ 0) k) (gAt (σ 0) s0)) army mv x x) hx.1 c_63 hno _ (by omega)
                  refine lv_iload S.1 S.2.1 dX5_fix_66 (lv_at hl 6 rfl) ?_
                  refine r_ifeq_b S (tgt := 78) dX5_fix_68 rfl (fun c_68 => ?_) (fun c_68 => ?_)
                  ·
                    refine r_iconst S dX5_fix_78 ?_
                    exact e_iS S hr hlk hW ⟨1, rfl, ⟨(by unfold sFix sFix2; rw [if_pos (dP_t.mpr ⟨ws9, by omega, by omega⟩), if_neg (fun z => c_35 (dP_t.mp z)), hf1, if_pos (by omega)]; first | rw [if_pos c_68] | rw [if_neg (by rw [c_68]; decide)]), (same_tr (same_tr (same_w q3_sm (by decide)) hsm (by decide)) q60_sm (by decide))⟩⟩ dX5_fix_79
                  ·
                    refine r_iconst S dX5_fix_71 ?_
                    refine lv_iload S.1 S.2.1 dX5_fix_72 (lv_at hl 0 rfl) ?_
                    refine r_ishl S dX5_fix_74 ?_
                    refine lv_goto (tgt := 79) S.1 S.2.1 dX5_fix_75 rfl ?_
                    exact e_iS S hr hlk hW ⟨(shlI 1 x), rfl, ⟨(by unfold sFix sFix2; rw [if_pos (dP_t.mpr ⟨ws9, by omega, by omega⟩), if_neg (fun z => c_35 (dP_t.mp z)), hf1, if_pos (by omega)]; first | rw [if_pos c_68] | rw [if_neg (by rw [c_68]; decide)]), (same_tr (same_tr (same_w q3_sm (by decide)) hsm (by decide)) q60_sm (by decide))⟩⟩ dX5_fix_79
          exact cut_43 _ 0 σ32 H _ _ (by omega) (same_w q32_sm (by decide)) (fil_eq pl.2.1.1 (q32_sm 14 (by decide))) (rfl) (Nat.lt_succ_self _) hW (lv_sub hl [0, 1, 2, 3, 4, 5, 6] rfl)
        ·
          rw [wq] at c_35
          refine r_iconst S dX5_fix_38 ?_
          exact e_iS S hr hlk hW ⟨0, rfl, ⟨(by unfold sFix sFix2; rw [if_pos (dP_t.mpr ⟨ws9, by omega, by omega⟩), if_pos (dP_t.mpr c_35)]), (same_tr (same_w q3_sm (by decide)) q32_sm (by decide))⟩⟩ dX5_fix_39
      ·
        refine r_iconst S dX5_fix_26 ?_
        exact e_iS S hr hlk hW ⟨(-1), rfl, ⟨(by unfold sFix; rw [if_neg (fun z => by have z2 := dP_t.mp z; first | exact absurd z2.1 (by assumption) | exact absurd z2.2 (by omega))]), (same_w q3_sm (by decide))⟩⟩ dX5_fix_27
