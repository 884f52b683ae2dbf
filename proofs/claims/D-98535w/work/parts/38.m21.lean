theorem hd_X5_below : yX5_below.cls = RX5 ∧ yX5_below.cls ≠ "java/lang/invoke/MethodHandle" ∧ yX5_below.cls ≠ "java/lang/invoke/VarHandle" ∧ (parseMethodDescriptor yX5_below.desc).map (fun d => d.parameters.length) = some 1 := by decide +kernel
theorem cw_X5_362 {R : Room} {s : State} {args : Array Value} (ht : ∀ w ∈ lw_all, w.before args s = true) (hR : 0 + 1 ≤ R.frames ∧ 8 + (2 + 11) + 0 ≤ R.locals) : CallW R s args "OneDrumModel" RX5 362 yX5_below cX5_below 2 (some .int) (ws_ yX5_below cX5_below 2 (some .int)) ⟨0, 0, 0, 0⟩ 0 0 1 := cwV 1 ht (lw_V q2136 q2138 qs108 q126 q2139) rfl rfl rfl hd_X5_below hR
theorem hd_X5_madeAlike : yX5_madeAlike.cls = RX5 ∧ yX5_madeAlike.cls ≠ "java/lang/invoke/MethodHandle" ∧ yX5_madeAlike.cls ≠ "java/lang/invoke/VarHandle" ∧ (parseMethodDescriptor yX5_madeAlike.desc).map (fun d => d.parameters.length) = some 0 := by decide +kernel
theorem cw_X5_365 {R : Room} {s : State} {args : Array Value} (ht : ∀ w ∈ lw_all, w.before args s = true) (hR : 0 + 1 ≤ R.frames ∧ 8 + (3 + 11) + 0 ≤ R.locals) : CallW R s args "OneDrumModel" RX5 365 yX5_madeAlike cX5_madeAlike 3 (some .boolean) (ws_ yX5_madeAlike cX5_madeAlike 3 (some .boolean)) ⟨0, 0, 0, 0⟩ 0 0 0 := cwV 0 ht (lw_V q2141 q2143 qs109 q126 q2144) rfl rfl rfl hd_X5_madeAlike hR
set_option maxHeartbeats 4000000 in
theorem tX5_drawn (l : Launch) (G : GG) (ad : Nat → Nat) (σ : St) (k : Int) (s0 : Int) (x : Int) (n : Int) (what : Int) (hr0 : -2147483648 ≤ k ∧ k < 2147483648 ∧ -2147483648 ≤ s0 ∧ s0 < 2147483648 ∧ -2147483648 ≤ x ∧ x < 2147483648 ∧ -2147483648 ≤ n ∧ n < 2147483648 ∧ -2147483648 ≤ what ∧ what < 2147483648) (hdb : WfDB (σ 0)) : Met l yX5_drawn (ws_ yX5_drawn cX5_drawn 12 (some .int)) ⟨7, 0, 0, 157⟩ (wPre G shM ad σ (fun _ => True) [.ref (ad 0), .int (iI k), .int (iI s0), .int (iI x), .int (iI n), .int (iI what)]) (qS G shM ad (aM ad) (rI (fun r σ' => (r = sDrawn (σ 0) k s0 x n what) ∧ (same [10, 11, 12, 13, 14, 15, 16, 17, 18, 19, 20, 21, 22, 23, 24, 33, 34] σ σ')))) 0 0 (aM ad) := by
  refine wStart (by decide) (Nat.le_of_ble_eq_true rfl) (fun k hk => ⟨k, hk, rfl⟩) (fun p e s m below meth c S hr hlk _ _ ls hW hl => ?_)
  have hl : lv_has ls 12 [(0, .ref (ad 0)), (1, .int (iI k)), (2, .int (iI s0)), (3, .int (iI x)), (4, .int (iI n)), (5, .int (iI what))] := hl
  have d0 := hdb.1
  have d1 := hdb.2.1
  have d2 := hdb.2.2.1
  have d3 := hdb.2.2.2.1
  refine lv_aload_n S.1 S.2.1 dX5_drawn_0 rfl (lv_at hl 0 rfl) ?_
  refine lv_iload_n S.1 S.2.1 dX5_drawn_1 rfl (lv_at hl 1 rfl) ?_
  refine lv_iload_n S.1 S.2.1 dX5_drawn_2 rfl (lv_at hl 2 rfl) ?_
  refine c_VSz S hW (tX5_arePlayed l G ad σ k s0 (by omega) (by omega)) (cw_X5_255 S.2.2.2.2 ⟨Nat.le_of_ble_eq_true rfl, Nat.le_of_ble_eq_true rfl⟩) eBlind_T (fun _ _ _ => trivial) (w_recv hW (q0 := 0) rfl rfl) rfl hl.1 (rest := []) rfl (Nat.le_of_ble_eq_true rfl) dX5_drawn_3 ⟨Nat.le_of_ble_eq_true rfl, Nat.le_of_ble_eq_true rfl⟩ (fun r3 σ3 H locs q3 hW => ?_)
  obtain ⟨rfl, q3_sm, q3_pl⟩ := q3
  have e0 : σ3 0 = σ 0 := q3_sm 0 (by decide)
  refine r_ifeq_p S (tgt := 54) dX5_drawn_6 rfl (fun c_6 => ?_) (fun c_6 => ?_)
  ·
    refine r_iconst S dX5_drawn_54 ?_
    exact e_iS S hr hlk hW ⟨(-1), rfl, ⟨(by unfold sDrawn; rw [if_neg (fun z => by have z2 := dP_t.mp z; first | exact absurd z2.1 (by assumption) | exact absurd z2.2 (by omega))]), (same_w q3_sm (by decide))⟩⟩ dX5_drawn_55
  ·
    obtain ⟨w10, pl⟩ := q3_pl (by first | exact c_6 | assumption)
    have ws9 : inWS (σ 0) k s0 := by first | exact c_6 | assumption
    have hWf := hdb.2.2.2.2.2.2.2.2.1 k (by unfold inWS at ws9; omega) (by unfold inWS at ws9; omega)
    have hg := hdb.2.2.2.2.2.2.2.2.2.1 s0 (by unfold inWS at ws9; omega) (by unfold inWS at ws9; omega)
    have w10b : σ3 10 0 = 610 ∨ σ3 10 0 = 699 := by unfold inWS at ws9; omega
    have wq : wr σ3 = wAt (σ 0) k := wr_at e0 w10
    have n18 := pl.1
    have hL9 := rowG_len hWf hg
    have hg00 := (hg 0 (by omega) (by omega)).1
    have hg11 := (hg 1 (by omega) (by omega)).1
    obtain ⟨LL, eLL⟩ : ∃ z, z = rowG (wAt (σ 0) k) (gAt (σ 0) s0) := ⟨_, rfl⟩
    have hLr := rowG_V (w := wAt (σ 0) k) hg
    have hLg := (rowL_V (t := (wAt (σ 0) k 0).toNat) (gl_mem hg (x := 0) (by omega)) (gl_mem hg (x := 1) (by omega))).2
    have w10c : 0 ≤ σ3 10 0 ∧ σ3 10 0 ≤ 700 := by omega
    have sn9 : fil σ3 16 (rowG (wAt (σ 0) k) (gAt (σ 0) s0)).length (sd (wr σ3) (rf (rowG (wAt (σ 0) k) (gAt (σ 0) s0))) 0) := by rw [wq]; exact pl.2.2.1
    have l24 : (rowG (wAt (σ 0) k) (gAt (σ 0) s0)).length ≤ 24 := by omega
    have hA0 := hWf.2.2.2.2 0 (by omega) (by omega)
    have hA1 := hWf.2.2.2.2 1 (by omega) (by omega)
    refine lv_iload S.1 S.2.1 dX5_drawn_9 (lv_at hl 4 rfl) ?_
    refine r_iconst S dX5_drawn_11 ?_
    refine r_bipush S dX5_drawn_12 (by decide) ?_
    refine c_SPw S hW (tX5_isIn l n 0 40 (by omega)) (cw_X5_145 S.2.2.2.2 ⟨Nat.le_of_ble_eq_true rfl, Nat.le_of_ble_eq_true rfl⟩) rfl hl.1 (rest := []) rfl (Nat.le_of_ble_eq_true rfl) dX5_drawn_14 ⟨Nat.le_of_ble_eq_true rfl, Nat.le_of_ble_eq_true rfl⟩ (fun locs hW => ?_)
    refine r_ifeq_p S (tgt := 54) dX5_drawn_17 rfl (fun c_17 => ?_) (fun c_17 => ?_)
    ·
      refine r_iconst S dX5_drawn_54 ?_
      exact e_iS S hr hlk hW ⟨(-1), rfl, ⟨(by unfold sDrawn; rw [if_neg (fun z => by have z2 := dP_t.mp z; first | exact absurd z2.1 (by assumption) | exact absurd z2.2 (by omega))]), (same_w q3_sm (by decide))⟩⟩ dX5_drawn_55
    ·
      have cut_56 : ∀ (H : Heap) (locs : List Loc) (ls : Array Slot), ((0 ≤ what ∧ what ≤ 1) ∨ (10 ≤ what ∧ what ≤ 14) ∨ (20 ≤ what ∧ what ≤ 24)) → WD G shM ad (aM ad) s s.heap σ3 H locs → lv_has ls 12 [(0, .ref (ad 0)), (1, .int (iI k)), (2, .int (iI s0)), (3, .int (iI x)), (4, .int (iI n)), (5, .int (iI what))] → W p l e (⟨7, 0, 0, 157⟩ : Room) s m ([.ref (ad 0), .int (iI k), .int (iI s0), .int (iI x), .int (iI n), .int (iI what)] : List Value).toArray below meth c H locs 0 0 (MQ below (qS G shM ad (aM ad) (rI (fun r σ' => (r = sDrawn (σ 0) k s0 x n what) ∧ (same [10, 11, 12, 13, 14, 15, 16, 17, 18, 19, 20, 21, 22, 23, 24, 33, 34] σ σ')))) ([.ref (ad 0), .int (iI k), .int (iI s0), .int (iI x), .int (iI n), .int (iI what)] : List Value).toArray s 0 0 (aM ad)) (F0 m 56 ls []) := by
        intro H locs ls hwh hW hl
        refine lv_aload_n S.1 S.2.1 dX5_drawn_56 rfl (lv_at hl 0 rfl) ?_
        refine lv_iload_n S.1 S.2.1 dX5_drawn_57 rfl (lv_at hl 3 rfl) ?_
        refine w_puti S hW in_X5 tyX5 tyX5_ok nmX5 0 rfl rfl 33 (by decide) q1684 rfl rfl rfl rfl rfl (z := x) rfl dX5_drawn_58 (fun H locs hW => ?_)
        refine r_iconst S dX5_drawn_61 ?_
        refine lv_istore (lv' := [(6, .int (iI 0)), (0, .ref (ad 0)), (1, .int (iI k)), (2, .int (iI s0)), (3, .int (iI x)), (4, .int (iI n)), (5, .int (iI what))]) S.1 S.2.1 dX5_drawn_62 hl (by decide) rfl (fun ls hl => ?_)
        refine r_iconst S dX5_drawn_64 ?_
        refine lv_istore (lv' := [(7, .int (iI 0)), (6, .int (iI 0)), (0, .ref (ad 0)), (1, .int (iI k)), (2, .int (iI s0)), (3, .int (iI x)), (4, .int (iI n)), (5, .int (iI what))]) S.1 S.2.1 dX5_drawn_65 hl (by decide) rfl (fun ls hl => ?_)
        refine r_iconst S dX5_drawn_67 ?_
        refine lv_istore (lv' := [(8, .int (iI 0)), (7, .int (iI 0)), (6, .int (iI 0)), (0, .ref (ad 0)), (1, .int (iI k)), (2, .int (iI s0)), (3, .int (iI x)), (4, .int (iI n)), (5, .int (iI what))]) S.1 S.2.1 dX5_drawn_68 hl (by decide) rfl (fun ls hl => ?_)
        have cut_70 : ∀ (N_70 : Nat) (i : Int) (σ4 : St) (H : Heap) (locs : List Loc) (ls : Array Slot), (0 ≤ i ∧ i ≤ 10) → (same [16, 17, 19, 20, 21, 22, 23, 24, 33, 34] σ3 σ4) → (σ4 33 0 = x) → (fil σ4 34 i (fun _ => 0)) → ((10 - i).toNat) < N_70 → WD G shM ad (aM ad) s s.heap σ4 H locs → lv_has ls 12 [(8, .int (iI i)), (7, .int (iI 0)), (6, .int (iI 0)), (0, .ref (ad 0)), (1, .int (iI k)), (2, .int (iI s0)), (3, .int (iI x)), (4, .int (iI n)), (5, .int (iI what))] → W p l e (⟨7, 0, 0, 157⟩ : Room) s m ([.ref (ad 0), .int (iI k), .int (iI s0), .int (iI x), .int (iI n), .int (iI what)] : List Value).toArray below meth c H locs 0 0 (MQ below (qS G shM ad (aM ad) (rI (fun r σ' => (r = sDrawn (σ 0) k s0 x n what) ∧ (same [10, 11, 12, 13, 14, 15, 16, 17, 18, 19, 20, 21, 22, 23, 24, 33, 34] σ σ')))) ([.ref (ad 0), .int (iI k), .int (iI s0), .int (iI x), .int (iI n), .int (iI what)] : List Value).toArray s 0 0 (aM ad)) (F0 m 70 ls []) := by
          intro N_70
          induction N_70 with
          | zero =>
            intro i σ4 H locs ls hi hs4 hx4 hz hμ_70 hW hl
            exact absurd hμ_70 (by omega)
          | succ N_70 ih_70 =>
            intro i σ4 H locs ls hi hs4 hx4 hz hμ_70 hW hl
            refine lv_iload S.1 S.2.1 dX5_drawn_70 (lv_at hl 0 rfl) ?_
            refine r_bipush S dX5_drawn_72 (by decide) ?_
            refine r_icmp_ge S (tgt := 91) dX5_drawn_74 rfl (by omega) (fun c_74 => ?_) (fun c_74 => ?_)
            ·
              refine r_iconst S dX5_drawn_91 ?_
              refine lv_istore (lv' := [(8, .int (iI 0)), (7, .int (iI 0)), (6, .int (iI 0)), (0, .ref (ad 0)), (1, .int (iI k)), (2, .int (iI s0)), (3, .int (iI x)), (4, .int (iI n)), (5, .int (iI what))]) S.1 S.2.1 dX5_drawn_92 hl (by decide) rfl (fun ls hl => ?_)
              have cut_94 : ∀ (N_94 : Nat) (alike met e_ : Int) (σ1 : St) (H : Heap) (locs : List Loc) (ls : Array Slot), (0 ≤ e_ ∧ e_ ≤ n) → (same [16, 17, 19, 20, 21, 22, 23, 24, 33, 34] σ3 σ1) → (σ1 33 0 = xsI x (rowG (wAt (σ 0) k) (gAt (σ 0) s0)).length e_) → (alike = cnI (fun e => alk (wAt (σ 0) k) (rowG (wAt (σ 0) k) (gAt (σ 0) s0)) (wnd x (rowG (wAt (σ 0) k) (gAt (σ 0) s0)).length e)) e_) → (met = cnI (fun e => meet (wAt (σ 0) k) (rowG (wAt (σ 0) k) (gAt (σ 0) s0)) (wnd x (rowG (wAt (σ 0) k) (gAt (σ 0) s0)).length e) ≠ -1) e_) → (∀ a mv : Int, 0 ≤ a → a ≤ 1 → 0 ≤ mv → mv ≤ 4 → σ1 34 (5 * a + mv) = ofI (wAt (σ 0) k) (rowG (wAt (σ 0) k) (gAt (σ 0) s0)) x a mv e_) → ((n - e_).toNat) < N_94 → WD G shM ad (aM ad) s s.heap σ1 H locs → lv_has ls 12 [(8, .int (iI e_)), (7, .int (iI met)), (6, .int (iI alike)), (0, .ref (ad 0)), (1, .int (iI k)), (2, .int (iI s0)), (3, .int (iI x)), (4, .int (iI n)), (5, .int (iI what))] → W p l e (⟨7, 0, 0, 157⟩ : Room) s m ([.ref (ad 0), .int (iI k), .int (iI s0), .int (iI x), .int (iI n), .int (iI what)] : List Value).toArray below meth c H locs 0 0 (MQ below (qS G shM ad (aM ad) (rI (fun r σ' => (r = sDrawn (σ 0) k s0 x n what) ∧ (same [10, 11, 12, 13, 14, 15, 16, 17, 18, 19, 20, 21, 22, 23, 24, 33, 34] σ σ')))) ([.ref (ad 0), .int (iI k), .int (iI s0), .int (iI x), .int (iI n), .int (iI what)] : List Value).toArray s 0 0 (aM ad)) (F0 m 94 ls []) := by
                intro N_94
                induction N_94 with
                | zero =>
                  intro alike met e_ σ1 H locs ls he hsm hx1 hal hme hof hμ_94 hW hl
                  exact absurd hμ_94 (by omega)
                | succ N_94 ih_94 =>
                  intro alike met e_ σ1 H locs ls he hsm hx1 hal hme hof hμ_94 hW hl
                  have y0 : σ1 0 = σ 0 := (hsm 0 (by decide)).trans e0
                  have y10 : σ1 10 = σ3 10 := hsm 10 (by decide)
                  have y10b : σ1 10 0 = σ3 10 0 := by rw [y10]
                  have wq1 : wr σ1 = wAt (σ 0) k := by rw [← wq]; funext j; simp only [wr, y0, y10, e0]
                  have y18 : σ1 18 0 = (rowG (wAt (σ 0) k) (gAt (σ 0) s0)).length := by rw [hsm 18 (by decide)]; exact n18
                  have ca := cnI_rng (fun e => alk (wAt (σ 0) k) (rowG (wAt (σ 0) k) (gAt (σ 0) s0)) (wnd x (rowG (wAt (σ 0) k) (gAt (σ 0) s0)).length e)) he.1
                  have cb := cnI_rng (fun e => meet (wAt (σ 0) k) (rowG (wAt (σ 0) k) (gAt (σ 0) s0)) (wnd x (rowG (wAt (σ 0) k) (gAt (σ 0) s0)).length e) ≠ -1) he.1
                  refine lv_iload S.1 S.2.1 dX5_drawn_94 (lv_at hl 0 rfl) ?_
                  refine lv_iload S.1 S.2.1 dX5_drawn_96 (lv_at hl 7 rfl) ?_
                  refine r_icmp_ge S (tgt := 254) dX5_drawn_98 rfl (by omega) (fun c_98 => ?_) (fun c_98 => ?_)
                  ·
                    have hen : e_ = n := by omega
                    refine lv_iload S.1 S.2.1 dX5_drawn_254 (lv_at hl 8 rfl) ?_
                    refine r_if_ne S (tgt := 264) dX5_drawn_256 rfl (by omega) (fun c_256 => ?_) (fun c_256 => ?_)
                    ·
                      refine lv_iload S.1 S.2.1 dX5_drawn_264 (lv_at hl 8 rfl) ?_
                      refine r_iconst S dX5_drawn_266 ?_
                      refine r_icmp_ne S (tgt := 275) dX5_drawn_267 rfl (by omega) (fun c_267 => ?_) (fun c_267 => ?_)
                      ·
                        have hwd : what / 10 - 1 = 0 ∨ what / 10 - 1 = 1 := by omega
                        have hov := hof (what / 10 - 1) (what % 10) (by omega) (by omega) (by omega) (by omega)
                        refine lv_aload_n S.1 S.2.1 dX5_drawn_275 rfl (lv_at hl 3 rfl) ?_
                        refine w_getr S hW in_X5 0 rfl rfl 34 (by decide) q1685 rfl rfl dX5_drawn_276 ?_
                        refine r_iconst S dX5_drawn_279 ?_
                        refine lv_iload S.1 S.2.1 dX5_drawn_280 (lv_at hl 8 rfl) ?_
                        refine r_bipush S dX5_drawn_282 (by decide) ?_
                        refine r_idiv S dX5_drawn_284 (by omega) ?_
                        refine r_iconst S dX5_drawn_285 ?_
                        refine r_isub S dX5_drawn_286 ?_
                        refine r_imul S dX5_drawn_287 ?_
                        refine lv_iload S.1 S.2.1 dX5_drawn_288 (lv_at hl 8 rfl) ?_
                        refine r_bipush S dX5_drawn_290 (by decide) ?_
                        refine r_irem S dX5_drawn_292 (by omega) ?_
                        refine r_iadd S dX5_drawn_293 ?_
                        refine w_ald S hW 22 0 rfl rfl (by omega) dX5_drawn_294 ?_
                        exact e_iS S hr hlk hW ⟨(σ1 34 ((5 * ((what / 10) - 1)) + (what % 10))), rfl, ⟨(by unfold sDrawn sDrawn2; rw [if_pos (dP_t.mpr ⟨ws9, by omega, by omega⟩), ← hen]; first | (rw [if_pos (by omega)]; exact hal) | (rw [if_neg (by omega), if_pos (by omega)]; exact hme) | (rw [if_neg (by omega), if_neg (by omega)]; exact hov)), (same_tr (same_w q3_sm (by decide)) hsm (by decide))⟩⟩ dX5_drawn_295
                      ·
                        refine lv_iload S.1 S.2.1 dX5_drawn_270 (lv_at hl 1 rfl) ?_
                        refine lv_goto (tgt := 295) S.1 S.2.1 dX5_drawn_272 rfl ?_
                        exact e_iS S hr hlk hW ⟨met, rfl, ⟨(by unfold sDrawn sDrawn2; rw [if_pos (dP_t.mpr ⟨ws9, by omega, by omega⟩), ← hen]; first | (rw [if_pos (by omega)]; exact hal) | (rw [if_neg (by omega), if_pos (by omega)]; exact hme) | (rw [if_neg (by omega), if_neg (by omega)]; exact hov)), (same_tr (same_w q3_sm (by decide)) hsm (by decide))⟩⟩ dX5_drawn_295
                    ·
                      refine lv_iload S.1 S.2.1 dX5_drawn_259 (lv_at hl 2 rfl) ?_
                      refine lv_goto (tgt := 295) S.1 S.2.1 dX5_drawn_261 rfl ?_
                      exact e_iS S hr hlk hW ⟨alike, rfl, ⟨(by unfold sDrawn sDrawn2; rw [if_pos (dP_t.mpr ⟨ws9, by omega, by omega⟩), ← hen]; first | (rw [if_pos (by omega)]; exact hal) | (rw [if_neg (by omega), if_pos (by omega)]; exact hme) | (rw [if_neg (by omega), if_neg (by omega)]; exact hov)), (same_tr (same_w q3_sm (by decide)) hsm (by decide))⟩⟩ dX5_drawn_295
                  ·
                    refine r_iconst S dX5_drawn_101 ?_
                    refine lv_istore (lv' := [(9, .int (iI 0)), (8, .int (iI e_)), (7, .int (iI met)), (6, .int (iI alike)), (0, .ref (ad 0)), (1, .int (iI k)), (2, .int (iI s0)), (3, .int (iI x)), (4, .int (iI n)), (5, .int (iI what))]) S.1 S.2.1 dX5_drawn_102 hl (by decide) rfl (fun ls hl => ?_)
                    refine r_iconst S dX5_drawn_104 ?_
                    refine lv_istore (lv' := [(10, .int (iI 0)), (9, .int (iI 0)), (8, .int (iI e_)), (7, .int (iI met)), (6, .int (iI alike)), (0, .ref (ad 0)), (1, .int (iI k)), (2, .int (iI s0)), (3, .int (iI x)), (4, .int (iI n)), (5, .int (iI what))]) S.1 S.2.1 dX5_drawn_105 hl (by decide) rfl (fun ls hl => ?_)
                    have cut_107 : ∀ (N_107 : Nat) (set i : Int) (σ5 : St) (H : Heap) (locs : List Loc) (ls : Array Slot), (0 ≤ i ∧ i ≤ (rowG (wAt (σ 0) k) (gAt (σ 0) s0)).length) → (same [16, 17, 19, 20, 21, 22, 23, 24, 33, 34] σ3 σ5) → (σ5 33 0 = wxI (xsI x (rowG (wAt (σ 0) k) (gAt (σ 0) s0)).length e_) i) → (set = wsI (xsI x (rowG (wAt (σ 0) k) (gAt (σ 0) s0)).length e_) i) → (∀ a mv : Int, 0 ≤ a → a ≤ 1 → 0 ≤ mv → mv ≤ 4 → σ5 34 (5 * a + mv) = ofI (wAt (σ 0) k) (rowG (wAt (σ 0) k) (gAt (σ 0) s0)) x a mv e_) → (((rowG (wAt (σ 0) k) (gAt (σ 0) s0)).length - i).toNat) < N_107 → WD G shM ad (aM ad) s s.heap σ5 H locs → lv_has ls 12 [(10, .int (iI i)), (9, .int (iI set)), (8, .int (iI e_)), (7, .int (iI met)), (6, .int (iI alike)), (0, .ref (ad 0)), (1, .int (iI k)), (2, .int (iI s0)), (3, .int (iI x)), (4, .int (iI n)), (5, .int (iI what))] → W p l e (⟨7, 0, 0, 157⟩ : Room) s m ([.ref (ad 0), .int (iI k), .int (iI s0), .int (iI x), .int (iI n), .int (iI what)] : List Value).toArray below meth c H locs 0 0 (MQ below (qS G shM ad (aM ad) (rI (fun r σ' => (r = sDrawn (σ 0) k s0 x n what) ∧ (same [10, 11, 12, 13, 14, 15, 16, 17, 18, 19, 20, 21, 22, 23, 24, 33, 34] σ σ')))) ([.ref (ad 0), .int (iI k), .int (iI s0), .int (iI x), .int (iI n), .int (iI what)] : List Value).toArray s 0 0 (aM ad)) (F0 m 107 ls []) := by
                      intro N_107
                      induction N_107 with
                      | zero =>
                        intro set i σ5 H locs ls hi hsm3 hx5 hse hof5 hμ_107 hW hl
                        exact absurd hμ_107 (by omega)
                      | succ N_107 ih_107 =>
                        intro set i σ5 H locs ls hi hsm3 hx5 hse hof5 hμ_107 hW hl
                        have y0 : σ5 0 = σ 0 := (hsm3 0 (by decide)).trans e0
                        have y10 : σ5 10 = σ3 10 := hsm3 10 (by decide)
                        have y10b : σ5 10 0 = σ3 10 0 := by rw [y10]
                        have wq1 : wr σ5 = wAt (σ 0) k := by rw [← wq]; funext j; simp only [wr, y0, y10, e0]
                        have y18 : σ5 18 0 = (rowG (wAt (σ 0) k) (gAt (σ 0) s0)).length := by rw [hsm3 18 (by decide)]; exact n18
                        refine lv_iload S.1 S.2.1 dX5_drawn_107 (lv_at hl 0 rfl) ?_
                        refine lv_aload_n S.1 S.2.1 dX5_drawn_109 rfl (lv_at hl 5 rfl) ?_
                        refine w_geti S hW in_X5 0 rfl rfl 18 (by decide) q1669 rfl rfl dX5_drawn_110 ?_
                        refine r_icmp_ge S (tgt := 144) dX5_drawn_113 rfl (by omega) (fun c_113 => ?_) (fun c_113 => ?_)
                        ·
                          have hset : set = (wnd x (rowG (wAt (σ 0) k) (gAt (σ 0) s0)).length e_) := by rw [hse]; unfold wnd; rw [show i = (rowG (wAt (σ 0) k) (gAt (σ 0) s0)).length by omega]
                          refine lv_aload_n S.1 S.2.1 dX5_drawn_144 rfl (lv_at hl 5 rfl) ?_
                          refine lv_iload S.1 S.2.1 dX5_drawn_145 (lv_at hl 1 rfl) ?_
                          refine c_VSv S hW (tX5_plays l G ad σ5 set (rowG (wAt (σ 0) k) (gAt (σ 0) s0)) (by omega) (by rw [wq1]; exact hWf) (y18) (l24) (fil_eq pl.2.1.1 (hsm3 14 (by decide))) (hLr)) (cw_X5_252 S.2.2.2.2 ⟨Nat.le_of_ble_eq_true rfl, Nat.le_of_ble_eq_true rfl⟩) eBlind_T (fun _ _ _ => trivial) (w_recv hW (q0 := 0) rfl rfl) rfl hl.1 (rest := []) rfl (Nat.le_of_ble_eq_true rfl) dX5_drawn_147 ⟨Nat.le_of_ble_eq_true rfl, Nat.le_of_ble_eq_true rfl⟩ (fun σ147 H locs q147 hW => ?_)
                          obtain ⟨q147_snd, q147_sm⟩ := q147
                          rw [wq1] at q147_snd
                          have hs147 : same [16, 17, 19, 20, 21, 22, 23, 24, 33, 34] σ3 σ147 := same_tr hsm3 q147_sm (by decide)
                          have y0 : σ147 0 = σ 0 := (hs147 0 (by decide)).trans e0
                          have y10 : σ147 10 = σ3 10 := hs147 10 (by decide)
                          have y10b : σ147 10 0 = σ3 10 0 := by rw [y10]
                          have wq1 : wr σ147 = wAt (σ 0) k := by rw [← wq]; funext j; simp only [wr, y0, y10, e0]
                          have y18 : σ147 18 0 = (rowG (wAt (σ 0) k) (gAt (σ 0) s0)).length := by rw [hs147 18 (by decide)]; exact n18
                          refine lv_iload S.1 S.2.1 dX5_drawn_150 (lv_at hl 3 rfl) ?_
                          refine lv_aload_n S.1 S.2.1 dX5_drawn_152 rfl (lv_at hl 5 rfl) ?_
                          refine c_VSi S hW (tX5_meeting l G ad σ147 (rowG (wAt (σ 0) k) (gAt (σ 0) s0)) set (by omega) (by rw [wq1]; exact hWf) (y18) (l24) (hLr) (by rw [wq1]; exact q147_snd.1)) (cw_X5_291 S.2.2.2.2 ⟨Nat.le_of_ble_eq_true rfl, Nat.le_of_ble_eq_true rfl⟩) eBlind_T (fun _ _ _ => trivial) (w_recv hW (q0 := 0) rfl rfl) rfl hl.1 (rest := [.int (iI met)]) rfl (Nat.le_of_ble_eq_true rfl) dX5_drawn_153 ⟨Nat.le_of_ble_eq_true rfl, Nat.le_of_ble_eq_true rfl⟩ (fun r153 σ153 H locs q153 hW => ?_)
                          obtain ⟨rfl, q153_m0, q153_m1, q153_sm⟩ := q153
                          rw [wq1] at q153_m0 q153_m1
                          have hs153 : same [16, 17, 19, 20, 21, 22, 23, 24, 33, 34] σ3 σ153 := same_tr hs147 q153_sm (by decide)
                          have wqz := wq1
                          have y0 : σ153 0 = σ 0 := (hs153 0 (by decide)).trans e0
                          have y10 : σ153 10 = σ3 10 := hs153 10 (by decide)
                          have y10b : σ153 10 0 = σ3 10 0 := by rw [y10]
                          have wq1 : wr σ153 = wAt (σ 0) k := by rw [← wq]; funext j; simp only [wr, y0, y10, e0]
                          have y18 : σ153 18 0 = (rowG (wAt (σ 0) k) (gAt (σ 0) s0)).length := by rw [hs153 18 (by decide)]; exact n18
                          have hmr := meet_rng (w := wr σ147) (L := (rowG (wAt (σ 0) k) (gAt (σ 0) s0))) (s := set)
                          have cut_165 : ∀ (H : Heap) (locs : List Loc) (ls : Array Slot), WD G shM ad (aM ad) s s.heap σ153 H locs → lv_has ls 12 [(10, .int (iI i)), (9, .int (iI set)), (8, .int (iI e_)), (7, .int (iI met)), (6, .int (iI alike)), (0, .ref (ad 0)), (1, .int (iI k)), (2, .int (iI s0)), (3, .int (iI x)), (4, .int (iI n)), (5, .int (iI what))] → W p l e (⟨7, 0, 0, 157⟩ : Room) s m ([.ref (ad 0), .int (iI k), .int (iI s0), .int (iI x), .int (iI n), .int (iI what)] : List Value).toArray below meth c H locs 0 0 (MQ below (qS G shM ad (aM ad) (rI (fun r σ' => (r = sDrawn (σ 0) k s0 x n what) ∧ (same [10, 11, 12, 13, 14, 15, 16, 17, 18, 19, 20, 21, 22, 23, 24, 33, 34] σ σ')))) ([.ref (ad 0), .int (iI k), .int (iI s0), .int (iI x), .int (iI n), .int (iI what)] : List Value).toArray s 0 0 (aM ad)) (F0 m 165 ls [.int (iI (b2i (dP (meet (wAt (σ 0) k) (rowG (wAt (σ 0) k) (gAt (σ 0) s0)) set ≠ -1)))), .int (iI met)]) := by
                            intro H locs ls hW hl
                            refine r_iadd S dX5_drawn_165 ?_
                            refine lv_istore (lv' := [(7, .int (iI (met + (b2i (dP (meet (wAt (σ 0) k) (rowG (wAt (σ 0) k) (gAt (σ 0) s0)) set ≠ -1)))))), (10, .int (iI i)), (9, .int (iI set)), (8, .int (iI e_)), (6, .int (iI alike)), (0, .ref (ad 0)), (1, .int (iI k)), (2, .int (iI s0)), (3, .int (iI x)), (4, .int (iI n)), (5, .int (iI what))]) S.1 S.2.1 dX5_drawn_166 hl (by decide) rfl (fun ls hl => ?_)
                            refine lv_iload S.1 S.2.1 dX5_drawn_168 (lv_at hl 4 rfl) ?_
                            refine lv_aload_n S.1 S.2.1 dX5_drawn_170 rfl (lv_at hl 5 rfl) ?_
                            refine c_VP S hW (tX5_madeAlike l G ad σ153 (rowG (wAt (σ 0) k) (gAt (σ 0) s0)) set (by rw [wq1]; exact hWf) (l24) (by rw [wq1]; exact q153_m0) (by rw [wq1]; exact q153_m1)) (cw_X5_365 S.2.2.2.2 ⟨Nat.le_of_ble_eq_true rfl, Nat.le_of_ble_eq_true rfl⟩) eBlind_T (fun _ _ _ => trivial) (w_recv hW (q0 := 0) rfl rfl) rfl hl.1 (rest := [.int (iI alike)]) rfl (Nat.le_of_ble_eq_true rfl) dX5_drawn_171 ⟨Nat.le_of_ble_eq_true rfl, Nat.le_of_ble_eq_true rfl⟩ (fun locs hW => ?_)
                            have cut_182 : ∀ (H : Heap) (locs : List Loc) (ls : Array Slot), WD G shM ad (aM ad) s s.heap σ153 H locs → lv_has ls 12 [(7, .int (iI (met + (b2i (dP (meet (wAt (σ 0) k) (rowG (wAt (σ 0) k) (gAt (σ 0) s0)) set ≠ -1)))))), (10, .int (iI i)), (9, .int (iI set)), (8, .int (iI e_)), (6, .int (iI alike)), (0, .ref (ad 0)), (1, .int (iI k)), (2, .int (iI s0)), (3, .int (iI x)), (4, .int (iI n)), (5, .int (iI what))] → W p l e (⟨7, 0, 0, 157⟩ : Room) s m ([.ref (ad 0), .int (iI k), .int (iI s0), .int (iI x), .int (iI n), .int (iI what)] : List Value).toArray below meth c H locs 0 0 (MQ below (qS G shM ad (aM ad) (rI (fun r σ' => (r = sDrawn (σ 0) k s0 x n what) ∧ (same [10, 11, 12, 13, 14, 15, 16, 17, 18, 19, 20, 21, 22, 23, 24, 33, 34] σ σ')))) ([.ref (ad 0), .int (iI k), .int (iI s0), .int (iI x), .int (iI n), .int (iI what)] : List Value).toArray s 0 0 (aM ad)) (F0 m 182 ls [.int (iI (b2i (dP (alk (wAt (σ 0) k) (rowG (wAt (σ 0) k) (gAt (σ 0) s0)) set)))), .int (iI alike)]) := by
                              intro H locs ls hW hl
                              refine r_iadd S dX5_drawn_182 ?_
                              refine lv_istore (lv' := [(6, .int (iI (alike + (b2i (dP (alk (wAt (σ 0) k) (rowG (wAt (σ 0) k) (gAt (σ 0) s0)) set)))))), (7, .int (iI (met + (b2i (dP (meet (wAt (σ 0) k) (rowG (wAt (σ 0) k) (gAt (σ 0) s0)) set ≠ -1)))))), (10, .int (iI i)), (9, .int (iI set)), (8, .int (iI e_)), (0, .ref (ad 0)), (1, .int (iI k)), (2, .int (iI s0)), (3, .int (iI x)), (4, .int (iI n)), (5, .int (iI what))]) S.1 S.2.1 dX5_drawn_183 hl (by decide) rfl (fun ls hl => ?_)
                              have cut_188 : ∀ (N_188 : Nat) (a : Int) (σ6 : St) (H : Heap) (locs : List Loc) (ls : Array Slot), (0 ≤ a ∧ a ≤ 2) → (same [16, 17, 19, 20, 21, 22, 23, 24, 33, 34] σ3 σ6) → (Mad σ6 (wAt (σ 0) k) (rowG (wAt (σ 0) k) (gAt (σ 0) s0)) (wnd x (rowG (wAt (σ 0) k) (gAt (σ 0) s0)).length e_) 0) → (Mad σ6 (wAt (σ 0) k) (rowG (wAt (σ 0) k) (gAt (σ 0) s0)) (wnd x (rowG (wAt (σ 0) k) (gAt (σ 0) s0)).length e_) 1) → (σ6 33 0 = wxI (xsI x (rowG (wAt (σ 0) k) (gAt (σ 0) s0)).length e_) (rowG (wAt (σ 0) k) (gAt (σ 0) s0)).length) → (∀ b mv : Int, 0 ≤ b → b ≤ 1 → 0 ≤ mv → mv ≤ 4 → σ6 34 (5 * b + mv) = ofI (wAt (σ 0) k) (rowG (wAt (σ 0) k) (gAt (σ 0) s0)) x b mv e_ + (if b < a then cnI (fun j => oMove (wAt (σ 0) k) b (rf (mvs (wAt (σ 0) k) (rowG (wAt (σ 0) k) (gAt (σ 0) s0)) (wnd x (rowG (wAt (σ 0) k) (gAt (σ 0) s0)).length e_) b) j) = mv) (mvs (wAt (σ 0) k) (rowG (wAt (σ 0) k) (gAt (σ 0) s0)) (wnd x (rowG (wAt (σ 0) k) (gAt (σ 0) s0)).length e_) b).length else if b = a then cnI (fun j => oMove (wAt (σ 0) k) b (rf (mvs (wAt (σ 0) k) (rowG (wAt (σ 0) k) (gAt (σ 0) s0)) (wnd x (rowG (wAt (σ 0) k) (gAt (σ 0) s0)).length e_) b) j) = mv) 0 else 0)) → ((2 - a).toNat) < N_188 → WD G shM ad (aM ad) s s.heap σ6 H locs → lv_has ls 12 [(6, .int (iI (alike + (b2i (dP (alk (wAt (σ 0) k) (rowG (wAt (σ 0) k) (gAt (σ 0) s0)) set)))))), (7, .int (iI (met + (b2i (dP (meet (wAt (σ 0) k) (rowG (wAt (σ 0) k) (gAt (σ 0) s0)) set ≠ -1)))))), (10, .int (iI a)), (9, .int (iI set)), (8, .int (iI e_)), (0, .ref (ad 0)), (1, .int (iI k)), (2, .int (iI s0)), (3, .int (iI x)), (4, .int (iI n)), (5, .int (iI what))] → W p l e (⟨7, 0, 0, 157⟩ : Room) s m ([.ref (ad 0), .int (iI k), .int (iI s0), .int (iI x), .int (iI n), .int (iI what)] : List Value).toArray below meth c H locs 0 0 (MQ below (qS G shM ad (aM ad) (rI (fun r σ' => (r = sDrawn (σ 0) k s0 x n what) ∧ (same [10, 11, 12, 13, 14, 15, 16, 17, 18, 19, 20, 21, 22, 23, 24, 33, 34] σ σ')))) ([.ref (ad 0), .int (iI k), .int (iI s0), .int (iI x), .int (iI n), .int (iI what)] : List Value).toArray s 0 0 (aM ad)) (F0 m 188 ls []) := by
                                intro N_188
                                induction N_188 with
                                | zero =>
                                  intro a σ6 H locs ls ha hs6 h60 h61 hx6 hof6 hμ_188 hW hl
                                  exact absurd hμ_188 (by omega)
                                | succ N_188 ih_188 =>
                                  intro a σ6 H locs ls ha hs6 h60 h61 hx6 hof6 hμ_188 hW hl
                                  have y0 : σ6 0 = σ 0 := (hs6 0 (by decide)).trans e0
                                  have y10 : σ6 10 = σ3 10 := hs6 10 (by decide)
                                  have y10b : σ6 10 0 = σ3 10 0 := by rw [y10]
                                  have wq1 : wr σ6 = wAt (σ 0) k := by rw [← wq]; funext j; simp only [wr, y0, y10, e0]
                                  have y18 : σ6 18 0 = (rowG (wAt (σ 0) k) (gAt (σ 0) s0)).length := by rw [hs6 18 (by decide)]; exact n18
                                  refine lv_iload S.1 S.2.1 dX5_drawn_188 (lv_at hl 2 rfl) ?_
                                  refine r_iconst S dX5_drawn_190 ?_
                                  refine r_icmp_ge S (tgt := 248) dX5_drawn_191 rfl (by omega) (fun c_191 => ?_) (fun c_191 => ?_)
                                  ·
                                    refine lv_iinc (v := iI (e_ + 1)) (lv' := [(8, .int (iI (e_ + 1))), (6, .int (iI (alike + (b2i (dP (alk (wAt (σ 0) k) (rowG (wAt (σ 0) k) (gAt (σ 0) s0)) set)))))), (7, .int (iI (met + (b2i (dP (meet (wAt (σ 0) k) (rowG (wAt (σ 0) k) (gAt (σ 0) s0)) set ≠ -1)))))), (10, .int (iI a)), (9, .int (iI set)), (0, .ref (ad 0)), (1, .int (iI k)), (2, .int (iI s0)), (3, .int (iI x)), (4, .int (iI n)), (5, .int (iI what))]) S.1 S.2.1 dX5_drawn_248 hl (k := 4) rfl (iI_add _ _) (by decide) rfl (fun ls hl => ?_)
                                    refine lv_goto (tgt := 94) S.1 S.2.1 dX5_drawn_251 rfl ?_
                                    exact ih_94 (alike + (b2i (dP (alk (wAt (σ 0) k) (rowG (wAt (σ 0) k) (gAt (σ 0) s0)) set)))) (met + (b2i (dP (meet (wAt (σ 0) k) (rowG (wAt (σ 0) k) (gAt (σ 0) s0)) set ≠ -1)))) (e_ + 1) σ6 H _ _ (by omega) (hs6) (by rw [xsI_s he.1, ← hx6]) (by rw [cnI_s _ he.1, ← hal, ← hset]) (by rw [cnI_s _ he.1, ← hme, ← hset]) (fun a mv a1 a2 m1 m2 => by rw [hof6 a mv a1 a2 m1 m2, ofI_s he.1, if_pos (by omega)]) (by omega) hW (lv_sub hl [0, 2, 1, 5, 6, 7, 8, 9, 10] rfl)
                                  ·
                                    have hAa := hWf.2.2.2.2 a (by omega) (by omega)
                                    have hMl := mvs_len (s := (wnd x (rowG (wAt (σ 0) k) (gAt (σ 0) s0)).length e_)) hAa l24
                                    have hMa : Mad σ6 (wAt (σ 0) k) (rowG (wAt (σ 0) k) (gAt (σ 0) s0)) (wnd x (rowG (wAt (σ 0) k) (gAt (σ 0) s0)).length e_) a := (show a = 0 ∨ a = 1 by omega).elim (fun z => by rw [z]; exact h60) (fun z => by rw [z]; exact h61)
                                    refine r_iconst S dX5_drawn_194 ?_
                                    refine lv_istore (lv' := [(11, .int (iI 0)), (6, .int (iI (alike + (b2i (dP (alk (wAt (σ 0) k) (rowG (wAt (σ 0) k) (gAt (σ 0) s0)) set)))))), (7, .int (iI (met + (b2i (dP (meet (wAt (σ 0) k) (rowG (wAt (σ 0) k) (gAt (σ 0) s0)) set ≠ -1)))))), (10, .int (iI a)), (9, .int (iI set)), (8, .int (iI e_)), (0, .ref (ad 0)), (1, .int (iI k)), (2, .int (iI s0)), (3, .int (iI x)), (4, .int (iI n)), (5, .int (iI what))]) S.1 S.2.1 dX5_drawn_195 hl (by decide) rfl (fun ls hl => ?_)
                                    have cut_197 : ∀ (N_197 : Nat) (j : Int) (σ7 : St) (H : Heap) (locs : List Loc) (ls : Array Slot), (0 ≤ j ∧ j ≤ (mvs (wAt (σ 0) k) (rowG (wAt (σ 0) k) (gAt (σ 0) s0)) (wnd x (rowG (wAt (σ 0) k) (gAt (σ 0) s0)).length e_) a).length) → (same [16, 17, 19, 20, 21, 22, 23, 24, 33, 34] σ3 σ7) → (Mad σ7 (wAt (σ 0) k) (rowG (wAt (σ 0) k) (gAt (σ 0) s0)) (wnd x (rowG (wAt (σ 0) k) (gAt (σ 0) s0)).length e_) 0) → (Mad σ7 (wAt (σ 0) k) (rowG (wAt (σ 0) k) (gAt (σ 0) s0)) (wnd x (rowG (wAt (σ 0) k) (gAt (σ 0) s0)).length e_) 1) → (Mad σ7 (wAt (σ 0) k) (rowG (wAt (σ 0) k) (gAt (σ 0) s0)) (wnd x (rowG (wAt (σ 0) k) (gAt (σ 0) s0)).length e_) a) → (σ7 33 0 = wxI (xsI x (rowG (wAt (σ 0) k) (gAt (σ 0) s0)).length e_) (rowG (wAt (σ 0) k) (gAt (σ 0) s0)).length) → (∀ b mv : Int, 0 ≤ b → b ≤ 1 → 0 ≤ mv → mv ≤ 4 → σ7 34 (5 * b + mv) = ofI (wAt (σ 0) k) (rowG (wAt (σ 0) k) (gAt (σ 0) s0)) x b mv e_ + (if b < a then cnI (fun j => oMove (wAt (σ 0) k) b (rf (mvs (wAt (σ 0) k) (rowG (wAt (σ 0) k) (gAt (σ 0) s0)) (wnd x (rowG (wAt (σ 0) k) (gAt (σ 0) s0)).length e_) b) j) = mv) (mvs (wAt (σ 0) k) (rowG (wAt (σ 0) k) (gAt (σ 0) s0)) (wnd x (rowG (wAt (σ 0) k) (gAt (σ 0) s0)).length e_) b).length else if b = a then cnI (fun j => oMove (wAt (σ 0) k) b (rf (mvs (wAt (σ 0) k) (rowG (wAt (σ 0) k) (gAt (σ 0) s0)) (wnd x (rowG (wAt (σ 0) k) (gAt (σ 0) s0)).length e_) b) j) = mv) j else 0)) → (((mvs (wAt (σ 0) k) (rowG (wAt (σ 0) k) (gAt (σ 0) s0)) (wnd x (rowG (wAt (σ 0) k) (gAt (σ 0) s0)).length e_) a).length - j).toNat) < N_197 → WD G shM ad (aM ad) s s.heap σ7 H locs → lv_has ls 12 [(11, .int (iI j)), (6, .int (iI (alike + (b2i (dP (alk (wAt (σ 0) k) (rowG (wAt (σ 0) k) (gAt (σ 0) s0)) set)))))), (7, .int (iI (met + (b2i (dP (meet (wAt (σ 0) k) (rowG (wAt (σ 0) k) (gAt (σ 0) s0)) set ≠ -1)))))), (10, .int (iI a)), (9, .int (iI set)), (8, .int (iI e_)), (0, .ref (ad 0)), (1, .int (iI k)), (2, .int (iI s0)), (3, .int (iI x)), (4, .int (iI n)), (5, .int (iI what))] → W p l e (⟨7, 0, 0, 157⟩ : Room) s m ([.ref (ad 0), .int (iI k), .int (iI s0), .int (iI x), .int (iI n), .int (iI what)] : List Value).toArray below meth c H locs 0 0 (MQ below (qS G shM ad (aM ad) (rI (fun r σ' => (r = sDrawn (σ 0) k s0 x n what) ∧ (same [10, 11, 12, 13, 14, 15, 16, 17, 18, 19, 20, 21, 22, 23, 24, 33, 34] σ σ')))) ([.ref (ad 0), .int (iI k), .int (iI s0), .int (iI x), .int (iI n), .int (iI what)] : List Value).toArray s 0 0 (aM ad)) (F0 m 197 ls []) := by
                                      intro N_197
                                      induction N_197 with
                                      | zero =>
                                        intro j σ7 H locs ls hj hs7 h70 h71 hMa hx7 hof7 hμ_197 hW hl
                                        exact absurd hμ_197 (by omega)
                                      | succ N_197 ih_197 =>
                                        intro j σ7 H locs ls hj hs7 h70 h71 hMa hx7 hof7 hμ_197 hW hl
                                        have y0 : σ7 0 = σ 0 := (hs7 0 (by decide)).trans e0
                                        have y10 : σ7 10 = σ3 10 := hs7 10 (by decide)
                                        have y10b : σ7 10 0 = σ3 10 0 := by rw [y10]
                                        have wq1 : wr σ7 = wAt (σ 0) k := by rw [← wq]; funext j; simp only [wr, y0, y10, e0]
                                        have y18 : σ7 18 0 = (rowG (wAt (σ 0) k) (gAt (σ 0) s0)).length := by rw [hs7 18 (by decide)]; exact n18
                                        have md := hMa.1
                                        refine lv_iload S.1 S.2.1 dX5_drawn_197 (lv_at hl 0 rfl) ?_
                                        refine lv_aload_n S.1 S.2.1 dX5_drawn_199 rfl (lv_at hl 6 rfl) ?_
                                        refine w_getr S hW in_X5 0 rfl rfl 22 (by decide) q1673 rfl rfl dX5_drawn_200 ?_
                                        refine lv_iload S.1 S.2.1 dX5_drawn_203 (lv_at hl 3 rfl) ?_
                                        refine w_ald S hW 13 0 rfl rfl (by omega) dX5_drawn_205 ?_
                                        refine r_icmp_ge S (tgt := 242) dX5_drawn_206 rfl (by omega) (fun c_206 => ?_) (fun c_206 => ?_)
                                        ·
                                          refine lv_iinc (v := iI (a + 1)) (lv' := [(10, .int (iI (a + 1))), (11, .int (iI j)), (6, .int (iI (alike + (b2i (dP (alk (wAt (σ 0) k) (rowG (wAt (σ 0) k) (gAt (σ 0) s0)) set)))))), (7, .int (iI (met + (b2i (dP (meet (wAt (σ 0) k) (rowG (wAt (σ 0) k) (gAt (σ 0) s0)) set ≠ -1)))))), (9, .int (iI set)), (8, .int (iI e_)), (0, .ref (ad 0)), (1, .int (iI k)), (2, .int (iI s0)), (3, .int (iI x)), (4, .int (iI n)), (5, .int (iI what))]) S.1 S.2.1 dX5_drawn_242 hl (k := 3) rfl (iI_add _ _) (by decide) rfl (fun ls hl => ?_)
                                          refine lv_goto (tgt := 188) S.1 S.2.1 dX5_drawn_245 rfl ?_
                                          exact ih_188 (a + 1) σ7 H _ _ (by omega) (hs7) (h70) (h71) (hx7) (fun b mv b1 b2 m1 m2 => by rw [hof7 b mv b1 b2 m1 m2]; rcases (show b < a ∨ b = a ∨ a < b by omega) with z | z | z; (rw [if_pos z, if_pos (by omega)]); (rw [if_neg (by omega), if_pos z, if_pos (by omega), z, show j = (mvs (wAt (σ 0) k) (rowG (wAt (σ 0) k) (gAt (σ 0) s0)) (wnd x (rowG (wAt (σ 0) k) (gAt (σ 0) s0)).length e_) a).length by omega]); (rw [if_neg (by omega), if_neg (by omega), if_neg (by omega)]; split <;> simp [cnI_0])) (by omega) hW (lv_sub hl [2, 3, 0, 4, 5, 6, 7, 8, 9, 10, 11] rfl)
                                        ·
                                          have hE := (hMa.2.2 j (by omega) (by omega)).1
                                          have hB := mvs_at (s := (wnd x (rowG (wAt (σ 0) k) (gAt (σ 0) s0)).length e_)) (L := (rowG (wAt (σ 0) k) (gAt (σ 0) s0))) hAa (j := j) (by omega)
                                          have hO := (hAa.2.2.2.2.2 _ hB.1 hB.2.1).1
                                          rw [← hE] at hO
                                          have hov := hof7 a (σ7 19 (24 * a + j)) (by omega) (by omega) hO.1 hO.2
                                          rw [if_neg (by omega), if_pos rfl] at hov
                                          have o1 := ofI_rng (x := x) (mv := σ7 19 (24 * a + j)) (n := e_) hAa l24 (by omega)
                                          have hnew : ∀ b mv : Int, 0 ≤ b → b ≤ 1 → 0 ≤ mv → mv ≤ 4 → up σ7 34 (5 * a + σ7 19 (24 * a + j)) (σ7 34 (5 * a + σ7 19 (24 * a + j)) + 1) 34 (5 * b + mv) = ofI (wAt (σ 0) k) (rowG (wAt (σ 0) k) (gAt (σ 0) s0)) x b mv e_ + (if b < a then cnI (fun j => oMove (wAt (σ 0) k) b (rf (mvs (wAt (σ 0) k) (rowG (wAt (σ 0) k) (gAt (σ 0) s0)) (wnd x (rowG (wAt (σ 0) k) (gAt (σ 0) s0)).length e_) b) j) = mv) (mvs (wAt (σ 0) k) (rowG (wAt (σ 0) k) (gAt (σ 0) s0)) (wnd x (rowG (wAt (σ 0) k) (gAt (σ 0) s0)).length e_) b).length else if b = a then cnI (fun j => oMove (wAt (σ 0) k) b (rf (mvs (wAt (σ 0) k) (rowG (wAt (σ 0) k) (gAt (σ 0) s0)) (wnd x (rowG (wAt (σ 0) k) (gAt (σ 0) s0)).length e_) b) j) = mv) (j + 1) else 0) := by
                                            intro b mv b1 b2 m1 m2
                                            have hb9 := hof7 b mv b1 b2 m1 m2
                                            by_cases hba : b = a
                                            · subst hba
                                              rw [if_neg (by omega), if_pos rfl] at hb9 ⊢
                                              by_cases hmv : mv = σ7 19 (24 * b + j)
                                              · rw [← hmv, up_self, hb9, cnI_yes _ (by omega) (by rw [← hE]; exact hmv.symm)]; omega
                                              · rw [up_nei (by omega), hb9, cnI_no _ (by omega) (fun z => hmv (by rw [hE]; exact z.symm))]
                                            · rw [up_nei (by omega), hb9, if_neg hba, if_neg hba]
                                          have o2 := cnI_rng (fun i => oMove (wAt (σ 0) k) a (rf (mvs (wAt (σ 0) k) (rowG (wAt (σ 0) k) (gAt (σ 0) s0)) (wnd x (rowG (wAt (σ 0) k) (gAt (σ 0) s0)).length e_) a) i) = σ7 19 (24 * a + j)) (n := j) (by omega)
                                          refine lv_aload_n S.1 S.2.1 dX5_drawn_209 rfl (lv_at hl 6 rfl) ?_
                                          refine w_getr S hW in_X5 0 rfl rfl 34 (by decide) q1685 rfl rfl dX5_drawn_210 ?_
                                          refine r_iconst S dX5_drawn_213 ?_
                                          refine lv_iload S.1 S.2.1 dX5_drawn_214 (lv_at hl 3 rfl) ?_
                                          refine r_imul S dX5_drawn_216 ?_
                                          refine lv_aload_n S.1 S.2.1 dX5_drawn_217 rfl (lv_at hl 6 rfl) ?_
                                          refine w_getr S hW in_X5 0 rfl rfl 19 (by decide) q1670 rfl rfl dX5_drawn_218 ?_
                                          refine r_bipush S dX5_drawn_221 (by decide) ?_
                                          refine lv_iload S.1 S.2.1 dX5_drawn_223 (lv_at hl 3 rfl) ?_
                                          refine r_imul S dX5_drawn_225 ?_
                                          refine lv_iload S.1 S.2.1 dX5_drawn_226 (lv_at hl 0 rfl) ?_
                                          refine r_iadd S dX5_drawn_228 ?_
                                          refine w_ald S hW 10 0 rfl rfl (by omega) dX5_drawn_229 ?_
                                          refine r_iadd S dX5_drawn_230 ?_
                                          refine lv_dup2_11 S.1 S.2.1 dX5_drawn_231 rfl rfl ?_
                                          refine w_ald S hW 22 0 rfl rfl (by omega) dX5_drawn_232 ?_
                                          refine r_iconst S dX5_drawn_233 ?_
                                          refine r_iadd S dX5_drawn_234 ?_
                                          refine w_ast S hW 22 0 rfl rfl rfl (z := ((σ7 34 ((5 * a) + (σ7 19 ((24 * a) + j)))) + 1)) (by omega) dX5_drawn_235 (fun H locs hW => ?_)
                                          refine lv_iinc (v := iI (j + 1)) (lv' := [(11, .int (iI (j + 1))), (6, .int (iI (alike + (b2i (dP (alk (wAt (σ 0) k) (rowG (wAt (σ 0) k) (gAt (σ 0) s0)) set)))))), (7, .int (iI (met + (b2i (dP (meet (wAt (σ 0) k) (rowG (wAt (σ 0) k) (gAt (σ 0) s0)) set ≠ -1)))))), (10, .int (iI a)), (9, .int (iI set)), (8, .int (iI e_)), (0, .ref (ad 0)), (1, .int (iI k)), (2, .int (iI s0)), (3, .int (iI x)), (4, .int (iI n)), (5, .int (iI what))]) S.1 S.2.1 dX5_drawn_236 hl (k := 0) rfl (iI_add _ _) (by decide) rfl (fun ls hl => ?_)
                                          refine lv_goto (tgt := 197) S.1 S.2.1 dX5_drawn_239 rfl ?_
                                          exact ih_197 (j + 1) (up σ7 34 ((5 * a) + (σ7 19 ((24 * a) + j))) ((σ7 34 ((5 * a) + (σ7 19 ((24 * a) + j)))) + 1)) H _ _ (by omega) (same_up hs7 (by decide)) (Mad_eq h70 rfl rfl rfl rfl rfl) (Mad_eq h71 rfl rfl rfl rfl rfl) (Mad_eq hMa rfl rfl rfl rfl rfl) (by rw [up_ne (by decide)]; exact hx7) (fun b mv b1 b2 m1 m2 => hnew b mv b1 b2 m1 m2) (by omega) hW (lv_sub hl [0, 1, 2, 3, 4, 5, 6, 7, 8, 9, 10, 11] rfl)
                                    exact cut_197 _ 0 σ6 H _ _ (by omega) (hs6) (h60) (h61) (hMa) (hx6) (hof6) (Nat.lt_succ_self _) hW (lv_sub hl [0, 1, 2, 3, 4, 5, 6, 7, 8, 9, 10, 11] rfl)
                              refine r_iconst S dX5_drawn_185 ?_
                              refine lv_istore (lv' := [(10, .int (iI 0)), (6, .int (iI (alike + (b2i (dP (alk (wAt (σ 0) k) (rowG (wAt (σ 0) k) (gAt (σ 0) s0)) set)))))), (7, .int (iI (met + (b2i (dP (meet (wAt (σ 0) k) (rowG (wAt (σ 0) k) (gAt (σ 0) s0)) set ≠ -1)))))), (9, .int (iI set)), (8, .int (iI e_)), (0, .ref (ad 0)), (1, .int (iI k)), (2, .int (iI s0)), (3, .int (iI x)), (4, .int (iI n)), (5, .int (iI what))]) S.1 S.2.1 dX5_drawn_186 hl (by decide) rfl (fun ls hl => ?_)
                              exact cut_188 _ 0 σ153 H _ _ (by omega) (hs153) (by rw [← hset]; exact q153_m0) (by rw [← hset]; exact q153_m1) (by rw [q153_sm 33 (by decide), q147_sm 33 (by decide), hx5, show i = (rowG (wAt (σ 0) k) (gAt (σ 0) s0)).length by omega]) (fun a mv a1 a2 m1 m2 => by rw [q153_sm 34 (by decide), q147_sm 34 (by decide), hof5 a mv a1 a2 m1 m2, if_neg (by omega)]; split <;> simp [cnI_0]) (Nat.lt_succ_self _) hW (lv_sub hl [1, 2, 0, 3, 4, 5, 6, 7, 8, 9, 10] rfl)
                            refine r_ifeq_p S (tgt := 181) dX5_drawn_174 rfl (fun c_174 => ?_) (fun c_174 => ?_)
                            ·
                              rw [wq1] at c_174
                              refine r_iconst S dX5_drawn_181 ?_
                              refine r_as (b2i (dP (alk (wAt (σ 0) k) (rowG (wAt (σ 0) k) (gAt (σ 0) s0)) set))) (by first | exact dP_1 c_174 | exact dP_0 c_174) ?_
                              exact cut_182 H _ _ hW (lv_sub hl [0, 1, 2, 3, 4, 5, 6, 7, 8, 9, 10] rfl)
                            ·
                              rw [wq1] at c_174
                              refine r_iconst S dX5_drawn_177 ?_
                              refine lv_goto (tgt := 182) S.1 S.2.1 dX5_drawn_178 rfl ?_
                              refine r_as (b2i (dP (alk (wAt (σ 0) k) (rowG (wAt (σ 0) k) (gAt (σ 0) s0)) set))) (by first | exact dP_1 c_174 | exact dP_0 c_174) ?_
                              exact cut_182 H _ _ hW (lv_sub hl [0, 1, 2, 3, 4, 5, 6, 7, 8, 9, 10] rfl)
                          refine r_iconst S dX5_drawn_156 ?_
                          refine r_icmp_ne S (tgt := 164) dX5_drawn_157 rfl (by omega) (fun c_157 => ?_) (fun c_157 => ?_)
                          ·
                            rw [wqz] at c_157
                            refine r_iconst S dX5_drawn_164 ?_
                            refine r_as (b2i (dP (meet (wAt (σ 0) k) (rowG (wAt (σ 0) k) (gAt (σ 0) s0)) set ≠ -1))) (by first | exact dP_1 c_157 | exact dP_0 (fun z => z c_157)) ?_
                            exact cut_165 H _ _ hW (lv_sub hl [0, 1, 2, 3, 4, 5, 6, 7, 8, 9, 10] rfl)
                          ·
                            rw [wqz] at c_157
                            refine r_iconst S dX5_drawn_160 ?_
                            refine lv_goto (tgt := 165) S.1 S.2.1 dX5_drawn_161 rfl ?_
                            refine r_as (b2i (dP (meet (wAt (σ 0) k) (rowG (wAt (σ 0) k) (gAt (σ 0) s0)) set ≠ -1))) (by first | exact dP_1 c_157 | exact dP_0 (fun z => z c_157)) ?_
                            exact cut_165 H _ _ hW (lv_sub hl [0, 1, 2, 3, 4, 5, 6, 7, 8, 9, 10] rfl)
                        ·
                          refine lv_iload S.1 S.2.1 dX5_drawn_116 (lv_at hl 1 rfl) ?_
                          refine lv_aload_n S.1 S.2.1 dX5_drawn_118 rfl (lv_at hl 5 rfl) ?_
                          refine r_bipush S dX5_drawn_119 (by decide) ?_
                          refine c_VSi S hW (tX5_below l G ad σ5 8 (by omega)) (cw_X5_362 S.2.2.2.2 ⟨Nat.le_of_ble_eq_true rfl, Nat.le_of_ble_eq_true rfl⟩) eBlind_T (fun _ _ _ => trivial) (w_recv hW (q0 := 0) rfl rfl) rfl hl.1 (rest := [.int (iI set)]) rfl (Nat.le_of_ble_eq_true rfl) dX5_drawn_121 ⟨Nat.le_of_ble_eq_true rfl, Nat.le_of_ble_eq_true rfl⟩ (fun r121 σ121 H locs q121 hW => ?_)
                          obtain ⟨rfl, q121_x, q121_sm⟩ := q121
                          refine r_if_ne S (tgt := 134) dX5_drawn_124 rfl (by omega) (fun c_124 => ?_) (fun c_124 => ?_)
                          ·
                            refine r_iconst S dX5_drawn_134 ?_
                            refine r_ior S dX5_drawn_135 ?_
                            refine lv_istore (lv' := [(9, .int (iI (orI set 0))), (10, .int (iI i)), (8, .int (iI e_)), (7, .int (iI met)), (6, .int (iI alike)), (0, .ref (ad 0)), (1, .int (iI k)), (2, .int (iI s0)), (3, .int (iI x)), (4, .int (iI n)), (5, .int (iI what))]) S.1 S.2.1 dX5_drawn_136 hl (by decide) rfl (fun ls hl => ?_)
                            refine lv_iinc (v := iI (i + 1)) (lv' := [(10, .int (iI (i + 1))), (9, .int (iI (orI set 0))), (8, .int (iI e_)), (7, .int (iI met)), (6, .int (iI alike)), (0, .ref (ad 0)), (1, .int (iI k)), (2, .int (iI s0)), (3, .int (iI x)), (4, .int (iI n)), (5, .int (iI what))]) S.1 S.2.1 dX5_drawn_138 hl (k := 1) rfl (iI_add _ _) (by decide) rfl (fun ls hl => ?_)
                            refine lv_goto (tgt := 107) S.1 S.2.1 dX5_drawn_141 rfl ?_
                            exact ih_107 (orI set 0) (i + 1) σ121 H _ _ (by omega) (same_tr hsm3 q121_sm (by decide)) (by rw [wxI_s hi.1, ← hx5]; exact q121_x) (by rw [wsI_s hi.1, ← hse, ← hx5]; first | rw [if_pos c_124] | rw [if_neg c_124]) (fun a mv a1 a2 m1 m2 => by rw [q121_sm 34 (by decide)]; exact hof5 a mv a1 a2 m1 m2) (by omega) hW (lv_sub hl [0, 1, 2, 3, 4, 5, 6, 7, 8, 9, 10] rfl)
                          ·
                            refine r_iconst S dX5_drawn_127 ?_
                            refine lv_iload S.1 S.2.1 dX5_drawn_128 (lv_at hl 0 rfl) ?_
                            refine r_ishl S dX5_drawn_130 ?_
                            refine lv_goto (tgt := 135) S.1 S.2.1 dX5_drawn_131 rfl ?_
                            refine r_ior S dX5_drawn_135 ?_
                            refine lv_istore (lv' := [(9, .int (iI (orI set (shlI 1 i)))), (10, .int (iI i)), (8, .int (iI e_)), (7, .int (iI met)), (6, .int (iI alike)), (0, .ref (ad 0)), (1, .int (iI k)), (2, .int (iI s0)), (3, .int (iI x)), (4, .int (iI n)), (5, .int (iI what))]) S.1 S.2.1 dX5_drawn_136 hl (by decide) rfl (fun ls hl => ?_)
                            refine lv_iinc (v := iI (i + 1)) (lv' := [(10, .int (iI (i + 1))), (9, .int (iI (orI set (shlI 1 i)))), (8, .int (iI e_)), (7, .int (iI met)), (6, .int (iI alike)), (0, .ref (ad 0)), (1, .int (iI k)), (2, .int (iI s0)), (3, .int (iI x)), (4, .int (iI n)), (5, .int (iI what))]) S.1 S.2.1 dX5_drawn_138 hl (k := 1) rfl (iI_add _ _) (by decide) rfl (fun ls hl => ?_)
                            refine lv_goto (tgt := 107) S.1 S.2.1 dX5_drawn_141 rfl ?_
                            exact ih_107 (orI set (shlI 1 i)) (i + 1) σ121 H _ _ (by omega) (same_tr hsm3 q121_sm (by decide)) (by rw [wxI_s hi.1, ← hx5]; exact q121_x) (by rw [wsI_s hi.1, ← hse, ← hx5]; first | rw [if_pos c_124] | rw [if_neg c_124]) (fun a mv a1 a2 m1 m2 => by rw [q121_sm 34 (by decide)]; exact hof5 a mv a1 a2 m1 m2) (by omega) hW (lv_sub hl [0, 1, 2, 3, 4, 5, 6, 7, 8, 9, 10] rfl)
                    exact cut_107 _ 0 0 σ1 H _ _ (by omega) (hsm) (hx1) (rfl) (hof) (Nat.lt_succ_self _) hW (lv_sub hl [0, 1, 2, 3, 4, 5, 6, 7, 8, 9, 10] rfl)
              exact cut_94 _ 0 0 0 σ4 H _ _ (by omega) (hs4) (hx4) (rfl) (rfl) (fun a mv a1 a2 m1 m2 => by rw [hz _ (by omega) (by omega)]; rfl) (Nat.lt_succ_self _) hW (lv_sub hl [0, 1, 2, 3, 4, 5, 6, 7, 8] rfl)
            ·
              refine lv_aload_n S.1 S.2.1 dX5_drawn_77 rfl (lv_at hl 3 rfl) ?_
              refine w_getr S hW in_X5 0 rfl rfl 34 (by decide) q1685 rfl rfl dX5_drawn_78 ?_
              refine lv_iload S.1 S.2.1 dX5_drawn_81 (lv_at hl 0 rfl) ?_
              refine r_iconst S dX5_drawn_83 ?_
              refine w_ast S hW 22 0 rfl rfl rfl (z := 0) (by omega) dX5_drawn_84 (fun H locs hW => ?_)
              refine lv_iinc (v := iI (i + 1)) (lv' := [(8, .int (iI (i + 1))), (7, .int (iI 0)), (6, .int (iI 0)), (0, .ref (ad 0)), (1, .int (iI k)), (2, .int (iI s0)), (3, .int (iI x)), (4, .int (iI n)), (5, .int (iI what))]) S.1 S.2.1 dX5_drawn_85 hl (k := 0) rfl (iI_add _ _) (by decide) rfl (fun ls hl => ?_)
              refine lv_goto (tgt := 70) S.1 S.2.1 dX5_drawn_88 rfl ?_
              exact ih_70 (i + 1) (up σ4 34 i 0) H _ _ (by omega) (same_up hs4 (by decide)) (by rw [up_ne (by decide)]; exact hx4) (fil_up hz rfl) (by omega) hW (lv_sub hl [0, 1, 2, 3, 4, 5, 6, 7, 8] rfl)
        exact cut_70 _ 0 (up σ3 33 0 x) H _ _ (by omega) (same_up same_rf (by decide)) (up_self) (fil_0) (Nat.lt_succ_self _) hW (lv_sub hl [0, 1, 2, 3, 4, 5, 6, 7, 8] rfl)
      refine lv_iload S.1 S.2.1 dX5_drawn_20 (lv_at hl 5 rfl) ?_
      refine r_iconst S dX5_drawn_22 ?_
      refine r_iconst S dX5_drawn_23 ?_
      refine c_SPw S hW (tX5_isIn l what 0 1 (by omega)) (cw_X5_145 S.2.2.2.2 ⟨Nat.le_of_ble_eq_true rfl, Nat.le_of_ble_eq_true rfl⟩) rfl hl.1 (rest := []) rfl (Nat.le_of_ble_eq_true rfl) dX5_drawn_24 ⟨Nat.le_of_ble_eq_true rfl, Nat.le_of_ble_eq_true rfl⟩ (fun locs hW => ?_)
      refine r_ifne_p S (tgt := 56) dX5_drawn_27 rfl (fun c_27 => ?_) (fun c_27 => ?_)
      ·
        exact cut_56 H _ _ (by omega) hW (lv_sub hl [0, 1, 2, 3, 4, 5] rfl)
      ·
        refine lv_iload S.1 S.2.1 dX5_drawn_30 (lv_at hl 5 rfl) ?_
        refine r_bipush S dX5_drawn_32 (by decide) ?_
        refine r_bipush S dX5_drawn_34 (by decide) ?_
        refine c_SPw S hW (tX5_isIn l what 10 14 (by omega)) (cw_X5_145 S.2.2.2.2 ⟨Nat.le_of_ble_eq_true rfl, Nat.le_of_ble_eq_true rfl⟩) rfl hl.1 (rest := []) rfl (Nat.le_of_ble_eq_true rfl) dX5_drawn_36 ⟨Nat.le_of_ble_eq_true rfl, Nat.le_of_ble_eq_true rfl⟩ (fun locs hW => ?_)
        refine r_ifne_p S (tgt := 56) dX5_drawn_39 rfl (fun c_39 => ?_) (fun c_39 => ?_)
        ·
          exact cut_56 H _ _ (by omega) hW (lv_sub hl [0, 1, 2, 3, 4, 5] rfl)
        ·
          refine lv_iload S.1 S.2.1 dX5_drawn_42 (lv_at hl 5 rfl) ?_
          refine r_bipush S dX5_drawn_44 (by decide) ?_
          refine r_bipush S dX5_drawn_46 (by decide) ?_
          refine c_SPw S hW (tX5_isIn l what 20 24 (by omega)) (cw_X5_145 S.2.2.2.2 ⟨Nat.le_of_ble_eq_true rfl, Nat.le_of_ble_eq_true rfl⟩) rfl hl.1 (rest := []) rfl (Nat.le_of_ble_eq_true rfl) dX5_drawn_48 ⟨Nat.le_of_ble_eq_true rfl, Nat.le_of_ble_eq_true rfl⟩ (fun locs hW => ?_)
          refine r_ifne_p S (tgt := 56) dX5_drawn_51 rfl (fun c_51 => ?_) (fun c_51 => ?_)
          ·
            exact cut_56 H _ _ (by omega) hW (lv_sub hl [0, 1, 2, 3, 4, 5] rfl)
          ·
            refine r_iconst S dX5_drawn_54 ?_
            exact e_iS S hr hlk hW ⟨(-1), rfl, ⟨(by unfold sDrawn; rw [if_neg (fun z => by have z2 := dP_t.mp z; first | exact absurd z2.1 (by assumption) | exact absurd z2.2 (by omega))]), (same_w q3_sm (by decide))⟩⟩ dX5_drawn_55
