theorem hd_X5_bitsOf : yX5_bitsOf.cls ≠ "java/lang/invoke/MethodHandle" ∧ yX5_bitsOf.cls ≠ "java/lang/invoke/VarHandle" ∧ (parseMethodDescriptor yX5_bitsOf.desc).map (fun d => d.parameters.length) = some 1 := by decide +kernel
theorem cw_X5_317 {R : Room} {s : State} {args : Array Value} (ht : ∀ w ∈ lw_all, w.before args s = true) (hR : 0 + 1 ≤ R.frames ∧ 8 + (3 + 11) + 0 ≤ R.locals) : CallB R s args "OneDrumModel" 317 yX5_bitsOf cX5_bitsOf 3 (some .int) (ws_ yX5_bitsOf cX5_bitsOf 3 (some .int)) ⟨0, 0, 0, 0⟩ 0 0 1 ∧ (Cond.static yX5_bitsOf).before args s = true := va_cwS 1 ht (lw_S q2050 q2051 q126 q2052) rfl rfl rfl hd_X5_bitsOf hR
theorem hd_X5_isSo : yX5_isSo.cls = RX5 ∧ yX5_isSo.cls ≠ "java/lang/invoke/MethodHandle" ∧ yX5_isSo.cls ≠ "java/lang/invoke/VarHandle" ∧ (parseMethodDescriptor yX5_isSo.desc).map (fun d => d.parameters.length) = some 0 := by decide +kernel
theorem cw_X5_314 {R : Room} {s : State} {args : Array Value} (ht : ∀ w ∈ lw_all, w.before args s = true) (hR : 5 + 1 ≤ R.frames ∧ 8 + (4 + 11) + 114 ≤ R.locals) : CallW R s args "OneDrumModel" RX5 314 yX5_isSo cX5_isSo 4 (some .boolean) (ws_ yX5_isSo cX5_isSo 4 (some .boolean)) ⟨5, 0, 0, 114⟩ 0 0 0 := cwV 0 ht (lw_V q2046 q2048 qs96 q126 q2049) rfl rfl rfl hd_X5_isSo hR
set_option maxHeartbeats 4000000 in
theorem tX5_bribes (l : Launch) (G : GG) (ad : Nat → Nat) (σ : St) (k : Int) (s0 : Int) (h : Int) (what : Int) (hr0 : -2147483648 ≤ k ∧ k < 2147483648 ∧ -2147483648 ≤ s0 ∧ s0 < 2147483648 ∧ -2147483648 ≤ h ∧ h < 2147483648 ∧ -2147483648 ≤ what ∧ what < 2147483648) (hdb : WfDB (σ 0)) : Met l yX5_bribes (ws_ yX5_bribes cX5_bribes 9 (some .int)) ⟨6, 0, 0, 137⟩ (wPre G shM ad σ (fun _ => True) [.ref (ad 0), .int (iI k), .int (iI s0), .int (iI h), .int (iI what)]) (qS G shM ad (aM ad) (rI (fun r σ' => (r = sBribes (σ 0) k s0 h what) ∧ (same [10, 11, 12, 13, 14, 15, 16, 17, 18, 19, 20, 21, 22, 23, 25] σ σ')))) 0 0 (aM ad) := by
  refine wStart (by decide) (Nat.le_of_ble_eq_true rfl) (fun k hk => ⟨k, hk, rfl⟩) (fun p e s m below meth c S hr hlk _ _ ls hW hl => ?_)
  have hl : lv_has ls 9 [(0, .ref (ad 0)), (1, .int (iI k)), (2, .int (iI s0)), (3, .int (iI h)), (4, .int (iI what))] := hl
  have d0 := hdb.1
  have d1 := hdb.2.1
  have d2 := hdb.2.2.1
  have d3 := hdb.2.2.2.1
  refine lv_aload_n S.1 S.2.1 dX5_bribes_0 rfl (lv_at hl 0 rfl) ?_
  refine lv_iload_n S.1 S.2.1 dX5_bribes_1 rfl (lv_at hl 1 rfl) ?_
  refine lv_iload_n S.1 S.2.1 dX5_bribes_2 rfl (lv_at hl 2 rfl) ?_
  refine c_VSz S hW (tX5_arePlayed l G ad σ k s0 (by omega) (by omega)) (cw_X5_255 S.2.2.2.2 ⟨Nat.le_of_ble_eq_true rfl, Nat.le_of_ble_eq_true rfl⟩) eBlind_T (fun _ _ _ => trivial) (w_recv hW (q0 := 0) rfl rfl) rfl hl.1 (rest := []) rfl (Nat.le_of_ble_eq_true rfl) dX5_bribes_3 ⟨Nat.le_of_ble_eq_true rfl, Nat.le_of_ble_eq_true rfl⟩ (fun r3 σ3 H locs q3 hW => ?_)
  obtain ⟨rfl, q3_sm, q3_pl⟩ := q3
  have e0 : σ3 0 = σ 0 := q3_sm 0 (by decide)
  have e02 : σ3 0 2 = σ 0 2 := by rw [e0]
  refine r_ifeq_p S (tgt := 36) dX5_bribes_6 rfl (fun c_6 => ?_) (fun c_6 => ?_)
  ·
    refine r_iconst S dX5_bribes_36 ?_
    exact e_iS S hr hlk hW ⟨(-1), rfl, ⟨(by unfold sBribes; rw [if_neg (fun z => by have z2 := dP_t.mp z; first | exact absurd z2.1 (by assumption) | exact absurd z2.2 (by omega))]), (by first | exact same_w q3_sm (by decide) | exact same_tr (same_w q3_sm (by decide)) q11_sm (by decide))⟩⟩ dX5_bribes_37
  ·
    obtain ⟨w10, pl⟩ := q3_pl (by first | exact c_6 | assumption)
    have ws9 : inWS (σ 0) k s0 := by first | exact c_6 | assumption
    have hWf := hdb.2.2.2.2.2.2.2.2.1 k (by unfold inWS at ws9; omega) (by unfold inWS at ws9; omega)
    have hg := hdb.2.2.2.2.2.2.2.2.2.1 s0 (by unfold inWS at ws9; omega) (by unfold inWS at ws9; omega)
    have w10b : σ3 10 0 = 610 ∨ σ3 10 0 = 699 := by unfold inWS at ws9; omega
    have wq : wr σ3 = wAt (σ 0) k := wr_at e0 w10
    have n18 := pl.1
    have hL9 := rowG_len hWf hg
    have hg00 := (hg 0 (by omega) (by omega)).1
    have hg11 := (hg 1 (by omega) (by omega)).1
    obtain ⟨LL, eLL⟩ : ∃ z, z = rowG (wAt (σ 0) k) (gAt (σ 0) s0) := ⟨_, rfl⟩
    have hLr := rowG_V (w := wAt (σ 0) k) hg
    have hLg := (rowL_V (t := (wAt (σ 0) k 0).toNat) (gl_mem hg (x := 0) (by omega)) (gl_mem hg (x := 1) (by omega))).2
    have w10c : 0 ≤ σ3 10 0 ∧ σ3 10 0 ≤ 700 := by omega
    have sn9 : fil σ3 16 (rowG (wAt (σ 0) k) (gAt (σ 0) s0)).length (sd (wr σ3) (rf (rowG (wAt (σ 0) k) (gAt (σ 0) s0))) 0) := by rw [wq]; exact pl.2.2.1
    have l24 : (rowG (wAt (σ 0) k) (gAt (σ 0) s0)).length ≤ 24 := by omega
    refine lv_aload_n S.1 S.2.1 dX5_bribes_9 rfl (lv_at hl 0 rfl) ?_
    refine lv_iload_n S.1 S.2.1 dX5_bribes_10 rfl (lv_at hl 3 rfl) ?_
    refine c_VSz S hW (tX5_isHearing l G ad σ3 h (by omega) (by omega)) (cw_X5_311 S.2.2.2.2 ⟨Nat.le_of_ble_eq_true rfl, Nat.le_of_ble_eq_true rfl⟩) eBlind_T (fun _ _ _ => trivial) (w_recv hW (q0 := 0) rfl rfl) rfl hl.1 (rest := []) rfl (Nat.le_of_ble_eq_true rfl) dX5_bribes_11 ⟨Nat.le_of_ble_eq_true rfl, Nat.le_of_ble_eq_true rfl⟩ (fun r11 σ11 H locs q11 hW => ?_)
    obtain ⟨rfl, q11_sm, q11_w⟩ := q11
    have f0 : σ11 0 = σ 0 := (q11_sm 0 (by decide)).trans e0
    have f10 : σ11 10 = σ3 10 := q11_sm 10 (by decide)
    have wq2 : wr σ11 = wAt (σ 0) k := wr_at f0 (by rw [f10]; exact w10)
    have n18b : σ11 18 0 = (rowG (wAt (σ 0) k) (gAt (σ 0) s0)).length := by rw [q11_sm 18 (by decide)]; exact n18
    have f10b : σ11 10 0 = σ3 10 0 := by rw [f10]
    refine r_ifeq_p S (tgt := 36) dX5_bribes_14 rfl (fun c_14 => ?_) (fun c_14 => ?_)
    ·
      refine r_iconst S dX5_bribes_36 ?_
      exact e_iS S hr hlk hW ⟨(-1), rfl, ⟨(by unfold sBribes; rw [if_neg (fun z => by have z2 := dP_t.mp z; first | exact absurd z2.1 (by assumption) | exact absurd z2.2 (by omega))]), (by first | exact same_w q3_sm (by decide) | exact same_tr (same_w q3_sm (by decide)) q11_sm (by decide))⟩⟩ dX5_bribes_37
    ·
      have w25 := q11_w (by omega)
      have hH := hdb.2.2.2.2.2.2.2.2.2.2.1 h (by omega) (by omega)
      refine lv_aload_n S.1 S.2.1 dX5_bribes_17 rfl (lv_at hl 0 rfl) ?_
      refine w_geti S hW in_X5 0 rfl rfl 18 (by decide) q1669 rfl rfl dX5_bribes_18 ?_
      refine r_bipush S dX5_bribes_21 (by decide) ?_
      refine r_icmp_gt S (tgt := 36) dX5_bribes_23 rfl (by omega) (fun c_23 => ?_) (fun c_23 => ?_)
      ·
        refine r_iconst S dX5_bribes_36 ?_
        exact e_iS S hr hlk hW ⟨(-1), rfl, ⟨(by unfold sBribes; rw [if_neg (fun z => by have z2 := dP_t.mp z; first | exact absurd z2.1 (by assumption) | exact absurd z2.2 (by omega))]), (by first | exact same_w q3_sm (by decide) | exact same_tr (same_w q3_sm (by decide)) q11_sm (by decide))⟩⟩ dX5_bribes_37
      ·
        refine lv_iload S.1 S.2.1 dX5_bribes_26 (lv_at hl 4 rfl) ?_
        refine r_iconst S dX5_bribes_28 ?_
        refine r_iconst S dX5_bribes_29 ?_
        refine c_SPw S hW (tX5_isIn l what 0 2 (by omega)) (cw_X5_145 S.2.2.2.2 ⟨Nat.le_of_ble_eq_true rfl, Nat.le_of_ble_eq_true rfl⟩) rfl hl.1 (rest := []) rfl (Nat.le_of_ble_eq_true rfl) dX5_bribes_30 ⟨Nat.le_of_ble_eq_true rfl, Nat.le_of_ble_eq_true rfl⟩ (fun locs hW => ?_)
        refine r_ifne_p S (tgt := 38) dX5_bribes_33 rfl (fun c_33 => ?_) (fun c_33 => ?_)
        ·
          refine r_iconst S dX5_bribes_38 ?_
          refine lv_istore (lv' := [(5, .int (iI 0)), (0, .ref (ad 0)), (1, .int (iI k)), (2, .int (iI s0)), (3, .int (iI h)), (4, .int (iI what))]) S.1 S.2.1 dX5_bribes_39 hl (by decide) rfl (fun ls hl => ?_)
          refine r_iconst S dX5_bribes_41 ?_
          refine lv_istore (lv' := [(6, .int (iI 0)), (5, .int (iI 0)), (0, .ref (ad 0)), (1, .int (iI k)), (2, .int (iI s0)), (3, .int (iI h)), (4, .int (iI what))]) S.1 S.2.1 dX5_bribes_42 hl (by decide) rfl (fun ls hl => ?_)
          have cut_44 : ∀ (N_44 : Nat) (rests i : Int) (H : Heap) (locs : List Loc) (ls : Array Slot), (0 ≤ i ∧ i ≤ (rowG (wAt (σ 0) k) (gAt (σ 0) s0)).length) → (rests = rsI (rowG (wAt (σ 0) k) (gAt (σ 0) s0)) i) → (((rowG (wAt (σ 0) k) (gAt (σ 0) s0)).length - i).toNat) < N_44 → WD G shM ad (aM ad) s s.heap σ11 H locs → lv_has ls 9 [(6, .int (iI i)), (5, .int (iI rests)), (0, .ref (ad 0)), (1, .int (iI k)), (2, .int (iI s0)), (3, .int (iI h)), (4, .int (iI what))] → W p l e (⟨6, 0, 0, 137⟩ : Room) s m ([.ref (ad 0), .int (iI k), .int (iI s0), .int (iI h), .int (iI what)] : List Value).toArray below meth c H locs 0 0 (MQ below (qS G shM ad (aM ad) (rI (fun r σ' => (r = sBribes (σ 0) k s0 h what) ∧ (same [10, 11, 12, 13, 14, 15, 16, 17, 18, 19, 20, 21, 22, 23, 25] σ σ')))) ([.ref (ad 0), .int (iI k), .int (iI s0), .int (iI h), .int (iI what)] : List Value).toArray s 0 0 (aM ad)) (F0 m 44 ls []) := by
            intro N_44
            induction N_44 with
            | zero =>
              intro rests i H locs ls hi hre hμ_44 hW hl
              exact absurd hμ_44 (by omega)
            | succ N_44 ih_44 =>
              intro rests i H locs ls hi hre hμ_44 hW hl
              refine lv_iload S.1 S.2.1 dX5_bribes_44 (lv_at hl 0 rfl) ?_
              refine lv_aload_n S.1 S.2.1 dX5_bribes_46 rfl (lv_at hl 2 rfl) ?_
              refine w_geti S hW in_X5 0 rfl rfl 18 (by decide) q1669 rfl rfl dX5_bribes_47 ?_
              refine r_icmp_ge S (tgt := 82) dX5_bribes_50 rfl (by omega) (fun c_50 => ?_) (fun c_50 => ?_)
              ·
                have hre2 : rests = rsI (rowG (wAt (σ 0) k) (gAt (σ 0) s0)) (rowG (wAt (σ 0) k) (gAt (σ 0) s0)).length := by rw [hre, show i = (rowG (wAt (σ 0) k) (gAt (σ 0) s0)).length by omega]
                have hp2 := shl_p2 (n := (rowG (wAt (σ 0) k) (gAt (σ 0) s0)).length) (by omega)
                refine r_iconst S dX5_bribes_82 ?_
                refine lv_istore (lv' := [(6, .int (iI 0)), (5, .int (iI rests)), (0, .ref (ad 0)), (1, .int (iI k)), (2, .int (iI s0)), (3, .int (iI h)), (4, .int (iI what))]) S.1 S.2.1 dX5_bribes_83 hl (by decide) rfl (fun ls hl => ?_)
                refine r_iconst S dX5_bribes_85 ?_
                refine lv_istore (lv' := [(7, .int (iI (-1))), (6, .int (iI 0)), (5, .int (iI rests)), (0, .ref (ad 0)), (1, .int (iI k)), (2, .int (iI s0)), (3, .int (iI h)), (4, .int (iI what))]) S.1 S.2.1 dX5_bribes_86 hl (by decide) rfl (fun ls hl => ?_)
                refine r_iconst S dX5_bribes_88 ?_
                refine lv_istore (lv' := [(8, .int (iI 0)), (7, .int (iI (-1))), (6, .int (iI 0)), (5, .int (iI rests)), (0, .ref (ad 0)), (1, .int (iI k)), (2, .int (iI s0)), (3, .int (iI h)), (4, .int (iI what))]) S.1 S.2.1 dX5_bribes_89 hl (by decide) rfl (fun ls hl => ?_)
                have cut_91 : ∀ (N_91 : Nat) (ways best set : Int) (σ1 : St) (H : Heap) (locs : List Loc) (ls : Array Slot), (0 ≤ set ∧ set ≤ p2 (rowG (wAt (σ 0) k) (gAt (σ 0) s0)).length) → (same [16, 17, 19, 20, 21, 22, 23] σ11 σ1) → (ways = cnI (brP (wAt (σ 0) k) (rowG (wAt (σ 0) k) (gAt (σ 0) s0)) (hAt (σ 0) h)) set) → (best = bbI (brP (wAt (σ 0) k) (rowG (wAt (σ 0) k) (gAt (σ 0) s0)) (hAt (σ 0) h)) set) → ((p2 (rowG (wAt (σ 0) k) (gAt (σ 0) s0)).length - set).toNat) < N_91 → WD G shM ad (aM ad) s s.heap σ1 H locs → lv_has ls 9 [(8, .int (iI set)), (7, .int (iI best)), (6, .int (iI ways)), (5, .int (iI rests)), (0, .ref (ad 0)), (1, .int (iI k)), (2, .int (iI s0)), (3, .int (iI h)), (4, .int (iI what))] → W p l e (⟨6, 0, 0, 137⟩ : Room) s m ([.ref (ad 0), .int (iI k), .int (iI s0), .int (iI h), .int (iI what)] : List Value).toArray below meth c H locs 0 0 (MQ below (qS G shM ad (aM ad) (rI (fun r σ' => (r = sBribes (σ 0) k s0 h what) ∧ (same [10, 11, 12, 13, 14, 15, 16, 17, 18, 19, 20, 21, 22, 23, 25] σ σ')))) ([.ref (ad 0), .int (iI k), .int (iI s0), .int (iI h), .int (iI what)] : List Value).toArray s 0 0 (aM ad)) (F0 m 91 ls []) := by
                  intro N_91
                  induction N_91 with
                  | zero =>
                    intro ways best set σ1 H locs ls hse hsm hwa hbe hμ_91 hW hl
                    exact absurd hμ_91 (by omega)
                  | succ N_91 ih_91 =>
                    intro ways best set σ1 H locs ls hse hsm hwa hbe hμ_91 hW hl
                    have z0 : σ1 0 = σ 0 := (hsm 0 (by decide)).trans f0
                    have z10 : σ1 10 = σ11 10 := hsm 10 (by decide)
                    have wq1 : wr σ1 = wAt (σ 0) k := by rw [← wq2]; funext j; simp only [wr, z0, z10, f0]
                    have n18c : σ1 18 0 = (rowG (wAt (σ 0) k) (gAt (σ 0) s0)).length := by rw [hsm 18 (by decide)]; exact n18b
                    have z10b : σ1 10 0 = σ11 10 0 := by rw [z10]
                    have hcr := cnI_rng (brP (wAt (σ 0) k) (rowG (wAt (σ 0) k) (gAt (σ 0) s0)) (hAt (σ 0) h)) hse.1
                    have hbr := bbI_rng (P := (brP (wAt (σ 0) k) (rowG (wAt (σ 0) k) (gAt (σ 0) s0)) (hAt (σ 0) h))) hse.1
                    have har := andI_rng set rests
                    refine lv_iload S.1 S.2.1 dX5_bribes_91 (lv_at hl 0 rfl) ?_
                    refine r_iconst S dX5_bribes_93 ?_
                    refine lv_aload_n S.1 S.2.1 dX5_bribes_94 rfl (lv_at hl 4 rfl) ?_
                    refine w_geti S hW in_X5 0 rfl rfl 18 (by decide) q1669 rfl rfl dX5_bribes_95 ?_
                    refine r_ishl S dX5_bribes_98 ?_
                    refine r_as (p2 (rowG (wAt (σ 0) k) (gAt (σ 0) s0)).length) (by rw [n18c]; exact hp2.1) ?_
                    refine r_icmp_ge S (tgt := 166) dX5_bribes_99 rfl (by omega) (fun c_99 => ?_) (fun c_99 => ?_)
                    ·
                      have hse9 : set = p2 (rowG (wAt (σ 0) k) (gAt (σ 0) s0)).length := by omega
                      refine lv_iload S.1 S.2.1 dX5_bribes_166 (lv_at hl 8 rfl) ?_
                      refine r_if_ne S (tgt := 174) dX5_bribes_168 rfl (by omega) (fun c_168 => ?_) (fun c_168 => ?_)
                      ·
                        refine lv_iload S.1 S.2.1 dX5_bribes_174 (lv_at hl 1 rfl) ?_
                        refine r_iconst S dX5_bribes_176 ?_
                        refine r_icmp_eq S (tgt := 186) dX5_bribes_177 rfl (by omega) (fun c_177 => ?_) (fun c_177 => ?_)
                        ·
                          refine lv_iload S.1 S.2.1 dX5_bribes_186 (lv_at hl 1 rfl) ?_
                          refine lv_goto (tgt := 196) S.1 S.2.1 dX5_bribes_188 rfl ?_
                          exact e_iS S hr hlk hW ⟨best, rfl, ⟨(by unfold sBribes sBrib2; rw [if_pos (dP_t.mpr ⟨ws9, by omega, by omega, by omega⟩), ← hse9, ← hwa, ← hbe]; first | rw [if_pos (by omega)] | rw [if_neg (by omega), if_pos (by omega)] | rw [if_neg (by omega), if_neg (by omega)]), (same_tr (same_tr (same_w q3_sm (by decide)) q11_sm (by decide)) hsm (by decide))⟩⟩ dX5_bribes_196
                        ·
                          refine lv_iload S.1 S.2.1 dX5_bribes_180 (lv_at hl 8 rfl) ?_
                          refine r_iconst S dX5_bribes_182 ?_
                          refine r_icmp_ne S (tgt := 191) dX5_bribes_183 rfl (by omega) (fun c_183 => ?_) (fun c_183 => ?_)
                          ·
                            refine lv_iload S.1 S.2.1 dX5_bribes_191 (lv_at hl 1 rfl) ?_
                            refine c_SPw S hW (tX5_bitsOf l best) (cw_X5_317 S.2.2.2.2 ⟨Nat.le_of_ble_eq_true rfl, Nat.le_of_ble_eq_true rfl⟩) rfl hl.1 (rest := []) rfl (Nat.le_of_ble_eq_true rfl) dX5_bribes_193 ⟨Nat.le_of_ble_eq_true rfl, Nat.le_of_ble_eq_true rfl⟩ (fun locs hW => ?_)
                            exact e_iS S hr hlk hW ⟨(popU best 24), rfl, ⟨(by unfold sBribes sBrib2; rw [if_pos (dP_t.mpr ⟨ws9, by omega, by omega, by omega⟩), ← hse9, ← hwa, ← hbe]; first | rw [if_pos (by omega)] | rw [if_neg (by omega), if_pos (by omega)] | rw [if_neg (by omega), if_neg (by omega)]), (same_tr (same_tr (same_w q3_sm (by decide)) q11_sm (by decide)) hsm (by decide))⟩⟩ dX5_bribes_196
                          ·
                            refine lv_iload S.1 S.2.1 dX5_bribes_186 (lv_at hl 1 rfl) ?_
                            refine lv_goto (tgt := 196) S.1 S.2.1 dX5_bribes_188 rfl ?_
                            exact e_iS S hr hlk hW ⟨best, rfl, ⟨(by unfold sBribes sBrib2; rw [if_pos (dP_t.mpr ⟨ws9, by omega, by omega, by omega⟩), ← hse9, ← hwa, ← hbe]; first | rw [if_pos (by omega)] | rw [if_neg (by omega), if_pos (by omega)] | rw [if_neg (by omega), if_neg (by omega)]), (same_tr (same_tr (same_w q3_sm (by decide)) q11_sm (by decide)) hsm (by decide))⟩⟩ dX5_bribes_196
                      ·
                        refine lv_iload S.1 S.2.1 dX5_bribes_171 (lv_at hl 2 rfl) ?_
                        exact e_iS S hr hlk hW ⟨ways, rfl, ⟨(by unfold sBribes sBrib2; rw [if_pos (dP_t.mpr ⟨ws9, by omega, by omega, by omega⟩), ← hse9, ← hwa, ← hbe]; first | rw [if_pos (by omega)] | rw [if_neg (by omega), if_pos (by omega)] | rw [if_neg (by omega), if_neg (by omega)]), (same_tr (same_tr (same_w q3_sm (by decide)) q11_sm (by decide)) hsm (by decide))⟩⟩ dX5_bribes_173
                    ·
                      refine lv_iload S.1 S.2.1 dX5_bribes_102 (lv_at hl 0 rfl) ?_
                      refine lv_iload S.1 S.2.1 dX5_bribes_104 (lv_at hl 3 rfl) ?_
                      refine r_iand S dX5_bribes_106 ?_
                      refine r_if_eq S (tgt := 113) dX5_bribes_107 rfl (by omega) (fun c_107 => ?_) (fun c_107 => ?_)
                      ·
                        refine lv_aload_n S.1 S.2.1 dX5_bribes_113 rfl (lv_at hl 4 rfl) ?_
                        refine lv_iload S.1 S.2.1 dX5_bribes_114 (lv_at hl 0 rfl) ?_
                        refine c_VSv S hW (tX5_plays l G ad σ1 set (rowG (wAt (σ 0) k) (gAt (σ 0) s0)) (by omega) (by rw [wq1]; exact hWf) (n18c) (l24) (fil_eq pl.2.1.1 ((hsm 14 (by decide)).trans (q11_sm 14 (by decide)))) (hLr)) (cw_X5_252 S.2.2.2.2 ⟨Nat.le_of_ble_eq_true rfl, Nat.le_of_ble_eq_true rfl⟩) eBlind_T (fun _ _ _ => trivial) (w_recv hW (q0 := 0) rfl rfl) rfl hl.1 (rest := []) rfl (Nat.le_of_ble_eq_true rfl) dX5_bribes_116 ⟨Nat.le_of_ble_eq_true rfl, Nat.le_of_ble_eq_true rfl⟩ (fun σ116 H locs q116 hW => ?_)
                        obtain ⟨q116_snd, q116_sm⟩ := q116
                        rw [wq1] at q116_snd
                        have g0 : σ116 0 = σ 0 := (q116_sm 0 (by decide)).trans z0
                        have g10 : σ116 10 = σ1 10 := q116_sm 10 (by decide)
                        have wq3 : wr σ116 = wAt (σ 0) k := by rw [← wq1]; funext j; simp only [wr, g0, g10, z0]
                        have g25 : σ116 25 0 = 840 + 14 * h := by rw [q116_sm 25 (by decide), hsm 25 (by decide)]; exact w25
                        have hq3 : hR σ116 = hAt (σ 0) h := hR_at g0 g25
                        have g10b : σ116 10 0 = σ1 10 0 := by rw [g10]
                        refine lv_aload_n S.1 S.2.1 dX5_bribes_119 rfl (lv_at hl 4 rfl) ?_
                        refine c_VSz S hW (tX5_isSo l G ad σ116 (rowG (wAt (σ 0) k) (gAt (σ 0) s0)) set (by omega) (by rw [wq3]; exact hWf) (by rw [q116_sm 18 (by decide)]; exact n18c) (l24) (hLr) (by rw [wq3]; exact q116_snd.1) (by omega) (by rw [hq3]; exact hH)) (cw_X5_314 S.2.2.2.2 ⟨Nat.le_of_ble_eq_true rfl, Nat.le_of_ble_eq_true rfl⟩) eBlind_T (fun _ _ _ => trivial) (w_recv hW (q0 := 0) rfl rfl) rfl hl.1 (rest := []) rfl (Nat.le_of_ble_eq_true rfl) dX5_bribes_120 ⟨Nat.le_of_ble_eq_true rfl, Nat.le_of_ble_eq_true rfl⟩ (fun r120 σ120 H locs q120 hW => ?_)
                        obtain ⟨rfl, q120_sm⟩ := q120
                        refine r_ifne_p S (tgt := 129) dX5_bribes_123 rfl (fun c_123 => ?_) (fun c_123 => ?_)
                        ·
                          rw [wq3, hq3] at c_123
                          have hbp : (brP (wAt (σ 0) k) (rowG (wAt (σ 0) k) (gAt (σ 0) s0)) (hAt (σ 0) h)) set := ⟨by rw [← hre2]; exact c_107, c_123⟩
                          refine lv_iinc (v := iI (ways + 1)) (lv' := [(6, .int (iI (ways + 1))), (8, .int (iI set)), (7, .int (iI best)), (5, .int (iI rests)), (0, .ref (ad 0)), (1, .int (iI k)), (2, .int (iI s0)), (3, .int (iI h)), (4, .int (iI what))]) S.1 S.2.1 dX5_bribes_129 hl (k := 2) rfl (iI_add _ _) (by decide) rfl (fun ls hl => ?_)
                          refine lv_iload S.1 S.2.1 dX5_bribes_132 (lv_at hl 2 rfl) ?_
                          refine r_iconst S dX5_bribes_134 ?_
                          refine r_icmp_eq S (tgt := 151) dX5_bribes_135 rfl (by omega) (fun c_135 => ?_) (fun c_135 => ?_)
                          ·
                            refine lv_iload S.1 S.2.1 dX5_bribes_151 (lv_at hl 1 rfl) ?_
                            refine lv_goto (tgt := 158) S.1 S.2.1 dX5_bribes_153 rfl ?_
                            refine lv_istore (lv' := [(7, .int (iI set)), (6, .int (iI (ways + 1))), (8, .int (iI set)), (5, .int (iI rests)), (0, .ref (ad 0)), (1, .int (iI k)), (2, .int (iI s0)), (3, .int (iI h)), (4, .int (iI what))]) S.1 S.2.1 dX5_bribes_158 hl (by decide) rfl (fun ls hl => ?_)
                            refine lv_iinc (v := iI (set + 1)) (lv' := [(8, .int (iI (set + 1))), (7, .int (iI set)), (6, .int (iI (ways + 1))), (5, .int (iI rests)), (0, .ref (ad 0)), (1, .int (iI k)), (2, .int (iI s0)), (3, .int (iI h)), (4, .int (iI what))]) S.1 S.2.1 dX5_bribes_160 hl (k := 2) rfl (iI_add _ _) (by decide) rfl (fun ls hl => ?_)
                            refine lv_goto (tgt := 91) S.1 S.2.1 dX5_bribes_163 rfl ?_
                            exact ih_91 (ways + 1) set (set + 1) σ120 H _ _ (by omega) (by first | exact hsm | exact same_tr (same_tr hsm q116_sm (by decide)) q120_sm (by decide)) (by first | (rw [cnI_no _ hse.1 (fun z => c_107 (by rw [hre2]; exact z.1))]; exact hwa) | (rw [cnI_no _ hse.1 (fun z => c_123 z.2)]; exact hwa) | (rw [cnI_yes _ hse.1 hbp]; omega)) (by rw [bbI_s hse.1, ← hbe]; first | (rw [if_neg (fun z => c_107 (by rw [hre2]; exact (dP_t.mp z).1.1))]) | (rw [if_neg (fun z => c_123 (dP_t.mp z).1.2)]) | (rw [if_pos (dP_t.mpr ⟨hbp, by first | exact Or.inl c_135 | exact Or.inr c_148⟩)]) | (rw [if_neg (fun z => by have := (dP_t.mp z).2; omega)])) (by omega) hW (lv_sub hl [0, 1, 2, 3, 4, 5, 6, 7, 8] rfl)
                          ·
                            refine lv_iload S.1 S.2.1 dX5_bribes_138 (lv_at hl 1 rfl) ?_
                            refine c_SPw S hW (tX5_bitsOf l set) (cw_X5_317 S.2.2.2.2 ⟨Nat.le_of_ble_eq_true rfl, Nat.le_of_ble_eq_true rfl⟩) rfl hl.1 (rest := []) rfl (Nat.le_of_ble_eq_true rfl) dX5_bribes_140 ⟨Nat.le_of_ble_eq_true rfl, Nat.le_of_ble_eq_true rfl⟩ (fun locs hW => ?_)
                            refine lv_iload S.1 S.2.1 dX5_bribes_143 (lv_at hl 2 rfl) ?_
                            refine c_SPw S hW (tX5_bitsOf l best) (cw_X5_317 S.2.2.2.2 ⟨Nat.le_of_ble_eq_true rfl, Nat.le_of_ble_eq_true rfl⟩) rfl hl.1 (rest := [.int (iI (popU set 24))]) rfl (Nat.le_of_ble_eq_true rfl) dX5_bribes_145 ⟨Nat.le_of_ble_eq_true rfl, Nat.le_of_ble_eq_true rfl⟩ (fun locs hW => ?_)
                            have p1 := popU_rngI set (n := 24) (by omega)
                            have p2_ := popU_rngI best (n := 24) (by omega)
                            refine r_icmp_ge S (tgt := 156) dX5_bribes_148 rfl (by omega) (fun c_148 => ?_) (fun c_148 => ?_)
                            ·
                              refine lv_iload S.1 S.2.1 dX5_bribes_156 (lv_at hl 2 rfl) ?_
                              refine lv_istore (lv' := [(7, .int (iI best)), (6, .int (iI (ways + 1))), (8, .int (iI set)), (5, .int (iI rests)), (0, .ref (ad 0)), (1, .int (iI k)), (2, .int (iI s0)), (3, .int (iI h)), (4, .int (iI what))]) S.1 S.2.1 dX5_bribes_158 hl (by decide) rfl (fun ls hl => ?_)
                              refine lv_iinc (v := iI (set + 1)) (lv' := [(8, .int (iI (set + 1))), (7, .int (iI best)), (6, .int (iI (ways + 1))), (5, .int (iI rests)), (0, .ref (ad 0)), (1, .int (iI k)), (2, .int (iI s0)), (3, .int (iI h)), (4, .int (iI what))]) S.1 S.2.1 dX5_bribes_160 hl (k := 2) rfl (iI_add _ _) (by decide) rfl (fun ls hl => ?_)
                              refine lv_goto (tgt := 91) S.1 S.2.1 dX5_bribes_163 rfl ?_
                              exact ih_91 (ways + 1) best (set + 1) σ120 H _ _ (by omega) (by first | exact hsm | exact same_tr (same_tr hsm q116_sm (by decide)) q120_sm (by decide)) (by first | (rw [cnI_no _ hse.1 (fun z => c_107 (by rw [hre2]; exact z.1))]; exact hwa) | (rw [cnI_no _ hse.1 (fun z => c_123 z.2)]; exact hwa) | (rw [cnI_yes _ hse.1 hbp]; omega)) (by rw [bbI_s hse.1, ← hbe]; first | (rw [if_neg (fun z => c_107 (by rw [hre2]; exact (dP_t.mp z).1.1))]) | (rw [if_neg (fun z => c_123 (dP_t.mp z).1.2)]) | (rw [if_pos (dP_t.mpr ⟨hbp, by first | exact Or.inl c_135 | exact Or.inr c_148⟩)]) | (rw [if_neg (fun z => by have := (dP_t.mp z).2; omega)])) (by omega) hW (lv_sub hl [0, 1, 2, 3, 4, 5, 6, 7, 8] rfl)
                            ·
                              refine lv_iload S.1 S.2.1 dX5_bribes_151 (lv_at hl 1 rfl) ?_
                              refine lv_goto (tgt := 158) S.1 S.2.1 dX5_bribes_153 rfl ?_
                              refine lv_istore (lv' := [(7, .int (iI set)), (6, .int (iI (ways + 1))), (8, .int (iI set)), (5, .int (iI rests)), (0, .ref (ad 0)), (1, .int (iI k)), (2, .int (iI s0)), (3, .int (iI h)), (4, .int (iI what))]) S.1 S.2.1 dX5_bribes_158 hl (by decide) rfl (fun ls hl => ?_)
                              refine lv_iinc (v := iI (set + 1)) (lv' := [(8, .int (iI (set + 1))), (7, .int (iI set)), (6, .int (iI (ways + 1))), (5, .int (iI rests)), (0, .ref (ad 0)), (1, .int (iI k)), (2, .int (iI s0)), (3, .int (iI h)), (4, .int (iI what))]) S.1 S.2.1 dX5_bribes_160 hl (k := 2) rfl (iI_add _ _) (by decide) rfl (fun ls hl => ?_)
                              refine lv_goto (tgt := 91) S.1 S.2.1 dX5_bribes_163 rfl ?_
                              exact ih_91 (ways + 1) set (set + 1) σ120 H _ _ (by omega) (by first | exact hsm | exact same_tr (same_tr hsm q116_sm (by decide)) q120_sm (by decide)) (by first | (rw [cnI_no _ hse.1 (fun z => c_107 (by rw [hre2]; exact z.1))]; exact hwa) | (rw [cnI_no _ hse.1 (fun z => c_123 z.2)]; exact hwa) | (rw [cnI_yes _ hse.1 hbp]; omega)) (by rw [bbI_s hse.1, ← hbe]; first | (rw [if_neg (fun z => c_107 (by rw [hre2]; exact (dP_t.mp z).1.1))]) | (rw [if_neg (fun z => c_123 (dP_t.mp z).1.2)]) | (rw [if_pos (dP_t.mpr ⟨hbp, by first | exact Or.inl c_135 | exact Or.inr c_148⟩)]) | (rw [if_neg (fun z => by have := (dP_t.mp z).2; omega)])) (by omega) hW (lv_sub hl [0, 1, 2, 3, 4, 5, 6, 7, 8] rfl)
                        ·
                          rw [wq3, hq3] at c_123
                          refine lv_goto (tgt := 160) S.1 S.2.1 dX5_bribes_126 rfl ?_
                          refine lv_iinc (v := iI (set + 1)) (lv' := [(8, .int (iI (set + 1))), (7, .int (iI best)), (6, .int (iI ways)), (5, .int (iI rests)), (0, .ref (ad 0)), (1, .int (iI k)), (2, .int (iI s0)), (3, .int (iI h)), (4, .int (iI what))]) S.1 S.2.1 dX5_bribes_160 hl (k := 0) rfl (iI_add _ _) (by decide) rfl (fun ls hl => ?_)
                          refine lv_goto (tgt := 91) S.1 S.2.1 dX5_bribes_163 rfl ?_
                          exact ih_91 ways best (set + 1) σ120 H _ _ (by omega) (by first | exact hsm | exact same_tr (same_tr hsm q116_sm (by decide)) q120_sm (by decide)) (by first | (rw [cnI_no _ hse.1 (fun z => c_107 (by rw [hre2]; exact z.1))]; exact hwa) | (rw [cnI_no _ hse.1 (fun z => c_123 z.2)]; exact hwa) | (rw [cnI_yes _ hse.1 hbp]; omega)) (by rw [bbI_s hse.1, ← hbe]; first | (rw [if_neg (fun z => c_107 (by rw [hre2]; exact (dP_t.mp z).1.1))]) | (rw [if_neg (fun z => c_123 (dP_t.mp z).1.2)]) | (rw [if_pos (dP_t.mpr ⟨hbp, by first | exact Or.inl c_135 | exact Or.inr c_148⟩)]) | (rw [if_neg (fun z => by have := (dP_t.mp z).2; omega)])) (by omega) hW (lv_sub hl [0, 1, 2, 3, 4, 5, 6, 7, 8] rfl)
                      ·
                        refine lv_goto (tgt := 160) S.1 S.2.1 dX5_bribes_110 rfl ?_
                        refine lv_iinc (v := iI (set + 1)) (lv' := [(8, .int (iI (set + 1))), (7, .int (iI best)), (6, .int (iI ways)), (5, .int (iI rests)), (0, .ref (ad 0)), (1, .int (iI k)), (2, .int (iI s0)), (3, .int (iI h)), (4, .int (iI what))]) S.1 S.2.1 dX5_bribes_160 hl (k := 0) rfl (iI_add _ _) (by decide) rfl (fun ls hl => ?_)
                        refine lv_goto (tgt := 91) S.1 S.2.1 dX5_bribes_163 rfl ?_
                        exact ih_91 ways best (set + 1) σ1 H _ _ (by omega) (by first | exact hsm | exact same_tr (same_tr hsm q116_sm (by decide)) q120_sm (by decide)) (by first | (rw [cnI_no _ hse.1 (fun z => c_107 (by rw [hre2]; exact z.1))]; exact hwa) | (rw [cnI_no _ hse.1 (fun z => c_123 z.2)]; exact hwa) | (rw [cnI_yes _ hse.1 hbp]; omega)) (by rw [bbI_s hse.1, ← hbe]; first | (rw [if_neg (fun z => c_107 (by rw [hre2]; exact (dP_t.mp z).1.1))]) | (rw [if_neg (fun z => c_123 (dP_t.mp z).1.2)]) | (rw [if_pos (dP_t.mpr ⟨hbp, by first | exact Or.inl c_135 | exact Or.inr c_148⟩)]) | (rw [if_neg (fun z => by have := (dP_t.mp z).2; omega)])) (by omega) hW (lv_sub hl [0, 1, 2, 3, 4, 5, 6, 7, 8] rfl)
                exact cut_91 _ 0 (-1) 0 σ11 H _ _ (by omega) (same_rf) (rfl) (rfl) (Nat.lt_succ_self _) hW (lv_sub hl [0, 1, 2, 3, 4, 5, 6, 7, 8] rfl)
              ·
                have r1 : σ11 14 i = rf (rowG (wAt (σ 0) k) (gAt (σ 0) s0)) i := by rw [q11_sm 14 (by decide)]; exact pl.2.1.1 i (by omega) (by omega)
                have r2 := hLr i (by omega) (by omega)
                refine lv_iload S.1 S.2.1 dX5_bribes_53 (lv_at hl 1 rfl) ?_
                refine lv_aload_n S.1 S.2.1 dX5_bribes_55 rfl (lv_at hl 2 rfl) ?_
                refine w_getr S hW in_X5 0 rfl rfl 14 (by decide) q1665 rfl rfl dX5_bribes_56 ?_
                refine lv_iload S.1 S.2.1 dX5_bribes_59 (lv_at hl 0 rfl) ?_
                refine w_ald S hW 6 0 rfl rfl (by omega) dX5_bribes_61 ?_
                refine r_if_ne S (tgt := 72) dX5_bribes_62 rfl (by omega) (fun c_62 => ?_) (fun c_62 => ?_)
                ·
                  refine r_iconst S dX5_bribes_72 ?_
                  refine r_ior S dX5_bribes_73 ?_
                  refine lv_istore (lv' := [(5, .int (iI (orI rests 0))), (6, .int (iI i)), (0, .ref (ad 0)), (1, .int (iI k)), (2, .int (iI s0)), (3, .int (iI h)), (4, .int (iI what))]) S.1 S.2.1 dX5_bribes_74 hl (by decide) rfl (fun ls hl => ?_)
                  refine lv_iinc (v := iI (i + 1)) (lv' := [(6, .int (iI (i + 1))), (5, .int (iI (orI rests 0))), (0, .ref (ad 0)), (1, .int (iI k)), (2, .int (iI s0)), (3, .int (iI h)), (4, .int (iI what))]) S.1 S.2.1 dX5_bribes_76 hl (k := 1) rfl (iI_add _ _) (by decide) rfl (fun ls hl => ?_)
                  refine lv_goto (tgt := 44) S.1 S.2.1 dX5_bribes_79 rfl ?_
                  exact ih_44 (orI rests 0) (i + 1) H _ _ (by omega) (by rw [rsI_s hi.1, ← hre]; first | rw [if_pos (by rw [← r1]; exact c_62)] | rw [if_neg (fun z => c_62 (by rw [r1]; exact z))]) (by omega) hW (lv_sub hl [0, 1, 2, 3, 4, 5, 6] rfl)
                ·
                  refine r_iconst S dX5_bribes_65 ?_
                  refine lv_iload S.1 S.2.1 dX5_bribes_66 (lv_at hl 0 rfl) ?_
                  refine r_ishl S dX5_bribes_68 ?_
                  refine lv_goto (tgt := 73) S.1 S.2.1 dX5_bribes_69 rfl ?_
                  refine r_ior S dX5_bribes_73 ?_
                  refine lv_istore (lv' := [(5, .int (iI (orI rests (shlI 1 i)))), (6, .int (iI i)), (0, .ref (ad 0)), (1, .int (iI k)), (2, .int (iI s0)), (3, .int (iI h)), (4, .int (iI what))]) S.1 S.2.1 dX5_bribes_74 hl (by decide) rfl (fun ls hl => ?_)
                  refine lv_iinc (v := iI (i + 1)) (lv' := [(6, .int (iI (i + 1))), (5, .int (iI (orI rests (shlI 1 i)))), (0, .ref (ad 0)), (1, .int (iI k)), (2, .int (iI s0)), (3, .int (iI h)), (4, .int (iI what))]) S.1 S.2.1 dX5_bribes_76 hl (k := 1) rfl (iI_add _ _) (by decide) rfl (fun ls hl => ?_)
                  refine lv_goto (tgt := 44) S.1 S.2.1 dX5_bribes_79 rfl ?_
                  exact ih_44 (orI rests (shlI 1 i)) (i + 1) H _ _ (by omega) (by rw [rsI_s hi.1, ← hre]; first | rw [if_pos (by rw [← r1]; exact c_62)] | rw [if_neg (fun z => c_62 (by rw [r1]; exact z))]) (by omega) hW (lv_sub hl [0, 1, 2, 3, 4, 5, 6] rfl)
          exact cut_44 _ 0 0 H _ _ (by omega) (rfl) (Nat.lt_succ_self _) hW (lv_sub hl [0, 1, 2, 3, 4, 5, 6] rfl)
        ·
          refine r_iconst S dX5_bribes_36 ?_
          exact e_iS S hr hlk hW ⟨(-1), rfl, ⟨(by unfold sBribes; rw [if_neg (fun z => by have z2 := dP_t.mp z; first | exact absurd z2.1 (by assumption) | exact absurd z2.2 (by omega))]), (by first | exact same_w q3_sm (by decide) | exact same_tr (same_w q3_sm (by decide)) q11_sm (by decide))⟩⟩ dX5_bribes_37
set_option maxHeartbeats 4000000 in
theorem tX5_meant (l : Launch) (G : GG) (ad : Nat → Nat) (σ : St) (k : Int) (s0 : Int) (h : Int) (n : Int) (first : Bool) (hr0 : -2147483648 ≤ k ∧ k < 2147483648 ∧ -2147483648 ≤ s0 ∧ s0 < 2147483648 ∧ -2147483648 ≤ h ∧ h < 2147483648 ∧ -2147483648 ≤ n ∧ n < 2147483648) (hdb : WfDB (σ 0)) : Met l yX5_meant (ws_ yX5_meant cX5_meant 9 (some .int)) ⟨6, 0, 0, 137⟩ (wPre G shM ad σ (fun _ => True) [.ref (ad 0), .int (iI k), .int (iI s0), .int (iI h), .int (iI n), .int (iI (b2i first))]) (qS G shM ad (aM ad) (rI (fun r σ' => (r = sMeant (σ 0) k s0 h n first) ∧ (same [10, 11, 12, 13, 14, 15, 16, 17, 18, 19, 20, 21, 22, 23, 25] σ σ')))) 0 0 (aM ad) := by
  refine wStart (by decide) (Nat.le_of_ble_eq_true rfl) (fun k hk => ⟨k, hk, rfl⟩) (fun p e s m below meth c S hr hlk _ _ ls hW hl => ?_)
  have hl : lv_has ls 9 [(0, .ref (ad 0)), (1, .int (iI k)), (2, .int (iI s0)), (3, .int (iI h)), (4, .int (iI n)), (5, .int (iI (b2i first)))] := hl
  have d0 := hdb.1
  have d1 := hdb.2.1
  have d2 := hdb.2.2.1
  have d3 := hdb.2.2.2.1
  refine lv_aload_n S.1 S.2.1 dX5_meant_0 rfl (lv_at hl 0 rfl) ?_
  refine lv_iload_n S.1 S.2.1 dX5_meant_1 rfl (lv_at hl 1 rfl) ?_
  refine c_VSz S hW (tX5_isWar l G ad σ k (by omega) (by omega)) (cw_X5_224 S.2.2.2.2 ⟨Nat.le_of_ble_eq_true rfl, Nat.le_of_ble_eq_true rfl⟩) eBlind_T (fun _ _ _ => trivial) (w_recv hW (q0 := 0) rfl rfl) rfl hl.1 (rest := []) rfl (Nat.le_of_ble_eq_true rfl) dX5_meant_2 ⟨Nat.le_of_ble_eq_true rfl, Nat.le_of_ble_eq_true rfl⟩ (fun r2 σ2 H locs q2 hW => ?_)
  obtain ⟨rfl, q2_sm, q2_w⟩ := q2
  have e0 : σ2 0 = σ 0 := q2_sm 0 (by decide)
  have e01 : σ2 0 1 = σ 0 1 := by rw [e0]
  refine r_ifeq_p S (tgt := 34) dX5_meant_5 rfl (fun c_5 => ?_) (fun c_5 => ?_)
  ·
    refine r_bipush S dX5_meant_34 (by decide) ?_
    exact e_iS S hr hlk hW ⟨(-2), rfl, ⟨(by unfold sMeant; rw [if_neg (fun z => by have z2 := dP_t.mp z; unfold inWS at z2; omega)]), (by first | exact same_w q2_sm (by decide) | exact same_tr (same_w q2_sm (by decide)) q10_sm (by decide) | exact same_tr (same_tr (same_w q2_sm (by decide)) q10_sm (by decide)) q18_sm (by decide))⟩⟩ dX5_meant_36
  ·
    have w10 := q2_w (by omega)
    refine lv_aload_n S.1 S.2.1 dX5_meant_8 rfl (lv_at hl 0 rfl) ?_
    refine lv_iload_n S.1 S.2.1 dX5_meant_9 rfl (lv_at hl 2 rfl) ?_
    refine c_VSz S hW (tX5_isScore l G ad σ2 s0 (by omega) (by omega)) (cw_X5_240 S.2.2.2.2 ⟨Nat.le_of_ble_eq_true rfl, Nat.le_of_ble_eq_true rfl⟩) eBlind_T (fun _ _ _ => trivial) (w_recv hW (q0 := 0) rfl rfl) rfl hl.1 (rest := []) rfl (Nat.le_of_ble_eq_true rfl) dX5_meant_10 ⟨Nat.le_of_ble_eq_true rfl, Nat.le_of_ble_eq_true rfl⟩ (fun r10 σ10 H locs q10 hW => ?_)
    obtain ⟨rfl, q10_sm, q10_w⟩ := q10
    have f0 : σ10 0 = σ 0 := (q10_sm 0 (by decide)).trans e0
    have f02 : σ10 0 2 = σ 0 2 := by rw [f0]
    refine r_ifeq_p S (tgt := 34) dX5_meant_13 rfl (fun c_13 => ?_) (fun c_13 => ?_)
    ·
      refine r_bipush S dX5_meant_34 (by decide) ?_
      exact e_iS S hr hlk hW ⟨(-2), rfl, ⟨(by unfold sMeant; rw [if_neg (fun z => by have z2 := dP_t.mp z; unfold inWS at z2; omega)]), (by first | exact same_w q2_sm (by decide) | exact same_tr (same_w q2_sm (by decide)) q10_sm (by decide) | exact same_tr (same_tr (same_w q2_sm (by decide)) q10_sm (by decide)) q18_sm (by decide))⟩⟩ dX5_meant_36
    ·
      have w11 := q10_w (by omega)
      refine lv_aload_n S.1 S.2.1 dX5_meant_16 rfl (lv_at hl 0 rfl) ?_
      refine lv_iload_n S.1 S.2.1 dX5_meant_17 rfl (lv_at hl 3 rfl) ?_
      refine c_VSz S hW (tX5_isHearing l G ad σ10 h (by omega) (by omega)) (cw_X5_311 S.2.2.2.2 ⟨Nat.le_of_ble_eq_true rfl, Nat.le_of_ble_eq_true rfl⟩) eBlind_T (fun _ _ _ => trivial) (w_recv hW (q0 := 0) rfl rfl) rfl hl.1 (rest := []) rfl (Nat.le_of_ble_eq_true rfl) dX5_meant_18 ⟨Nat.le_of_ble_eq_true rfl, Nat.le_of_ble_eq_true rfl⟩ (fun r18 σ18 H locs q18 hW => ?_)
      obtain ⟨rfl, q18_sm, q18_w⟩ := q18
      have t0 : σ18 0 = σ 0 := (q18_sm 0 (by decide)).trans f0
      refine r_ifeq_p S (tgt := 34) dX5_meant_21 rfl (fun c_21 => ?_) (fun c_21 => ?_)
      ·
        refine r_bipush S dX5_meant_34 (by decide) ?_
        exact e_iS S hr hlk hW ⟨(-2), rfl, ⟨(by unfold sMeant; rw [if_neg (fun z => by have z2 := dP_t.mp z; unfold inWS at z2; omega)]), (by first | exact same_w q2_sm (by decide) | exact same_tr (same_w q2_sm (by decide)) q10_sm (by decide) | exact same_tr (same_tr (same_w q2_sm (by decide)) q10_sm (by decide)) q18_sm (by decide))⟩⟩ dX5_meant_36
      ·
        have w25 := q18_w (by omega)
        refine lv_iload S.1 S.2.1 dX5_meant_24 (lv_at hl 4 rfl) ?_
        refine r_iconst S dX5_meant_26 ?_
        refine r_iconst S dX5_meant_27 ?_
        refine c_SPw S hW (tX5_isIn l n 0 5 (by omega)) (cw_X5_145 S.2.2.2.2 ⟨Nat.le_of_ble_eq_true rfl, Nat.le_of_ble_eq_true rfl⟩) rfl hl.1 (rest := []) rfl (Nat.le_of_ble_eq_true rfl) dX5_meant_28 ⟨Nat.le_of_ble_eq_true rfl, Nat.le_of_ble_eq_true rfl⟩ (fun locs hW => ?_)
        refine r_ifne_p S (tgt := 37) dX5_meant_31 rfl (fun c_31 => ?_) (fun c_31 => ?_)
        ·
          have b10 : σ18 10 0 = 610 + 89 * k := by rw [q18_sm 10 (by decide), q10_sm 10 (by decide)]; exact w10
          have b11 : σ18 11 0 = 788 + 26 * s0 := by rw [q18_sm 11 (by decide)]; exact w11
          have wq : wr σ18 = wAt (σ 0) k := wr_at t0 b10
          have gq : gr σ18 = gAt (σ 0) s0 := gr_at t0 b11
          have hWf := hdb.2.2.2.2.2.2.2.2.1 k (by omega) (by omega)
          have ht := hWf.1
          have hg := hdb.2.2.2.2.2.2.2.2.2.1 s0 (by omega) (by omega)
          have hH := hdb.2.2.2.2.2.2.2.2.2.2.1 h (by omega) (by omega)
          have hg00 := (hg 0 (by omega) (by omega)).1
          have hp4 := p4_le (n := n) (by omega)
          have hp4p := p4_pos n
          refine lv_aload_n S.1 S.2.1 dX5_meant_37 rfl (lv_at hl 0 rfl) ?_
          refine c_VSv S hW (tX5_takesScore l G ad σ18 (by omega) (by omega) (by rw [wq]; exact hWf.1) (by rw [gq]; exact hg)) (cw_X5_249 S.2.2.2.2 ⟨Nat.le_of_ble_eq_true rfl, Nat.le_of_ble_eq_true rfl⟩) eBlind_T (fun _ _ _ => trivial) (w_recv hW (q0 := 0) rfl rfl) rfl hl.1 (rest := []) rfl (Nat.le_of_ble_eq_true rfl) dX5_meant_38 ⟨Nat.le_of_ble_eq_true rfl, Nat.le_of_ble_eq_true rfl⟩ (fun σ38 H locs q38 hW => ?_)
          obtain ⟨q38_len, q38_row, q38_many, q38_g0, q38_g1, q38_sm⟩ := q38
          rw [gq] at q38_many q38_g0
          have hs38 : same [12, 13, 14, 15, 16, 17, 18, 19, 20, 21, 22, 23] σ18 σ38 := same_w q38_sm (by decide)
          have hG00 : Gv σ38 0 (gl (gAt (σ 0) s0) 0) := ⟨by rw [q38_many.1]; exact (gl_len hg00.1).symm, fun i i1 i2 => by rw [show 12 * 0 + i = i by omega]; exact q38_g0 i i1 (by rw [gl_len hg00.1] at i2; exact i2)⟩
          have hgl0 := gl_len hg00.1
          refine r_iconst S dX5_meant_41 ?_
          refine lv_istore (lv' := [(6, .int (iI 0)), (0, .ref (ad 0)), (1, .int (iI k)), (2, .int (iI s0)), (3, .int (iI h)), (4, .int (iI n)), (5, .int (iI (b2i first)))]) S.1 S.2.1 dX5_meant_42 hl (by decide) rfl (fun ls hl => ?_)
          refine r_iconst S dX5_meant_44 ?_
          refine lv_istore (lv' := [(7, .int (iI (-1))), (6, .int (iI 0)), (0, .ref (ad 0)), (1, .int (iI k)), (2, .int (iI s0)), (3, .int (iI h)), (4, .int (iI n)), (5, .int (iI (b2i first)))]) S.1 S.2.1 dX5_meant_45 hl (by decide) rfl (fun ls hl => ?_)
          refine r_iconst S dX5_meant_47 ?_
          refine lv_istore (lv' := [(8, .int (iI 0)), (7, .int (iI (-1))), (6, .int (iI 0)), (0, .ref (ad 0)), (1, .int (iI k)), (2, .int (iI s0)), (3, .int (iI h)), (4, .int (iI n)), (5, .int (iI (b2i first)))]) S.1 S.2.1 dX5_meant_48 hl (by decide) rfl (fun ls hl => ?_)
          have cut_50 : ∀ (N_50 : Nat) (ways first1 code : Int) (σ1 : St) (H : Heap) (locs : List Loc) (ls : Array Slot), (0 ≤ code ∧ code ≤ p4 n) → (same [12, 13, 14, 15, 16, 17, 18, 19, 20, 21, 22, 23] σ18 σ1) → (Gv σ1 0 (gl (gAt (σ 0) s0) 0)) → (ways = cnI (mnP (wAt (σ 0) k) (gAt (σ 0) s0) (hAt (σ 0) h) n) code) → (first1 = fsI (mnP (wAt (σ 0) k) (gAt (σ 0) s0) (hAt (σ 0) h) n) code) → ((p4 n - code).toNat) < N_50 → WD G shM ad (aM ad) s s.heap σ1 H locs → lv_has ls 9 [(8, .int (iI code)), (7, .int (iI first1)), (6, .int (iI ways)), (0, .ref (ad 0)), (1, .int (iI k)), (2, .int (iI s0)), (3, .int (iI h)), (4, .int (iI n)), (5, .int (iI (b2i first)))] → W p l e (⟨6, 0, 0, 137⟩ : Room) s m ([.ref (ad 0), .int (iI k), .int (iI s0), .int (iI h), .int (iI n), .int (iI (b2i first))] : List Value).toArray below meth c H locs 0 0 (MQ below (qS G shM ad (aM ad) (rI (fun r σ' => (r = sMeant (σ 0) k s0 h n first) ∧ (same [10, 11, 12, 13, 14, 15, 16, 17, 18, 19, 20, 21, 22, 23, 25] σ σ')))) ([.ref (ad 0), .int (iI k), .int (iI s0), .int (iI h), .int (iI n), .int (iI (b2i first))] : List Value).toArray s 0 0 (aM ad)) (F0 m 50 ls []) := by
            intro N_50
            induction N_50 with
            | zero =>
              intro ways first1 code σ1 H locs ls hc hsm hG0s hwa hfi hμ_50 hW hl
              exact absurd hμ_50 (by omega)
            | succ N_50 ih_50 =>
              intro ways first1 code σ1 H locs ls hc hsm hG0s hwa hfi hμ_50 hW hl
              have y0 : σ1 0 = σ 0 := (hsm 0 (by decide)).trans t0
              have y10 : σ1 10 = σ18 10 := hsm 10 (by decide)
              have y10b : σ1 10 0 = 610 + 89 * k := by rw [y10]; exact b10
              have wq : wr σ1 = wAt (σ 0) k := wr_at y0 y10b
              have wq0 : wr σ1 0 = wAt (σ 0) k 0 := by rw [wq]
              have hcr := cnI_rng (mnP (wAt (σ 0) k) (gAt (σ 0) s0) (hAt (σ 0) h) n) hc.1
              have hfr := fsI_rng (mnP (wAt (σ 0) k) (gAt (σ 0) s0) (hAt (σ 0) h) n) hc.1
              refine lv_iload S.1 S.2.1 dX5_meant_50 (lv_at hl 0 rfl) ?_
              refine lv_iload S.1 S.2.1 dX5_meant_52 (lv_at hl 7 rfl) ?_
              refine c_SPw S hW (tX5_codesOf l n (by omega)) (cw_X5_294 S.2.2.2.2 ⟨Nat.le_of_ble_eq_true rfl, Nat.le_of_ble_eq_true rfl⟩) rfl hl.1 (rest := [.int (iI code)]) rfl (Nat.le_of_ble_eq_true rfl) dX5_meant_54 ⟨Nat.le_of_ble_eq_true rfl, Nat.le_of_ble_eq_true rfl⟩ (fun locs hW => ?_)
              refine r_icmp_ge S (tgt := 112) dX5_meant_57 rfl (by omega) (fun c_57 => ?_) (fun c_57 => ?_)
              ·
                refine lv_iload S.1 S.2.1 dX5_meant_112 (lv_at hl 8 rfl) ?_
                refine r_ifeq_b S (tgt := 122) dX5_meant_114 rfl (fun c_114 => ?_) (fun c_114 => ?_)
                ·
                  refine lv_iload S.1 S.2.1 dX5_meant_122 (lv_at hl 2 rfl) ?_
                  exact e_iS S hr hlk hW ⟨ways, rfl, ⟨(by unfold sMeant; rw [if_pos (dP_t.mpr (by unfold inWS; omega)), ← show code = p4 n by omega]; first | (rw [if_pos c_114]; exact hfi) | (rw [if_neg (by rw [c_114]; decide)]; exact hwa)), (same_tr (same_tr (same_tr (same_w q2_sm (by decide)) q10_sm (by decide)) q18_sm (by decide)) hsm (by decide))⟩⟩ dX5_meant_124
                ·
                  refine lv_iload S.1 S.2.1 dX5_meant_117 (lv_at hl 1 rfl) ?_
                  refine lv_goto (tgt := 124) S.1 S.2.1 dX5_meant_119 rfl ?_
                  exact e_iS S hr hlk hW ⟨first1, rfl, ⟨(by unfold sMeant; rw [if_pos (dP_t.mpr (by unfold inWS; omega)), ← show code = p4 n by omega]; first | (rw [if_pos c_114]; exact hfi) | (rw [if_neg (by rw [c_114]; decide)]; exact hwa)), (same_tr (same_tr (same_tr (same_w q2_sm (by decide)) q10_sm (by decide)) q18_sm (by decide)) hsm (by decide))⟩⟩ dX5_meant_124
              ·
                have hdl := digL_len (code := code) (n := n) (by omega)
                have hLV : rowV (rowL (wAt (σ 0) k 0).toNat (gl (gAt (σ 0) s0) 0) (digL code n)) := (rowL_V (gl_mem hg (by omega)) digL_mem).1
                have hLl : (rowL (wAt (σ 0) k 0).toNat (gl (gAt (σ 0) s0) 0) (digL code n)).length = (gl (gAt (σ 0) s0) 0).length + (digL code n).length := rowL_len (by omega) _ _ _ (Nat.le_refl _)
                refine lv_aload_n S.1 S.2.1 dX5_meant_60 rfl (lv_at hl 3 rfl) ?_
                refine r_iconst S dX5_meant_61 ?_
                refine lv_iload S.1 S.2.1 dX5_meant_62 (lv_at hl 0 rfl) ?_
                refine lv_iload S.1 S.2.1 dX5_meant_64 (lv_at hl 7 rfl) ?_
                refine c_VSv S hW (tX5_givesNumber l G ad σ1 1 code n (by omega) (by omega) (by omega)) (cw_X5_297 S.2.2.2.2 ⟨Nat.le_of_ble_eq_true rfl, Nat.le_of_ble_eq_true rfl⟩) eBlind_T (fun _ _ _ => trivial) (w_recv hW (q0 := 0) rfl rfl) rfl hl.1 (rest := []) rfl (Nat.le_of_ble_eq_true rfl) dX5_meant_66 ⟨Nat.le_of_ble_eq_true rfl, Nat.le_of_ble_eq_true rfl⟩ (fun σ66 H locs q66 hW => ?_)
                obtain ⟨q66_gv, q66_ot, q66_sm⟩ := q66
                have hG0 : Gv σ66 0 (gl (gAt (σ 0) s0) 0) := q66_ot _ (by omega) hG0s
                have hG1 := q66_gv
                have hsX : same [12, 13, 14, 15, 16, 17, 18, 19, 20, 21, 22, 23] σ18 σ66 := same_tr hsm q66_sm (by decide)
                have y0 : σ66 0 = σ 0 := (hsX 0 (by decide)).trans t0
                have y10 : σ66 10 = σ18 10 := hsX 10 (by decide)
                have y10b : σ66 10 0 = 610 + 89 * k := by rw [y10]; exact b10
                have wq : wr σ66 = wAt (σ 0) k := wr_at y0 y10b
                have wq0 : wr σ66 0 = wAt (σ 0) k 0 := by rw [wq]
                refine lv_aload_n S.1 S.2.1 dX5_meant_69 rfl (lv_at hl 3 rfl) ?_
                refine c_VSv S hW (tX5_laysRow l G ad σ66 (gl (gAt (σ 0) s0) 0) (digL code n) (by omega) (by rw [wq0]; omega) (⟨hG0.1, hG1.1, by omega, by omega⟩) (fun i i1 i2 => by have := hG0.2 i i1 i2; rw [show 12 * 0 + i = i by omega] at this; exact this) (fun i i1 i2 => hG1.2 i i1 i2)) (cw_X5_246 S.2.2.2.2 ⟨Nat.le_of_ble_eq_true rfl, Nat.le_of_ble_eq_true rfl⟩) eBlind_T (fun _ _ _ => trivial) (w_recv hW (q0 := 0) rfl rfl) rfl hl.1 (rest := []) rfl (Nat.le_of_ble_eq_true rfl) dX5_meant_70 ⟨Nat.le_of_ble_eq_true rfl, Nat.le_of_ble_eq_true rfl⟩ (fun σ70 H locs q70 hW => ?_)
                obtain ⟨q70_len, q70_row, q70_sm⟩ := q70
                rw [wq0] at q70_len q70_row
                have hs70 : same [12, 13, 14, 15, 16, 17, 18, 19, 20, 21, 22, 23] σ18 σ70 := same_tr hsX q70_sm (by decide)
                have y0 : σ70 0 = σ 0 := (hs70 0 (by decide)).trans t0
                have y10 : σ70 10 = σ18 10 := hs70 10 (by decide)
                have y10b : σ70 10 0 = 610 + 89 * k := by rw [y10]; exact b10
                have wq : wr σ70 = wAt (σ 0) k := wr_at y0 y10b
                have wq0 : wr σ70 0 = wAt (σ 0) k 0 := by rw [wq]
                refine lv_aload_n S.1 S.2.1 dX5_meant_73 rfl (lv_at hl 3 rfl) ?_
                refine r_iconst S dX5_meant_74 ?_
                refine c_VSv S hW (tX5_plays l G ad σ70 0 (rowL (wAt (σ 0) k 0).toNat (gl (gAt (σ 0) s0) 0) (digL code n)) (by omega) (by rw [wq]; exact hWf) (q70_len) (by omega) (q70_row.1) (hLV)) (cw_X5_252 S.2.2.2.2 ⟨Nat.le_of_ble_eq_true rfl, Nat.le_of_ble_eq_true rfl⟩) eBlind_T (fun _ _ _ => trivial) (w_recv hW (q0 := 0) rfl rfl) rfl hl.1 (rest := []) rfl (Nat.le_of_ble_eq_true rfl) dX5_meant_75 ⟨Nat.le_of_ble_eq_true rfl, Nat.le_of_ble_eq_true rfl⟩ (fun σ75 H locs q75 hW => ?_)
                obtain ⟨q75_snd, q75_sm⟩ := q75
                rw [wq] at q75_snd
                have hs75 : same [12, 13, 14, 15, 16, 17, 18, 19, 20, 21, 22, 23] σ18 σ75 := same_tr hs70 q75_sm (by decide)
                have y0 : σ75 0 = σ 0 := (hs75 0 (by decide)).trans t0
                have y10 : σ75 10 = σ18 10 := hs75 10 (by decide)
                have y10b : σ75 10 0 = 610 + 89 * k := by rw [y10]; exact b10
                have wq : wr σ75 = wAt (σ 0) k := wr_at y0 y10b
                have wq0 : wr σ75 0 = wAt (σ 0) k 0 := by rw [wq]
                have n18 : σ75 18 0 = (rowL (wAt (σ 0) k 0).toNat (gl (gAt (σ 0) s0) 0) (digL code n)).length := by rw [q75_sm 18 (by decide)]; exact q70_len
                have g25 : σ75 25 0 = 840 + 14 * h := by rw [hs75 25 (by decide)]; exact w25
                have hq3 : hR σ75 = hAt (σ 0) h := hR_at y0 g25
                refine lv_aload_n S.1 S.2.1 dX5_meant_78 rfl (lv_at hl 3 rfl) ?_
                refine c_VSz S hW (tX5_isSo l G ad σ75 (rowL (wAt (σ 0) k 0).toNat (gl (gAt (σ 0) s0) 0) (digL code n)) 0 (by omega) (by rw [wq]; exact hWf) (n18) (by omega) (hLV) (by rw [wq]; exact q75_snd.1) (by omega) (by rw [hq3]; exact hH)) (cw_X5_314 S.2.2.2.2 ⟨Nat.le_of_ble_eq_true rfl, Nat.le_of_ble_eq_true rfl⟩) eBlind_T (fun _ _ _ => trivial) (w_recv hW (q0 := 0) rfl rfl) rfl hl.1 (rest := []) rfl (Nat.le_of_ble_eq_true rfl) dX5_meant_79 ⟨Nat.le_of_ble_eq_true rfl, Nat.le_of_ble_eq_true rfl⟩ (fun r79 σ79 H locs q79 hW => ?_)
                obtain ⟨rfl, q79_sm⟩ := q79
                refine r_ifne_p S (tgt := 88) dX5_meant_82 rfl (fun c_82 => ?_) (fun c_82 => ?_)
                ·
                  rw [wq, hq3] at c_82
                  refine lv_iinc (v := iI (ways + 1)) (lv' := [(6, .int (iI (ways + 1))), (8, .int (iI code)), (7, .int (iI first1)), (0, .ref (ad 0)), (1, .int (iI k)), (2, .int (iI s0)), (3, .int (iI h)), (4, .int (iI n)), (5, .int (iI (b2i first)))]) S.1 S.2.1 dX5_meant_88 hl (k := 2) rfl (iI_add _ _) (by decide) rfl (fun ls hl => ?_)
                  refine lv_iload S.1 S.2.1 dX5_meant_91 (lv_at hl 2 rfl) ?_
                  refine r_iconst S dX5_meant_93 ?_
                  refine r_icmp_ne S (tgt := 102) dX5_meant_94 rfl (by omega) (fun c_94 => ?_) (fun c_94 => ?_)
                  ·
                    refine lv_iload S.1 S.2.1 dX5_meant_102 (lv_at hl 2 rfl) ?_
                    refine lv_istore (lv' := [(7, .int (iI first1)), (6, .int (iI (ways + 1))), (8, .int (iI code)), (0, .ref (ad 0)), (1, .int (iI k)), (2, .int (iI s0)), (3, .int (iI h)), (4, .int (iI n)), (5, .int (iI (b2i first)))]) S.1 S.2.1 dX5_meant_104 hl (by decide) rfl (fun ls hl => ?_)
                    refine lv_iinc (v := iI (code + 1)) (lv' := [(8, .int (iI (code + 1))), (7, .int (iI first1)), (6, .int (iI (ways + 1))), (0, .ref (ad 0)), (1, .int (iI k)), (2, .int (iI s0)), (3, .int (iI h)), (4, .int (iI n)), (5, .int (iI (b2i first)))]) S.1 S.2.1 dX5_meant_106 hl (k := 2) rfl (iI_add _ _) (by decide) rfl (fun ls hl => ?_)
                    refine lv_goto (tgt := 50) S.1 S.2.1 dX5_meant_109 rfl ?_
                    exact ih_50 (ways + 1) first1 (code + 1) σ79 H _ _ (by omega) (same_tr hs75 q79_sm (by decide)) (Gv_eq hG0 ((q79_sm 12 (by decide)).trans ((q75_sm 12 (by decide)).trans (q70_sm 12 (by decide)))) ((q79_sm 13 (by decide)).trans ((q75_sm 13 (by decide)).trans (q70_sm 13 (by decide))))) (by first | (rw [cnI_no _ hc.1 c_82]; exact hwa) | (rw [cnI_yes _ hc.1 c_82]; omega)) (by first | (rw [fsI_no _ hc.1 c_82]; exact hfi) | (rw [fsI_yes _ hc.1 c_82, ← hfi]; first | rw [if_pos c_94] | rw [if_neg c_94])) (by omega) hW (lv_sub hl [0, 1, 2, 3, 4, 5, 6, 7, 8] rfl)
                  ·
                    refine lv_iload S.1 S.2.1 dX5_meant_97 (lv_at hl 1 rfl) ?_
                    refine lv_goto (tgt := 104) S.1 S.2.1 dX5_meant_99 rfl ?_
                    refine lv_istore (lv' := [(7, .int (iI code)), (6, .int (iI (ways + 1))), (8, .int (iI code)), (0, .ref (ad 0)), (1, .int (iI k)), (2, .int (iI s0)), (3, .int (iI h)), (4, .int (iI n)), (5, .int (iI (b2i first)))]) S.1 S.2.1 dX5_meant_104 hl (by decide) rfl (fun ls hl => ?_)
                    refine lv_iinc (v := iI (code + 1)) (lv' := [(8, .int (iI (code + 1))), (7, .int (iI code)), (6, .int (iI (ways + 1))), (0, .ref (ad 0)), (1, .int (iI k)), (2, .int (iI s0)), (3, .int (iI h)), (4, .int (iI n)), (5, .int (iI (b2i first)))]) S.1 S.2.1 dX5_meant_106 hl (k := 2) rfl (iI_add _ _) (by decide) rfl (fun ls hl => ?_)
                    refine lv_goto (tgt := 50) S.1 S.2.1 dX5_meant_109 rfl ?_
                    exact ih_50 (ways + 1) code (code + 1) σ79 H _ _ (by omega) (same_tr hs75 q79_sm (by decide)) (Gv_eq hG0 ((q79_sm 12 (by decide)).trans ((q75_sm 12 (by decide)).trans (q70_sm 12 (by decide)))) ((q79_sm 13 (by decide)).trans ((q75_sm 13 (by decide)).trans (q70_sm 13 (by decide))))) (by first | (rw [cnI_no _ hc.1 c_82]; exact hwa) | (rw [cnI_yes _ hc.1 c_82]; omega)) (by first | (rw [fsI_no _ hc.1 c_82]; exact hfi) | (rw [fsI_yes _ hc.1 c_82, ← hfi]; first | rw [if_pos c_94] | rw [if_neg c_94])) (by omega) hW (lv_sub hl [0, 1, 2, 3, 4, 5, 6, 7, 8] rfl)
                ·
                  rw [wq, hq3] at c_82
                  refine lv_goto (tgt := 106) S.1 S.2.1 dX5_meant_85 rfl ?_
                  refine lv_iinc (v := iI (code + 1)) (lv' := [(8, .int (iI (code + 1))), (7, .int (iI first1)), (6, .int (iI ways)), (0, .ref (ad 0)), (1, .int (iI k)), (2, .int (iI s0)), (3, .int (iI h)), (4, .int (iI n)), (5, .int (iI (b2i first)))]) S.1 S.2.1 dX5_meant_106 hl (k := 0) rfl (iI_add _ _) (by decide) rfl (fun ls hl => ?_)
                  refine lv_goto (tgt := 50) S.1 S.2.1 dX5_meant_109 rfl ?_
                  exact ih_50 ways first1 (code + 1) σ79 H _ _ (by omega) (same_tr hs75 q79_sm (by decide)) (Gv_eq hG0 ((q79_sm 12 (by decide)).trans ((q75_sm 12 (by decide)).trans (q70_sm 12 (by decide)))) ((q79_sm 13 (by decide)).trans ((q75_sm 13 (by decide)).trans (q70_sm 13 (by decide))))) (by first | (rw [cnI_no _ hc.1 c_82]; exact hwa) | (rw [cnI_yes _ hc.1 c_82]; omega)) (by first | (rw [fsI_no _ hc.1 c_82]; exact hfi) | (rw [fsI_yes _ hc.1 c_82, ← hfi]; first | rw [if_pos c_94] | rw [if_neg c_94])) (by omega) hW (lv_sub hl [0, 1, 2, 3, 4, 5, 6, 7, 8] rfl)
          exact cut_50 _ 0 (-1) 0 σ38 H _ _ (by omega) (hs38) (hG00) (rfl) (rfl) (Nat.lt_succ_self _) hW (lv_sub hl [0, 1, 2, 3, 4, 5, 6, 7, 8] rfl)
        ·
          refine r_bipush S dX5_meant_34 (by decide) ?_
          exact e_iS S hr hlk hW ⟨(-2), rfl, ⟨(by unfold sMeant; rw [if_neg (fun z => by have z2 := dP_t.mp z; unfold inWS at z2; omega)]), (by first | exact same_w q2_sm (by decide) | exact same_tr (same_w q2_sm (by decide)) q10_sm (by decide) | exact same_tr (same_tr (same_w q2_sm (by decide)) q10_sm (by decide)) q18_sm (by decide))⟩⟩ dX5_meant_36
