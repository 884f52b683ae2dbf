theorem hd_X5_codesOf : yX5_codesOf.cls ≠ "java/lang/invoke/MethodHandle" ∧ yX5_codesOf.cls ≠ "java/lang/invoke/VarHandle" ∧ (parseMethodDescriptor yX5_codesOf.desc).map (fun d => d.parameters.length) = some 1 := by decide +kernel
theorem cw_X5_294 {R : Room} {s : State} {args : Array Value} (ht : ∀ w ∈ lw_all, w.before args s = true) (hR : 0 + 1 ≤ R.frames ∧ 8 + (1 + 11) + 0 ≤ R.locals) : CallB R s args "OneDrumModel" 294 yX5_codesOf cX5_codesOf 1 (some .int) (ws_ yX5_codesOf cX5_codesOf 1 (some .int)) ⟨0, 0, 0, 0⟩ 0 0 1 ∧ (Cond.static yX5_codesOf).before args s = true := va_cwS 1 ht (lw_S q2019 q2020 q126 q2021) rfl rfl rfl hd_X5_codesOf hR
theorem hd_X5_givesNumber : yX5_givesNumber.cls = RX5 ∧ yX5_givesNumber.cls ≠ "java/lang/invoke/MethodHandle" ∧ yX5_givesNumber.cls ≠ "java/lang/invoke/VarHandle" ∧ (parseMethodDescriptor yX5_givesNumber.desc).map (fun d => d.parameters.length) = some 3 := by decide +kernel
theorem cw_X5_297 {R : Room} {s : State} {args : Array Value} (ht : ∀ w ∈ lw_all, w.before args s = true) (hR : 0 + 1 ≤ R.frames ∧ 8 + (6 + 11) + 0 ≤ R.locals) : CallW R s args "OneDrumModel" RX5 297 yX5_givesNumber cX5_givesNumber 6 none (ws_ yX5_givesNumber cX5_givesNumber 6 none) ⟨0, 0, 0, 0⟩ 0 0 3 := cwV 3 ht (lw_V q2026 q2028 qs93 q126 q2029) rfl rfl rfl hd_X5_givesNumber hR
theorem hd_X5_isMade : yX5_isMade.cls = RX5 ∧ yX5_isMade.cls ≠ "java/lang/invoke/MethodHandle" ∧ yX5_isMade.cls ≠ "java/lang/invoke/VarHandle" ∧ (parseMethodDescriptor yX5_isMade.desc).map (fun d => d.parameters.length) = some 2 := by decide +kernel
theorem cw_X5_301 {R : Room} {s : State} {args : Array Value} (ht : ∀ w ∈ lw_all, w.before args s = true) (hR : 5 + 1 ≤ R.frames ∧ 8 + (5 + 11) + 114 ≤ R.locals) : CallW R s args "OneDrumModel" RX5 301 yX5_isMade cX5_isMade 5 (some .boolean) (ws_ yX5_isMade cX5_isMade 5 (some .boolean)) ⟨5, 0, 0, 114⟩ 0 0 2 := cwV 2 ht (lw_V q2030 q2032 qs94 q126 q2033) rfl rfl rfl hd_X5_isMade hR
set_option maxHeartbeats 4000000 in
theorem tX5_isForced (l : Launch) (G : GG) (ad : Nat → Nat) (σ : St) (army : Int) (move : Int) (n : Int) (code : Int) (hw0 : 0 ≤ σ 10 0 ∧ σ 10 0 ≤ 700) (ha : 0 ≤ army ∧ army ≤ 1) (hWf : WfWar (wr σ)) (hmv : 0 ≤ move ∧ move ≤ 4) (hn : 0 ≤ n ∧ n ≤ 3) (hc : 0 ≤ code ∧ code < p4 n) : Met l yX5_isForced (ws_ yX5_isForced cX5_isForced 7 (some .boolean)) ⟨6, 0, 0, 138⟩ (wPre G shM ad σ (fun _ => True) [.ref (ad 0), .int (iI army), .int (iI move), .int (iI n), .int (iI code)]) (qS G shM ad (aM ad) (rZ (fun r σ' => (r = dP (forc (wr σ) army move n code)) ∧ (same [12, 13, 14, 15, 16, 17, 18, 19, 20, 21, 22, 23] σ σ')))) 0 0 (aM ad) := by
  refine wStart (by decide) (Nat.le_of_ble_eq_true rfl) (fun k hk => ⟨k, hk, rfl⟩) (fun p e s m below meth c S hr hlk _ _ ls hW hl => ?_)
  have hl : lv_has ls 7 [(0, .ref (ad 0)), (1, .int (iI army)), (2, .int (iI move)), (3, .int (iI n)), (4, .int (iI code))] := hl
  have hp4 := p4_le3 hn
  have ht := hWf.1
  have hp4p := p4_pos n
  refine r_iconst S dX5_isForced_0 ?_
  refine r_as (b2i (dP (allU (fun other => hasM (wr σ) (rowD (wr σ 0).toNat army n code other) 0 army move) 0))) (dP_1 allU_0) ?_
  refine lv_istore (lv' := [(5, .int (iI (b2i (dP (allU (fun other => hasM (wr σ) (rowD (wr σ 0).toNat army n code other) 0 army move) 0))))), (0, .ref (ad 0)), (1, .int (iI army)), (2, .int (iI move)), (3, .int (iI n)), (4, .int (iI code))]) S.1 S.2.1 dX5_isForced_1 hl (by decide) rfl (fun ls hl => ?_)
  refine r_iconst S dX5_isForced_3 ?_
  refine lv_istore (lv' := [(6, .int (iI 0)), (5, .int (iI (b2i (dP (allU (fun other => hasM (wr σ) (rowD (wr σ 0).toNat army n code other) 0 army move) 0))))), (0, .ref (ad 0)), (1, .int (iI army)), (2, .int (iI move)), (3, .int (iI n)), (4, .int (iI code))]) S.1 S.2.1 dX5_isForced_4 hl (by decide) rfl (fun ls hl => ?_)
  have cut_6 : ∀ (N_6 : Nat) (other : Int) (σ1 : St) (H : Heap) (locs : List Loc) (ls : Array Slot), (0 ≤ other ∧ other ≤ p4 n) → (same [12, 13, 14, 15, 16, 17, 18, 19, 20, 21, 22, 23] σ σ1) → ((p4 n - other).toNat) < N_6 → WD G shM ad (aM ad) s s.heap σ1 H locs → lv_has ls 7 [(6, .int (iI other)), (5, .int (iI (b2i (dP (allU (fun other => hasM (wr σ) (rowD (wr σ 0).toNat army n code other) 0 army move) other))))), (0, .ref (ad 0)), (1, .int (iI army)), (2, .int (iI move)), (3, .int (iI n)), (4, .int (iI code))] → W p l e (⟨6, 0, 0, 138⟩ : Room) s m ([.ref (ad 0), .int (iI army), .int (iI move), .int (iI n), .int (iI code)] : List Value).toArray below meth c H locs 0 0 (MQ below (qS G shM ad (aM ad) (rZ (fun r σ' => (r = dP (forc (wr σ) army move n code)) ∧ (same [12, 13, 14, 15, 16, 17, 18, 19, 20, 21, 22, 23] σ σ')))) ([.ref (ad 0), .int (iI army), .int (iI move), .int (iI n), .int (iI code)] : List Value).toArray s 0 0 (aM ad)) (F0 m 6 ls []) := by
    intro N_6
    induction N_6 with
    | zero =>
      intro other σ1 H locs ls ho hsm hμ_6 hW hl
      exact absurd hμ_6 (by omega)
    | succ N_6 ih_6 =>
      intro other σ1 H locs ls ho hsm hμ_6 hW hl
      have e0 : σ1 0 = σ 0 := hsm 0 (by decide)
      have e10 : σ1 10 = σ 10 := hsm 10 (by decide)
      have wq : wr σ1 = wr σ := by funext j; simp only [wr, e0, e10]
      have w10 : σ1 10 0 = σ 10 0 := by rw [e10]
      have wq0 : wr σ1 0 = wr σ 0 := by rw [wq]
      refine lv_iload S.1 S.2.1 dX5_isForced_6 (lv_at hl 0 rfl) ?_
      refine lv_iload_n S.1 S.2.1 dX5_isForced_8 rfl (lv_at hl 5 rfl) ?_
      refine c_SPw S hW (tX5_codesOf l n (by omega)) (cw_X5_294 S.2.2.2.2 ⟨Nat.le_of_ble_eq_true rfl, Nat.le_of_ble_eq_true rfl⟩) rfl hl.1 (rest := [.int (iI other)]) rfl (Nat.le_of_ble_eq_true rfl) dX5_isForced_9 ⟨Nat.le_of_ble_eq_true rfl, Nat.le_of_ble_eq_true rfl⟩ (fun locs hW => ?_)
      refine r_icmp_ge S (tgt := 61) dX5_isForced_12 rfl (by omega) (fun c_12 => ?_) (fun c_12 => ?_)
      ·
        refine lv_iload S.1 S.2.1 dX5_isForced_61 (lv_at hl 1 rfl) ?_
        exact e_zS S hr hlk hW (b2i_or _) ⟨(dP (allU (fun other => hasM (wr σ) (rowD (wr σ 0).toNat army n code other) 0 army move) other)), rfl, ⟨(dP_c (allU_end ho.2 (by first | exact Or.inl (by omega) | exact Or.inr c_17))), (hsm)⟩⟩ dX5_isForced_63
      ·
        refine lv_iload S.1 S.2.1 dX5_isForced_15 (lv_at hl 1 rfl) ?_
        refine r_ifeq_p S (tgt := 61) dX5_isForced_17 rfl (fun c_17 => ?_) (fun c_17 => ?_)
        ·
          refine lv_iload S.1 S.2.1 dX5_isForced_61 (lv_at hl 1 rfl) ?_
          exact e_zS S hr hlk hW (b2i_or _) ⟨(dP (allU (fun other => hasM (wr σ) (rowD (wr σ 0).toNat army n code other) 0 army move) other)), rfl, ⟨(dP_c (allU_end ho.2 (by first | exact Or.inl (by omega) | exact Or.inr c_17))), (hsm)⟩⟩ dX5_isForced_63
        ·
          have hl0 := digL_len (code := code) hn.1
          have hl1 := digL_len (code := other) hn.1
          have hLV : rowV (rowD (wr σ 0).toNat army n code other) := rowD_V
          have hLl := rowD_len (t := (wr σ 0).toNat) (army := army) (code := code) (other := other) (by omega) hn.1
          have hLA : (if army = 0 then digL code n else digL other n).length = n.toNat := by split <;> omega
          have hLB : (if army = 0 then digL other n else digL code n).length = n.toNat := by split <;> omega
          refine lv_aload_n S.1 S.2.1 dX5_isForced_20 rfl (lv_at hl 2 rfl) ?_
          refine lv_iload_n S.1 S.2.1 dX5_isForced_21 rfl (lv_at hl 3 rfl) ?_
          refine lv_iload S.1 S.2.1 dX5_isForced_22 (lv_at hl 6 rfl) ?_
          refine lv_iload_n S.1 S.2.1 dX5_isForced_24 rfl (lv_at hl 5 rfl) ?_
          refine c_VSv S hW (tX5_givesNumber l G ad σ1 army code n (by omega) (by omega) (by omega)) (cw_X5_297 S.2.2.2.2 ⟨Nat.le_of_ble_eq_true rfl, Nat.le_of_ble_eq_true rfl⟩) eBlind_T (fun _ _ _ => trivial) (w_recv hW (q0 := 0) rfl rfl) rfl hl.1 (rest := []) rfl (Nat.le_of_ble_eq_true rfl) dX5_isForced_25 ⟨Nat.le_of_ble_eq_true rfl, Nat.le_of_ble_eq_true rfl⟩ (fun σ25 H locs q25 hW => ?_)
          obtain ⟨q25_gv, q25_ot, q25_sm⟩ := q25
          refine lv_aload_n S.1 S.2.1 dX5_isForced_28 rfl (lv_at hl 2 rfl) ?_
          refine r_iconst S dX5_isForced_29 ?_
          refine lv_iload_n S.1 S.2.1 dX5_isForced_30 rfl (lv_at hl 3 rfl) ?_
          refine r_isub S dX5_isForced_31 ?_
          refine lv_iload S.1 S.2.1 dX5_isForced_32 (lv_at hl 0 rfl) ?_
          refine lv_iload_n S.1 S.2.1 dX5_isForced_34 rfl (lv_at hl 5 rfl) ?_
          refine c_VSv S hW (tX5_givesNumber l G ad σ25 (1 - army) other n (by omega) (by omega) (by omega)) (cw_X5_297 S.2.2.2.2 ⟨Nat.le_of_ble_eq_true rfl, Nat.le_of_ble_eq_true rfl⟩) eBlind_T (fun _ _ _ => trivial) (w_recv hW (q0 := 0) rfl rfl) rfl hl.1 (rest := []) rfl (Nat.le_of_ble_eq_true rfl) dX5_isForced_35 ⟨Nat.le_of_ble_eq_true rfl, Nat.le_of_ble_eq_true rfl⟩ (fun σ35 H locs q35 hW => ?_)
          obtain ⟨q35_gv, q35_ot, q35_sm⟩ := q35
          have hG := Gv_sel ha (by have := q35_ot (digL code n) (by omega); rw [show 1 - (1 - army) = army by omega] at this; exact this q25_gv) q35_gv
          obtain ⟨hG0, hG1⟩ := hG
          have hsX : same [12, 13, 14, 15, 16, 17, 18, 19, 20, 21, 22, 23] σ σ35 := same_tr (same_tr hsm q25_sm (by decide)) q35_sm (by decide)
          have e0 : σ35 0 = σ 0 := hsX 0 (by decide)
          have e10 : σ35 10 = σ 10 := hsX 10 (by decide)
          have wq : wr σ35 = wr σ := by funext j; simp only [wr, e0, e10]
          have w10 : σ35 10 0 = σ 10 0 := by rw [e10]
          have wq0 : wr σ35 0 = wr σ 0 := by rw [wq]
          refine lv_aload_n S.1 S.2.1 dX5_isForced_38 rfl (lv_at hl 2 rfl) ?_
          refine c_VSv S hW (tX5_laysRow l G ad σ35 (if army = 0 then digL code n else digL other n) (if army = 0 then digL other n else digL code n) (by omega) (by rw [wq0]; omega) (⟨hG0.1, hG1.1, by omega, by omega⟩) (fun i i1 i2 => by have := hG0.2 i i1 i2; rw [show 12 * 0 + i = i by omega] at this; exact this) (fun i i1 i2 => hG1.2 i i1 i2)) (cw_X5_246 S.2.2.2.2 ⟨Nat.le_of_ble_eq_true rfl, Nat.le_of_ble_eq_true rfl⟩) eBlind_T (fun _ _ _ => trivial) (w_recv hW (q0 := 0) rfl rfl) rfl hl.1 (rest := []) rfl (Nat.le_of_ble_eq_true rfl) dX5_isForced_39 ⟨Nat.le_of_ble_eq_true rfl, Nat.le_of_ble_eq_true rfl⟩ (fun σ39 H locs q39 hW => ?_)
          obtain ⟨q39_len, q39_row, q39_sm⟩ := q39
          rw [wq0] at q39_len q39_row
          have hs39 : same [12, 13, 14, 15, 16, 17, 18, 19, 20, 21, 22, 23] σ σ39 := same_tr hsX q39_sm (by decide)
          have e0 : σ39 0 = σ 0 := hs39 0 (by decide)
          have e10 : σ39 10 = σ 10 := hs39 10 (by decide)
          have wq : wr σ39 = wr σ := by funext j; simp only [wr, e0, e10]
          have w10 : σ39 10 0 = σ 10 0 := by rw [e10]
          have wq0 : wr σ39 0 = wr σ 0 := by rw [wq]
          refine lv_aload_n S.1 S.2.1 dX5_isForced_42 rfl (lv_at hl 2 rfl) ?_
          refine r_iconst S dX5_isForced_43 ?_
          refine c_VSv S hW (tX5_plays l G ad σ39 0 (rowD (wr σ 0).toNat army n code other) (by omega) (by rw [wq]; exact hWf) (q39_len) (by omega) (q39_row.1) (hLV)) (cw_X5_252 S.2.2.2.2 ⟨Nat.le_of_ble_eq_true rfl, Nat.le_of_ble_eq_true rfl⟩) eBlind_T (fun _ _ _ => trivial) (w_recv hW (q0 := 0) rfl rfl) rfl hl.1 (rest := []) rfl (Nat.le_of_ble_eq_true rfl) dX5_isForced_44 ⟨Nat.le_of_ble_eq_true rfl, Nat.le_of_ble_eq_true rfl⟩ (fun σ44 H locs q44 hW => ?_)
          obtain ⟨q44_snd, q44_sm⟩ := q44
          rw [wq] at q44_snd
          have hs44 : same [12, 13, 14, 15, 16, 17, 18, 19, 20, 21, 22, 23] σ σ44 := same_tr hs39 q44_sm (by decide)
          have e0 : σ44 0 = σ 0 := hs44 0 (by decide)
          have e10 : σ44 10 = σ 10 := hs44 10 (by decide)
          have wq : wr σ44 = wr σ := by funext j; simp only [wr, e0, e10]
          have w10 : σ44 10 0 = σ 10 0 := by rw [e10]
          have wq0 : wr σ44 0 = wr σ 0 := by rw [wq]
          have n18 : σ44 18 0 = (rowD (wr σ 0).toNat army n code other).length := by rw [q44_sm 18 (by decide)]; exact q39_len
          refine lv_aload_n S.1 S.2.1 dX5_isForced_47 rfl (lv_at hl 2 rfl) ?_
          refine lv_iload_n S.1 S.2.1 dX5_isForced_48 rfl (lv_at hl 3 rfl) ?_
          refine lv_iload_n S.1 S.2.1 dX5_isForced_49 rfl (lv_at hl 4 rfl) ?_
          refine c_VSz S hW (tX5_isMade l G ad σ44 army move (rowD (wr σ 0).toNat army n code other) 0 (by omega) (ha) (by rw [wq]; exact hWf) (n18) (by omega) (hLV) (by rw [wq]; exact q44_snd.1) (by omega)) (cw_X5_301 S.2.2.2.2 ⟨Nat.le_of_ble_eq_true rfl, Nat.le_of_ble_eq_true rfl⟩) eBlind_T (fun _ _ _ => trivial) (w_recv hW (q0 := 0) rfl rfl) rfl hl.1 (rest := []) rfl (Nat.le_of_ble_eq_true rfl) dX5_isForced_50 ⟨Nat.le_of_ble_eq_true rfl, Nat.le_of_ble_eq_true rfl⟩ (fun r50 σ50 H locs q50 hW => ?_)
          obtain ⟨rfl, q50_mad, q50_oth, q50_sm⟩ := q50
          refine r_as (b2i (dP (allU (fun other => hasM (wr σ) (rowD (wr σ 0).toNat army n code other) 0 army move) (other + 1)))) (congrArg b2i (dP_c (by rw [wq]; exact (allU_s c_17 ho.1).symm))) ?_
          refine lv_istore (lv' := [(5, .int (iI (b2i (dP (allU (fun other => hasM (wr σ) (rowD (wr σ 0).toNat army n code other) 0 army move) (other + 1)))))), (6, .int (iI other)), (0, .ref (ad 0)), (1, .int (iI army)), (2, .int (iI move)), (3, .int (iI n)), (4, .int (iI code))]) S.1 S.2.1 dX5_isForced_53 hl (by decide) rfl (fun ls hl => ?_)
          refine lv_iinc (v := iI (other + 1)) (lv' := [(6, .int (iI (other + 1))), (5, .int (iI (b2i (dP (allU (fun other => hasM (wr σ) (rowD (wr σ 0).toNat army n code other) 0 army move) (other + 1)))))), (0, .ref (ad 0)), (1, .int (iI army)), (2, .int (iI move)), (3, .int (iI n)), (4, .int (iI code))]) S.1 S.2.1 dX5_isForced_55 hl (k := 1) rfl (iI_add _ _) (by decide) rfl (fun ls hl => ?_)
          refine lv_goto (tgt := 6) S.1 S.2.1 dX5_isForced_58 rfl ?_
          exact ih_6 (other + 1) σ50 H _ _ (by omega) (same_tr hs44 q50_sm (by decide)) (by omega) hW (lv_sub hl [0, 1, 2, 3, 4, 5, 6] rfl)
  exact cut_6 _ 0 σ s.heap _ _ (by omega) (same_rf) (Nat.lt_succ_self _) hW (lv_sub hl [0, 1, 2, 3, 4, 5, 6] rfl)
