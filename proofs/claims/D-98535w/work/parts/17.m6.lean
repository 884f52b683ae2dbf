set_option maxHeartbeats 4000000 in
theorem tX5_isFrom (l : Launch) (G : GG) (ad : Nat → Nat) (σ : St) (army : Int) (o : Int) (k : Int) (L : List (Int × Int)) (s1 : Int) (hw0 : 0 ≤ σ 10 0 ∧ σ 10 0 ≤ 700) (ha : 0 ≤ army ∧ army ≤ 1) (hWf : WfWar (wr σ)) (hn : σ 18 0 = L.length) (hL : L.length ≤ 24) (hv : rowV L) (hs : fil σ 16 L.length (sd (wr σ) (rf L) s1)) (ho : 0 ≤ o ∧ o < wr σ (15 + army)) (hk : 0 ≤ k ∧ k ≤ 24) : Met l yX5_isFrom (ws_ yX5_isFrom cX5_isFrom 6 (some .boolean)) ⟨3, 0, 0, 65⟩ (wPre G shM ad σ (fun _ => True) [.ref (ad 0), .int (iI army), .int (iI o), .int (iI k)]) (qP (.int (iI (b2i (dP (fitP (wr σ) L s1 army o k)))))) 0 0 (aM ad) := by
  refine wStart (by decide) (Nat.le_of_ble_eq_true rfl) (fun k hk => ⟨k, hk, rfl⟩) (fun p e s m below meth c S hr hlk _ _ ls hW hl => ?_)
  have hl : lv_has ls 6 [(0, .ref (ad 0)), (1, .int (iI army)), (2, .int (iI o)), (3, .int (iI k))] := hl
  have hA := hWf.2.2.2.2 army ha.1 ha.2
  have h5 := hA.2.2.2.2.1
  have hh := hrs_rng (n := σ 18 0) hA (by omega)
  have hne : hrs (wr σ) (σ 18 0) army = hrs (wr σ) L.length army := by rw [hn]
  have hO := hA.2.2.2.2.2 o (by omega) (by omega)
  have hO2 := hO.2.1
  refine lv_iload_n S.1 S.2.1 dX5_isFrom_0 rfl (lv_at hl 3 rfl) ?_
  refine lv_aload_n S.1 S.2.1 dX5_isFrom_1 rfl (lv_at hl 0 rfl) ?_
  refine lv_iload_n S.1 S.2.1 dX5_isFrom_2 rfl (lv_at hl 1 rfl) ?_
  refine lv_iload_n S.1 S.2.1 dX5_isFrom_3 rfl (lv_at hl 2 rfl) ?_
  refine c_VP S hW (tX5_lengthOf l G ad σ army o (by omega) (by omega)) (cw_X5_230 S.2.2.2.2 ⟨Nat.le_of_ble_eq_true rfl, Nat.le_of_ble_eq_true rfl⟩) eBlind_T (fun _ _ _ => trivial) (w_recv hW (q0 := 0) rfl rfl) rfl hl.1 (rest := [.int (iI k)]) rfl (Nat.le_of_ble_eq_true rfl) dX5_isFrom_4 ⟨Nat.le_of_ble_eq_true rfl, Nat.le_of_ble_eq_true rfl⟩ (fun locs hW => ?_)
  refine r_iadd S dX5_isFrom_7 ?_
  refine lv_aload_n S.1 S.2.1 dX5_isFrom_8 rfl (lv_at hl 0 rfl) ?_
  refine lv_iload_n S.1 S.2.1 dX5_isFrom_9 rfl (lv_at hl 1 rfl) ?_
  refine c_VP S hW (tX5_hears l G ad σ army (by omega) (by omega) (by omega) (by omega)) (cw_X5_261 S.2.2.2.2 ⟨Nat.le_of_ble_eq_true rfl, Nat.le_of_ble_eq_true rfl⟩) eBlind_T (fun _ _ _ => trivial) (w_recv hW (q0 := 0) rfl rfl) rfl hl.1 (rest := [.int (iI (k + (oLen (wr σ) army o)))]) rfl (Nat.le_of_ble_eq_true rfl) dX5_isFrom_10 ⟨Nat.le_of_ble_eq_true rfl, Nat.le_of_ble_eq_true rfl⟩ (fun locs hW => ?_)
  have cut_26 : ∀ (N_26 : Nat) (i : Int) (locs : List Loc) (ls : Array Slot), (0 ≤ i ∧ i ≤ oLen (wr σ) army o) → ((oLen (wr σ) army o - i).toNat) < N_26 → WD G shM ad (aM ad) s s.heap σ s.heap locs → lv_has ls 6 [(0, .ref (ad 0)), (1, .int (iI army)), (2, .int (iI o)), (3, .int (iI k)), (4, .int (iI (b2i (dP (fitU (wr σ) L s1 army o k i))))), (5, .int (iI i))] → W p l e (⟨3, 0, 0, 65⟩ : Room) s m ([.ref (ad 0), .int (iI army), .int (iI o), .int (iI k)] : List Value).toArray below meth c s.heap locs 0 0 (MQ below (qP (.int (iI (b2i (dP (fitP (wr σ) L s1 army o k)))))) ([.ref (ad 0), .int (iI army), .int (iI o), .int (iI k)] : List Value).toArray s 0 0 (aM ad)) (F0 m 26 ls []) := by
    intro N_26
    induction N_26 with
    | zero =>
      intro i locs ls hi hμ_26 hW hl
      exact absurd hμ_26 (by omega)
    | succ N_26 ih_26 =>
      intro i locs ls hi hμ_26 hW hl
      refine lv_iload S.1 S.2.1 dX5_isFrom_26 (lv_at hl 5 rfl) ?_
      refine lv_aload_n S.1 S.2.1 dX5_isFrom_28 rfl (lv_at hl 0 rfl) ?_
      refine lv_iload_n S.1 S.2.1 dX5_isFrom_29 rfl (lv_at hl 1 rfl) ?_
      refine lv_iload_n S.1 S.2.1 dX5_isFrom_30 rfl (lv_at hl 2 rfl) ?_
      refine c_VP S hW (tX5_lengthOf l G ad σ army o (by omega) (by omega)) (cw_X5_230 S.2.2.2.2 ⟨Nat.le_of_ble_eq_true rfl, Nat.le_of_ble_eq_true rfl⟩) eBlind_T (fun _ _ _ => trivial) (w_recv hW (q0 := 0) rfl rfl) rfl hl.1 (rest := [.int (iI i)]) rfl (Nat.le_of_ble_eq_true rfl) dX5_isFrom_31 ⟨Nat.le_of_ble_eq_true rfl, Nat.le_of_ble_eq_true rfl⟩ (fun locs hW => ?_)
      refine r_icmp_ge S (tgt := 75) dX5_isFrom_34 rfl (by omega) (fun c_34 => ?_) (fun c_34 => ?_)
      ·
        refine lv_iload S.1 S.2.1 dX5_isFrom_75 (lv_at hl 4 rfl) ?_
        exact e_zP S hr hlk hW.2.2.2.2 (congrArg b2i (dP_c (fitU_end hi.2 (by first | exact Or.inl (by omega) | exact Or.inr c_39)))) dX5_isFrom_77
      ·
        refine lv_iload S.1 S.2.1 dX5_isFrom_37 (lv_at hl 4 rfl) ?_
        refine r_ifeq_p S (tgt := 75) dX5_isFrom_39 rfl (fun c_39 => ?_) (fun c_39 => ?_)
        ·
          refine lv_iload S.1 S.2.1 dX5_isFrom_75 (lv_at hl 4 rfl) ?_
          exact e_zP S hr hlk hW.2.2.2.2 (congrArg b2i (dP_c (fitU_end hi.2 (by first | exact Or.inl (by omega) | exact Or.inr c_39)))) dX5_isFrom_77
        ·
          have hx := c_39.1
          have hp := plc_rng hA (k := k + i) (n := L.length) (by omega) (by omega)
          have hq9 : σ 16 (plc (wr σ) army (k + i)) = hrd (wr σ) L s1 army (k + i) := hs _ hp.1 hp.2
          have hsr : 0 ≤ σ 16 (plc (wr σ) army (k + i)) ∧ σ 16 (plc (wr σ) army (k + i)) ≤ 3 := by rw [hq9]; exact sd_rng hWf (hv _ hp.1 hp.2)
          have hob := hO.2.2 i (by omega) (by omega)
          refine lv_aload_n S.1 S.2.1 dX5_isFrom_42 rfl (lv_at hl 0 rfl) ?_
          refine lv_iload_n S.1 S.2.1 dX5_isFrom_43 rfl (lv_at hl 1 rfl) ?_
          refine lv_iload_n S.1 S.2.1 dX5_isFrom_44 rfl (lv_at hl 3 rfl) ?_
          refine lv_iload S.1 S.2.1 dX5_isFrom_45 (lv_at hl 5 rfl) ?_
          refine r_iadd S dX5_isFrom_47 ?_
          refine c_VP S hW (tX5_heardAt l G ad σ army (k + i) (by omega) (by omega) (by omega)) (cw_X5_264 S.2.2.2.2 ⟨Nat.le_of_ble_eq_true rfl, Nat.le_of_ble_eq_true rfl⟩) eBlind_T (fun _ _ _ => trivial) (w_recv hW (q0 := 0) rfl rfl) rfl hl.1 (rest := []) rfl (Nat.le_of_ble_eq_true rfl) dX5_isFrom_48 ⟨Nat.le_of_ble_eq_true rfl, Nat.le_of_ble_eq_true rfl⟩ (fun locs hW => ?_)
          refine lv_aload_n S.1 S.2.1 dX5_isFrom_51 rfl (lv_at hl 0 rfl) ?_
          refine lv_iload_n S.1 S.2.1 dX5_isFrom_52 rfl (lv_at hl 1 rfl) ?_
          refine lv_iload_n S.1 S.2.1 dX5_isFrom_53 rfl (lv_at hl 2 rfl) ?_
          refine lv_iload S.1 S.2.1 dX5_isFrom_54 (lv_at hl 5 rfl) ?_
          refine c_VP S hW (tX5_beatOf l G ad σ army o i (by omega) (by omega)) (cw_X5_233 S.2.2.2.2 ⟨Nat.le_of_ble_eq_true rfl, Nat.le_of_ble_eq_true rfl⟩) eBlind_T (fun _ _ _ => trivial) (w_recv hW (q0 := 0) rfl rfl) rfl hl.1 (rest := [.int (iI (σ 16 (plc (wr σ) army (k + i))))]) rfl (Nat.le_of_ble_eq_true rfl) dX5_isFrom_56 ⟨Nat.le_of_ble_eq_true rfl, Nat.le_of_ble_eq_true rfl⟩ (fun locs hW => ?_)
          refine r_icmp_ne S (tgt := 66) dX5_isFrom_59 rfl (by omega) (fun c_59 => ?_) (fun c_59 => ?_)
          ·
            refine r_iconst S dX5_isFrom_66 ?_
            refine r_as (b2i (dP (fitU (wr σ) L s1 army o k (i + 1)))) (by first | exact dP_1 ((fitU_s c_39 (by omega)).mpr (by rw [← hq9]; exact c_59)) | exact dP_0 (fun z => c_59 (by rw [hq9]; exact (fitU_s c_39 (by omega)).mp z))) ?_
            refine lv_istore (lv' := [(4, .int (iI (b2i (dP (fitU (wr σ) L s1 army o k (i + 1)))))), (0, .ref (ad 0)), (1, .int (iI army)), (2, .int (iI o)), (3, .int (iI k)), (5, .int (iI i))]) S.1 S.2.1 dX5_isFrom_67 hl (by decide) rfl (fun ls hl => ?_)
            refine lv_iinc (v := iI (i + 1)) (lv' := [(5, .int (iI (i + 1))), (4, .int (iI (b2i (dP (fitU (wr σ) L s1 army o k (i + 1)))))), (0, .ref (ad 0)), (1, .int (iI army)), (2, .int (iI o)), (3, .int (iI k))]) S.1 S.2.1 dX5_isFrom_69 hl (k := 5) rfl (iI_add _ _) (by decide) rfl (fun ls hl => ?_)
            refine lv_goto (tgt := 26) S.1 S.2.1 dX5_isFrom_72 rfl ?_
            exact ih_26 (i + 1) _ _ (by omega) (by omega) hW (lv_sub hl [2, 3, 4, 5, 1, 0] rfl)
          ·
            refine r_iconst S dX5_isFrom_62 ?_
            refine lv_goto (tgt := 67) S.1 S.2.1 dX5_isFrom_63 rfl ?_
            refine r_as (b2i (dP (fitU (wr σ) L s1 army o k (i + 1)))) (by first | exact dP_1 ((fitU_s c_39 (by omega)).mpr (by rw [← hq9]; exact c_59)) | exact dP_0 (fun z => c_59 (by rw [hq9]; exact (fitU_s c_39 (by omega)).mp z))) ?_
            refine lv_istore (lv' := [(4, .int (iI (b2i (dP (fitU (wr σ) L s1 army o k (i + 1)))))), (0, .ref (ad 0)), (1, .int (iI army)), (2, .int (iI o)), (3, .int (iI k)), (5, .int (iI i))]) S.1 S.2.1 dX5_isFrom_67 hl (by decide) rfl (fun ls hl => ?_)
            refine lv_iinc (v := iI (i + 1)) (lv' := [(5, .int (iI (i + 1))), (4, .int (iI (b2i (dP (fitU (wr σ) L s1 army o k (i + 1)))))), (0, .ref (ad 0)), (1, .int (iI army)), (2, .int (iI o)), (3, .int (iI k))]) S.1 S.2.1 dX5_isFrom_69 hl (k := 5) rfl (iI_add _ _) (by decide) rfl (fun ls hl => ?_)
            refine lv_goto (tgt := 26) S.1 S.2.1 dX5_isFrom_72 rfl ?_
            exact ih_26 (i + 1) _ _ (by omega) (by omega) hW (lv_sub hl [2, 3, 4, 5, 1, 0] rfl)
  refine r_icmp_gt S (tgt := 20) dX5_isFrom_13 rfl (by omega) (fun c_13 => ?_) (fun c_13 => ?_)
  ·
    refine r_iconst S dX5_isFrom_20 ?_
    refine r_as (b2i (dP (fitU (wr σ) L s1 army o k 0))) (by first | exact dP_1 ⟨by omega, fun j j1 j2 => absurd j2 (by omega)⟩ | exact dP_0 (fun z => absurd z.1 (by omega))) ?_
    refine lv_istore (lv' := [(4, .int (iI (b2i (dP (fitU (wr σ) L s1 army o k 0))))), (0, .ref (ad 0)), (1, .int (iI army)), (2, .int (iI o)), (3, .int (iI k))]) S.1 S.2.1 dX5_isFrom_21 hl (by decide) rfl (fun ls hl => ?_)
    refine r_iconst S dX5_isFrom_23 ?_
    refine lv_istore (lv' := [(5, .int (iI 0)), (4, .int (iI (b2i (dP (fitU (wr σ) L s1 army o k 0))))), (0, .ref (ad 0)), (1, .int (iI army)), (2, .int (iI o)), (3, .int (iI k))]) S.1 S.2.1 dX5_isFrom_24 hl (by decide) rfl (fun ls hl => ?_)
    exact cut_26 _ 0 _ _ (by omega) (Nat.lt_succ_self _) hW (lv_sub hl [2, 3, 4, 5, 1, 0] rfl)
  ·
    refine r_iconst S dX5_isFrom_16 ?_
    refine lv_goto (tgt := 21) S.1 S.2.1 dX5_isFrom_17 rfl ?_
    refine r_as (b2i (dP (fitU (wr σ) L s1 army o k 0))) (by first | exact dP_1 ⟨by omega, fun j j1 j2 => absurd j2 (by omega)⟩ | exact dP_0 (fun z => absurd z.1 (by omega))) ?_
    refine lv_istore (lv' := [(4, .int (iI (b2i (dP (fitU (wr σ) L s1 army o k 0))))), (0, .ref (ad 0)), (1, .int (iI army)), (2, .int (iI o)), (3, .int (iI k))]) S.1 S.2.1 dX5_isFrom_21 hl (by decide) rfl (fun ls hl => ?_)
    refine r_iconst S dX5_isFrom_23 ?_
    refine lv_istore (lv' := [(5, .int (iI 0)), (4, .int (iI (b2i (dP (fitU (wr σ) L s1 army o k 0))))), (0, .ref (ad 0)), (1, .int (iI army)), (2, .int (iI o)), (3, .int (iI k))]) S.1 S.2.1 dX5_isFrom_24 hl (by decide) rfl (fun ls hl => ?_)
    exact cut_26 _ 0 _ _ (by omega) (Nat.lt_succ_self _) hW (lv_sub hl [2, 3, 4, 5, 1, 0] rfl)
theorem hd_X5_isFrom : yX5_isFrom.cls = RX5 ∧ yX5_isFrom.cls ≠ "java/lang/invoke/MethodHandle" ∧ yX5_isFrom.cls ≠ "java/lang/invoke/VarHandle" ∧ (parseMethodDescriptor yX5_isFrom.desc).map (fun d => d.parameters.length) = some 3 := by decide +kernel
theorem cw_X5_267 {R : Room} {s : State} {args : Array Value} (ht : ∀ w ∈ lw_all, w.before args s = true) (hR : 3 + 1 ≤ R.frames ∧ 8 + (6 + 11) + 65 ≤ R.locals) : CallW R s args "OneDrumModel" RX5 267 yX5_isFrom cX5_isFrom 6 (some .boolean) (ws_ yX5_isFrom cX5_isFrom 6 (some .boolean)) ⟨3, 0, 0, 65⟩ 0 0 3 := cwV 3 ht (lw_V q1975 q1977 qs84 q126 q1978) rfl rfl rfl hd_X5_isFrom hR
set_option maxHeartbeats 4000000 in
theorem tX5_makes (l : Launch) (G : GG) (ad : Nat → Nat) (σ : St) (army : Int) (L : List (Int × Int)) (s1 : Int) (hw0 : 0 ≤ σ 10 0 ∧ σ 10 0 ≤ 700) (ha : 0 ≤ army ∧ army ≤ 1) (hWf : WfWar (wr σ)) (hn : σ 18 0 = L.length) (hL : L.length ≤ 24) (hv : rowV L) (hs : fil σ 16 L.length (sd (wr σ) (rf L) s1)) : Met l yX5_makes (ws_ yX5_makes cX5_makes 5 none) ⟨4, 0, 0, 90⟩ (wPre G shM ad σ (fun _ => True) [.ref (ad 0), .int (iI army)]) (qS G shM ad (aM ad) (rV (fun σ' => (Mad σ' (wr σ) L s1 army) ∧ (Oth σ σ' army) ∧ (same [19, 20, 21, 22, 23] σ σ')))) 0 0 (aM ad) := by
  refine wStart (by decide) (Nat.le_of_ble_eq_true rfl) (fun k hk => ⟨k, hk, rfl⟩) (fun p e s m below meth c S hr hlk _ _ ls hW hl => ?_)
  have hl : lv_has ls 5 [(0, .ref (ad 0)), (1, .int (iI army))] := hl
  have hA := hWf.2.2.2.2 army ha.1 ha.2
  have h5 := hA.2.2.2.2.1
  have hh := hrs_rng (n := σ 18 0) hA (by omega)
  have hne : hrs (wr σ) (σ 18 0) army = hrs (wr σ) L.length army := by rw [hn]
  have hM := mvs_len (s := s1) hA hL
  refine lv_aload_n S.1 S.2.1 dX5_makes_0 rfl (lv_at hl 0 rfl) ?_
  refine w_getr S hW in_X5 0 rfl rfl 22 (by decide) q1673 rfl rfl dX5_makes_1 ?_
  refine lv_iload_n S.1 S.2.1 dX5_makes_4 rfl (lv_at hl 1 rfl) ?_
  refine r_iconst S dX5_makes_5 ?_
  refine w_ast S hW 13 0 rfl rfl rfl (z := 0) (by omega) dX5_makes_6 (fun H locs hW => ?_)
  refine lv_aload_n S.1 S.2.1 dX5_makes_7 rfl (lv_at hl 0 rfl) ?_
  refine w_getr S hW in_X5 0 rfl rfl 23 (by decide) q1674 rfl rfl dX5_makes_8 ?_
  refine lv_iload_n S.1 S.2.1 dX5_makes_11 rfl (lv_at hl 1 rfl) ?_
  refine r_iconst S dX5_makes_12 ?_
  refine w_ast S hW 14 0 rfl rfl rfl (z := 0) (by omega) dX5_makes_13 (fun H locs hW => ?_)
  refine r_iconst S dX5_makes_14 ?_
  refine lv_istore_n (lv' := [(2, .int (iI 0)), (0, .ref (ad 0)), (1, .int (iI army))]) S.1 S.2.1 dX5_makes_15 rfl hl (by decide) rfl (fun ls hl => ?_)
  have cut_16 : ∀ (N_16 : Nat) (k : Int) (σ1 : St) (H : Heap) (locs : List Loc) (ls : Array Slot), (0 ≤ k ∧ k ≤ hrs (wr σ) L.length army) → (same [19, 20, 21, 22, 23] σ σ1) → (MadU σ σ1 (wr σ) L s1 army k) → ((hrs (wr σ) L.length army - k).toNat) < N_16 → WD G shM ad (aM ad) s s.heap σ1 H locs → lv_has ls 5 [(2, .int (iI k)), (0, .ref (ad 0)), (1, .int (iI army))] → W p l e (⟨4, 0, 0, 90⟩ : Room) s m ([.ref (ad 0), .int (iI army)] : List Value).toArray below meth c H locs 0 0 (MQ below (qS G shM ad (aM ad) (rV (fun σ' => (Mad σ' (wr σ) L s1 army) ∧ (Oth σ σ' army) ∧ (same [19, 20, 21, 22, 23] σ σ')))) ([.ref (ad 0), .int (iI army)] : List Value).toArray s 0 0 (aM ad)) (F0 m 16 ls []) := by
    intro N_16
    induction N_16 with
    | zero =>
      intro k σ1 H locs ls hk hsm hU hμ_16 hW hl
      exact absurd hμ_16 (by omega)
    | succ N_16 ih_16 =>
      intro k σ1 H locs ls hk hsm hU hμ_16 hW hl
      have e0 : σ1 0 = σ 0 := hsm 0 (by decide)
      have e10 : σ1 10 = σ 10 := hsm 10 (by decide)
      have e18 : σ1 18 = σ 18 := hsm 18 (by decide)
      have e16 : σ1 16 = σ 16 := hsm 16 (by decide)
      have wq : wr σ1 = wr σ := by funext j; simp only [wr, e0, e10]
      have w10 : σ1 10 0 = σ 10 0 := by rw [e10]
      have n18 : σ1 18 0 = L.length := by rw [e18]; exact hn
      have hU1 := hU.1
      have hU2 := hU.2.2.1
      have hrq : hrs (wr σ1) (σ1 18 0) army = hrs (wr σ) L.length army := by rw [wq, n18]
      have orq : wr σ1 (15 + army) = wr σ (15 + army) := by rw [wq]
      refine lv_iload_n S.1 S.2.1 dX5_makes_16 rfl (lv_at hl 0 rfl) ?_
      refine lv_aload_n S.1 S.2.1 dX5_makes_17 rfl (lv_at hl 1 rfl) ?_
      refine lv_iload_n S.1 S.2.1 dX5_makes_18 rfl (lv_at hl 2 rfl) ?_
      refine c_VP S hW (tX5_hears l G ad σ1 army (by omega) (by omega) (by rw [wq]; exact hA) (by omega)) (cw_X5_261 S.2.2.2.2 ⟨Nat.le_of_ble_eq_true rfl, Nat.le_of_ble_eq_true rfl⟩) eBlind_T (fun _ _ _ => trivial) (w_recv hW (q0 := 0) rfl rfl) rfl hl.1 (rest := [.int (iI k)]) rfl (Nat.le_of_ble_eq_true rfl) dX5_makes_19 ⟨Nat.le_of_ble_eq_true rfl, Nat.le_of_ble_eq_true rfl⟩ (fun locs hW => ?_)
      refine r_icmp_ge S (tgt := 172) dX5_makes_22 rfl (by omega) (fun c_22 => ?_) (fun c_22 => ?_)
      ·
        exact e_vS S hr hlk hW ⟨rfl, ⟨((MadU_end hU (by omega)).1), ((MadU_end hU (by omega)).2), (hsm)⟩⟩ dX5_makes_172
      ·
        refine r_iconst S dX5_makes_25 ?_
        refine lv_istore_n (lv' := [(3, .int (iI (-1))), (2, .int (iI k)), (0, .ref (ad 0)), (1, .int (iI army))]) S.1 S.2.1 dX5_makes_26 rfl hl (by decide) rfl (fun ls hl => ?_)
        refine lv_aload_n S.1 S.2.1 dX5_makes_27 rfl (lv_at hl 2 rfl) ?_
        refine lv_iload_n S.1 S.2.1 dX5_makes_28 rfl (lv_at hl 3 rfl) ?_
        refine c_VP S hW (tX5_orders l G ad σ1 army (by omega) (by omega)) (cw_X5_221 S.2.2.2.2 ⟨Nat.le_of_ble_eq_true rfl, Nat.le_of_ble_eq_true rfl⟩) eBlind_T (fun _ _ _ => trivial) (w_recv hW (q0 := 0) rfl rfl) rfl hl.1 (rest := []) rfl (Nat.le_of_ble_eq_true rfl) dX5_makes_29 ⟨Nat.le_of_ble_eq_true rfl, Nat.le_of_ble_eq_true rfl⟩ (fun locs hW => ?_)
        refine r_iconst S dX5_makes_32 ?_
        refine r_isub S dX5_makes_33 ?_
        refine lv_istore (lv' := [(4, .int (iI ((wr σ1 (15 + army)) - 1))), (3, .int (iI (-1))), (2, .int (iI k)), (0, .ref (ad 0)), (1, .int (iI army))]) S.1 S.2.1 dX5_makes_34 hl (by decide) rfl (fun ls hl => ?_)
        have cut_36 : ∀ (N_36 : Nat) (best i : Int) (H : Heap) (locs : List Loc) (ls : Array Slot), (-1 ≤ i ∧ i < wr σ (15 + army) ∧ -1 ≤ best ∧ best ≤ 5) → (isB (wr σ) L s1 army k (i + 1) (wr σ (15 + army)) best) → ((i + 1).toNat) < N_36 → WD G shM ad (aM ad) s s.heap σ1 H locs → lv_has ls 5 [(4, .int (iI i)), (3, .int (iI best)), (2, .int (iI k)), (0, .ref (ad 0)), (1, .int (iI army))] → W p l e (⟨4, 0, 0, 90⟩ : Room) s m ([.ref (ad 0), .int (iI army)] : List Value).toArray below meth c H locs 0 0 (MQ below (qS G shM ad (aM ad) (rV (fun σ' => (Mad σ' (wr σ) L s1 army) ∧ (Oth σ σ' army) ∧ (same [19, 20, 21, 22, 23] σ σ')))) ([.ref (ad 0), .int (iI army)] : List Value).toArray s 0 0 (aM ad)) (F0 m 36 ls []) := by
          intro N_36
          induction N_36 with
          | zero =>
            intro best i H locs ls hi hB hμ_36 hW hl
            exact absurd hμ_36 (by omega)
          | succ N_36 ih_36 =>
            intro best i H locs ls hi hB hμ_36 hW hl
            refine lv_iload S.1 S.2.1 dX5_makes_36 (lv_at hl 0 rfl) ?_
            refine r_if_lt S (tgt := 82) dX5_makes_38 rfl (by omega) (fun c_38 => ?_) (fun c_38 => ?_)
            ·
              have eb : best = bN (wr σ) L s1 army k := isB_u (by omega) (by rw [show i + 1 = 0 by omega] at hB; exact hB) (bN_B h5.1)
              refine lv_iload_n S.1 S.2.1 dX5_makes_82 rfl (lv_at hl 1 rfl) ?_
              refine r_iconst S dX5_makes_83 ?_
              refine r_icmp_ne S (tgt := 103) dX5_makes_84 rfl (by omega) (fun c_84 => ?_) (fun c_84 => ?_)
              ·
                have hb9 := isB_in hB c_84
                have hfb := hb9.2.2.1
                have hOb := (hA.2.2.2.2.2 best (by omega) (by omega)).2.1
                have hy := MadU_yes hU (by omega) (by rw [← eb]; exact c_84) (by rw [← eb]; omega) ha.1 hM.1
                rw [← eb] at hy
                refine r_bipush S dX5_makes_103 (by decide) ?_
                refine lv_iload_n S.1 S.2.1 dX5_makes_105 rfl (lv_at hl 4 rfl) ?_
                refine r_imul S dX5_makes_106 ?_
                refine lv_aload_n S.1 S.2.1 dX5_makes_107 rfl (lv_at hl 3 rfl) ?_
                refine w_getr S hW in_X5 0 rfl rfl 22 (by decide) q1673 rfl rfl dX5_makes_108 ?_
                refine lv_iload_n S.1 S.2.1 dX5_makes_111 rfl (lv_at hl 4 rfl) ?_
                refine w_ald S hW 13 0 rfl rfl (by omega) dX5_makes_112 ?_
                refine r_iadd S dX5_makes_113 ?_
                refine lv_istore (lv' := [(4, .int (iI ((24 * army) + (σ1 22 army)))), (3, .int (iI best)), (2, .int (iI k)), (0, .ref (ad 0)), (1, .int (iI army))]) S.1 S.2.1 dX5_makes_114 hl (by decide) rfl (fun ls hl => ?_)
                refine lv_aload_n S.1 S.2.1 dX5_makes_116 rfl (lv_at hl 3 rfl) ?_
                refine w_getr S hW in_X5 0 rfl rfl 19 (by decide) q1670 rfl rfl dX5_makes_117 ?_
                refine lv_iload S.1 S.2.1 dX5_makes_120 (lv_at hl 0 rfl) ?_
                refine lv_aload_n S.1 S.2.1 dX5_makes_122 rfl (lv_at hl 3 rfl) ?_
                refine w_getr S hW in_X5 0 rfl rfl 0 (by decide) q1651 rfl rfl dX5_makes_123 ?_
                refine lv_aload_n S.1 S.2.1 dX5_makes_126 rfl (lv_at hl 3 rfl) ?_
                refine lv_iload_n S.1 S.2.1 dX5_makes_127 rfl (lv_at hl 4 rfl) ?_
                refine lv_iload_n S.1 S.2.1 dX5_makes_128 rfl (lv_at hl 1 rfl) ?_
                refine c_VP S hW (tX5_orderAt l G ad σ1 army best) (cw_X5_215 S.2.2.2.2 ⟨Nat.le_of_ble_eq_true rfl, Nat.le_of_ble_eq_true rfl⟩) eBlind_T (fun _ _ _ => trivial) (w_recv hW (q0 := 0) rfl rfl) rfl hl.1 (rest := [.ref (ad 1), .int (iI ((24 * army) + (σ1 22 army))), .ref (ad 10)]) rfl (Nat.le_of_ble_eq_true rfl) dX5_makes_129 ⟨Nat.le_of_ble_eq_true rfl, Nat.le_of_ble_eq_true rfl⟩ (fun locs hW => ?_)
                refine w_ald S hW 1 0 rfl rfl (by omega) dX5_makes_132 ?_
                refine r_as (oMove (wr σ) army best) (by simp only [oMove, wr]; rw [e0, w10]; congr 1; omega) ?_
                refine w_ast S hW 10 0 rfl rfl rfl (z := (oMove (wr σ) army best)) (by omega) dX5_makes_133 (fun H locs hW => ?_)
                refine lv_aload_n S.1 S.2.1 dX5_makes_134 rfl (lv_at hl 3 rfl) ?_
                refine w_getr S hW in_X5 0 rfl rfl 20 (by decide) q1671 rfl rfl dX5_makes_135 ?_
                refine lv_iload S.1 S.2.1 dX5_makes_138 (lv_at hl 0 rfl) ?_
                refine lv_iload_n S.1 S.2.1 dX5_makes_140 rfl (lv_at hl 1 rfl) ?_
                refine w_ast S hW 11 0 rfl rfl rfl (z := best) (by omega) dX5_makes_141 (fun H locs hW => ?_)
                refine lv_aload_n S.1 S.2.1 dX5_makes_142 rfl (lv_at hl 3 rfl) ?_
                refine w_getr S hW in_X5 0 rfl rfl 21 (by decide) q1672 rfl rfl dX5_makes_143 ?_
                refine lv_iload S.1 S.2.1 dX5_makes_146 (lv_at hl 0 rfl) ?_
                refine lv_iload_n S.1 S.2.1 dX5_makes_148 rfl (lv_at hl 2 rfl) ?_
                refine w_ast S hW 12 0 rfl rfl rfl (z := k) (by omega) dX5_makes_149 (fun H locs hW => ?_)
                refine lv_aload_n S.1 S.2.1 dX5_makes_150 rfl (lv_at hl 3 rfl) ?_
                refine w_getr S hW in_X5 0 rfl rfl 22 (by decide) q1673 rfl rfl dX5_makes_151 ?_
                refine lv_iload_n S.1 S.2.1 dX5_makes_154 rfl (lv_at hl 4 rfl) ?_
                refine lv_dup2_11 S.1 S.2.1 dX5_makes_155 rfl rfl ?_
                refine w_ald S hW 13 0 rfl rfl (by omega) dX5_makes_156 ?_
                refine r_as (σ1 22 army) ((up_ne (by decide)).trans ((up_ne (by decide)).trans (up_ne (by decide)))) ?_
                refine r_iconst S dX5_makes_157 ?_
                refine r_iadd S dX5_makes_158 ?_
                refine w_ast S hW 13 0 rfl rfl rfl (z := ((σ1 22 army) + 1)) (by omega) dX5_makes_159 (fun H locs hW => ?_)
                obtain ⟨σ9, e_σ9⟩ : ∃ z, z = (up (up (up (up σ1 19 ((24 * army) + (σ1 22 army)) (oMove (wr σ) army best)) 20 ((24 * army) + (σ1 22 army)) best) 21 ((24 * army) + (σ1 22 army)) k) 22 army ((σ1 22 army) + 1)) := ⟨_, rfl⟩
                rw [← e_σ9] at hW
                have hsm9 : same [19, 20, 21, 22, 23] σ σ9 := by rw [e_σ9]; exact same_up (same_up (same_up (same_up hsm (by decide)) (by decide)) (by decide)) (by decide)
                have f0 : σ9 0 = σ 0 := hsm9 0 (by decide)
                have f10 : σ9 10 = σ 10 := hsm9 10 (by decide)
                have e18 : σ9 18 = σ 18 := hsm9 18 (by decide)
                have e16 : σ9 16 = σ 16 := hsm9 16 (by decide)
                have wq9 : wr σ9 = wr σ := by funext j; simp only [wr, f0, f10]
                have w10 : σ9 10 0 = σ 10 0 := by rw [f10]
                have n18 : σ9 18 0 = L.length := by rw [e18]; exact hn
                refine lv_iload_n S.1 S.2.1 dX5_makes_160 rfl (lv_at hl 2 rfl) ?_
                refine lv_aload_n S.1 S.2.1 dX5_makes_161 rfl (lv_at hl 3 rfl) ?_
                refine lv_iload_n S.1 S.2.1 dX5_makes_162 rfl (lv_at hl 4 rfl) ?_
                refine lv_iload_n S.1 S.2.1 dX5_makes_163 rfl (lv_at hl 1 rfl) ?_
                refine c_VP S hW (tX5_lengthOf l G ad σ9 army best (by omega) (by omega)) (cw_X5_230 S.2.2.2.2 ⟨Nat.le_of_ble_eq_true rfl, Nat.le_of_ble_eq_true rfl⟩) eBlind_T (fun _ _ _ => trivial) (w_recv hW (q0 := 0) rfl rfl) rfl hl.1 (rest := [.int (iI k)]) rfl (Nat.le_of_ble_eq_true rfl) dX5_makes_164 ⟨Nat.le_of_ble_eq_true rfl, Nat.le_of_ble_eq_true rfl⟩ (fun locs hW => ?_)
                refine r_as (oLen (wr σ) army best) (by rw [wq9]) ?_
                refine r_iadd S dX5_makes_167 ?_
                refine lv_istore_n (lv' := [(2, .int (iI (k + (oLen (wr σ) army best)))), (4, .int (iI ((24 * army) + (σ1 22 army)))), (3, .int (iI best)), (0, .ref (ad 0)), (1, .int (iI army))]) S.1 S.2.1 dX5_makes_168 rfl hl (by decide) rfl (fun ls hl => ?_)
                refine lv_goto (tgt := 16) S.1 S.2.1 dX5_makes_169 rfl ?_
                exact ih_16 (k + (oLen (wr σ) army best)) σ9 H _ _ (by omega) (hsm9) (by rw [e_σ9]; exact hy.2) (by omega) hW (lv_sub hl [0, 3, 4] rfl)
              ·
                refine lv_aload_n S.1 S.2.1 dX5_makes_87 rfl (lv_at hl 3 rfl) ?_
                refine w_getr S hW in_X5 0 rfl rfl 23 (by decide) q1674 rfl rfl dX5_makes_88 ?_
                refine lv_iload_n S.1 S.2.1 dX5_makes_91 rfl (lv_at hl 4 rfl) ?_
                refine lv_dup2_11 S.1 S.2.1 dX5_makes_92 rfl rfl ?_
                refine w_ald S hW 14 0 rfl rfl (by omega) dX5_makes_93 ?_
                refine r_iconst S dX5_makes_94 ?_
                refine r_iadd S dX5_makes_95 ?_
                refine w_ast S hW 14 0 rfl rfl rfl (z := ((σ1 23 army) + 1)) (by omega) dX5_makes_96 (fun H locs hW => ?_)
                refine lv_iinc (v := iI (k + 1)) (lv' := [(2, .int (iI (k + 1))), (4, .int (iI i)), (3, .int (iI best)), (0, .ref (ad 0)), (1, .int (iI army))]) S.1 S.2.1 dX5_makes_97 hl (k := 2) rfl (iI_add _ _) (by decide) rfl (fun ls hl => ?_)
                refine lv_goto (tgt := 16) S.1 S.2.1 dX5_makes_100 rfl ?_
                exact ih_16 (k + 1) (up σ1 23 army ((σ1 23 army) + 1)) H _ _ (by omega) (same_up hsm (by decide)) (MadU_no hU (by omega) (by rw [← eb]; exact c_84)) (by omega) hW (lv_sub hl [0, 3, 4] rfl)
            ·
              have hO := hA.2.2.2.2.2 i (by omega) (by omega)
              have hO2 := hO.2.1
              have oli : oLen (wr σ1) army i = oLen (wr σ) army i := by rw [wq]
              refine lv_aload_n S.1 S.2.1 dX5_makes_41 rfl (lv_at hl 3 rfl) ?_
              refine lv_iload_n S.1 S.2.1 dX5_makes_42 rfl (lv_at hl 4 rfl) ?_
              refine lv_iload S.1 S.2.1 dX5_makes_43 (lv_at hl 0 rfl) ?_
              refine lv_iload_n S.1 S.2.1 dX5_makes_45 rfl (lv_at hl 2 rfl) ?_
              have cut_76 : ∀ (b2 : Int) (H : Heap) (locs : List Loc) (ls : Array Slot), (-1 ≤ b2 ∧ b2 ≤ 5) → (isB (wr σ) L s1 army k i (wr σ (15 + army)) b2) → WD G shM ad (aM ad) s s.heap σ1 H locs → lv_has ls 5 [(4, .int (iI i)), (3, .int (iI b2)), (2, .int (iI k)), (0, .ref (ad 0)), (1, .int (iI army))] → W p l e (⟨4, 0, 0, 90⟩ : Room) s m ([.ref (ad 0), .int (iI army)] : List Value).toArray below meth c H locs 0 0 (MQ below (qS G shM ad (aM ad) (rV (fun σ' => (Mad σ' (wr σ) L s1 army) ∧ (Oth σ σ' army) ∧ (same [19, 20, 21, 22, 23] σ σ')))) ([.ref (ad 0), .int (iI army)] : List Value).toArray s 0 0 (aM ad)) (F0 m 76 ls []) := by
                intro b2 H locs ls hb2 hB2 hW hl
                refine lv_iinc (v := iI (i + (-1))) (lv' := [(4, .int (iI (i + (-1)))), (3, .int (iI b2)), (2, .int (iI k)), (0, .ref (ad 0)), (1, .int (iI army))]) S.1 S.2.1 dX5_makes_76 hl (k := 0) rfl (iI_add _ _) (by decide) rfl (fun ls hl => ?_)
                refine lv_goto (tgt := 36) S.1 S.2.1 dX5_makes_79 rfl ?_
                exact ih_36 b2 (i + (-1)) H _ _ (by omega) (by rw [show i + (-1) + 1 = i by omega]; exact hB2) (by omega) hW (lv_sub hl [0, 1, 2, 3, 4] rfl)
              refine c_VP S hW (tX5_isFrom l G ad σ1 army i k L s1 (by omega) (by omega) (by rw [wq]; exact hWf) (n18) (hL) (hv) (by rw [wq]; exact fil_eq hs e16) (by omega) (by omega)) (cw_X5_267 S.2.2.2.2 ⟨Nat.le_of_ble_eq_true rfl, Nat.le_of_ble_eq_true rfl⟩) eBlind_T (fun _ _ _ => trivial) (w_recv hW (q0 := 0) rfl rfl) rfl hl.1 (rest := []) rfl (Nat.le_of_ble_eq_true rfl) dX5_makes_46 ⟨Nat.le_of_ble_eq_true rfl, Nat.le_of_ble_eq_true rfl⟩ (fun locs hW => ?_)
              refine r_ifeq_p S (tgt := 76) dX5_makes_49 rfl (fun c_49 => ?_) (fun c_49 => ?_)
              ·
                rw [wq] at c_49
                exact cut_76 best H _ _ (by omega) (isB_no hB c_49) hW (lv_sub hl [0, 1, 2, 3, 4] rfl)
              ·
                rw [wq] at c_49
                refine lv_iload_n S.1 S.2.1 dX5_makes_52 rfl (lv_at hl 1 rfl) ?_
                refine r_iconst S dX5_makes_53 ?_
                refine r_icmp_eq S (tgt := 73) dX5_makes_54 rfl (by omega) (fun c_54 => ?_) (fun c_54 => ?_)
                ·
                  refine lv_iload S.1 S.2.1 dX5_makes_73 (lv_at hl 0 rfl) ?_
                  refine lv_istore_n (lv' := [(3, .int (iI i)), (4, .int (iI i)), (2, .int (iI k)), (0, .ref (ad 0)), (1, .int (iI army))]) S.1 S.2.1 dX5_makes_75 rfl hl (by decide) rfl (fun ls hl => ?_)
                  exact cut_76 i H _ _ (by omega) (isB_new hB c_49 (by omega) (by first | exact Or.inl c_54 | exact Or.inr (by omega))) hW (lv_sub hl [1, 0, 2, 3, 4] rfl)
                ·
                  have hbi := isB_in hB c_54
                  have hOb := (hA.2.2.2.2.2 best (by omega) (by omega)).2.1
                  have olb : oLen (wr σ1) army best = oLen (wr σ) army best := by rw [wq]
                  refine lv_aload_n S.1 S.2.1 dX5_makes_57 rfl (lv_at hl 3 rfl) ?_
                  refine lv_iload_n S.1 S.2.1 dX5_makes_58 rfl (lv_at hl 4 rfl) ?_
                  refine lv_iload S.1 S.2.1 dX5_makes_59 (lv_at hl 0 rfl) ?_
                  refine c_VP S hW (tX5_lengthOf l G ad σ1 army i (by omega) (by omega)) (cw_X5_230 S.2.2.2.2 ⟨Nat.le_of_ble_eq_true rfl, Nat.le_of_ble_eq_true rfl⟩) eBlind_T (fun _ _ _ => trivial) (w_recv hW (q0 := 0) rfl rfl) rfl hl.1 (rest := []) rfl (Nat.le_of_ble_eq_true rfl) dX5_makes_61 ⟨Nat.le_of_ble_eq_true rfl, Nat.le_of_ble_eq_true rfl⟩ (fun locs hW => ?_)
                  refine lv_aload_n S.1 S.2.1 dX5_makes_64 rfl (lv_at hl 3 rfl) ?_
                  refine lv_iload_n S.1 S.2.1 dX5_makes_65 rfl (lv_at hl 4 rfl) ?_
                  refine lv_iload_n S.1 S.2.1 dX5_makes_66 rfl (lv_at hl 1 rfl) ?_
                  refine c_VP S hW (tX5_lengthOf l G ad σ1 army best (by omega) (by omega)) (cw_X5_230 S.2.2.2.2 ⟨Nat.le_of_ble_eq_true rfl, Nat.le_of_ble_eq_true rfl⟩) eBlind_T (fun _ _ _ => trivial) (w_recv hW (q0 := 0) rfl rfl) rfl hl.1 (rest := [.int (iI (oLen (wr σ1) army i))]) rfl (Nat.le_of_ble_eq_true rfl) dX5_makes_67 ⟨Nat.le_of_ble_eq_true rfl, Nat.le_of_ble_eq_true rfl⟩ (fun locs hW => ?_)
                  refine r_icmp_lt S (tgt := 76) dX5_makes_70 rfl (by omega) (fun c_70 => ?_) (fun c_70 => ?_)
                  ·
                    exact cut_76 best H _ _ (by omega) (isB_keep hB c_54 (by omega)) hW (lv_sub hl [0, 1, 2, 3, 4] rfl)
                  ·
                    refine lv_iload S.1 S.2.1 dX5_makes_73 (lv_at hl 0 rfl) ?_
                    refine lv_istore_n (lv' := [(3, .int (iI i)), (4, .int (iI i)), (2, .int (iI k)), (0, .ref (ad 0)), (1, .int (iI army))]) S.1 S.2.1 dX5_makes_75 rfl hl (by decide) rfl (fun ls hl => ?_)
                    exact cut_76 i H _ _ (by omega) (isB_new hB c_49 (by omega) (by first | exact Or.inl c_54 | exact Or.inr (by omega))) hW (lv_sub hl [1, 0, 2, 3, 4] rfl)
        exact cut_36 _ (-1) ((wr σ1 (15 + army)) - 1) H _ _ (by omega) (Or.inl ⟨rfl, fun o h1 h2 => absurd h2 (by omega)⟩) (Nat.lt_succ_self _) hW (lv_sub hl [0, 1, 2, 3, 4] rfl)
  exact cut_16 _ 0 (up (up σ 22 army 0) 23 army 0) H _ _ (by omega) (same_up (same_up same_rf (by decide)) (by decide)) (MadU_0) (Nat.lt_succ_self _) hW (lv_sub hl [0, 1, 2] rfl)
