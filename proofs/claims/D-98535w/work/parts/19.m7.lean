set_option maxHeartbeats 4000000 in
theorem tX5_purity (l : Launch) (G : GG) (ad : Nat → Nat) (σ : St) (army : Int) (at_ : Int) (L : List (Int × Int)) (s1 : Int) (j : Int) (hw0 : 0 ≤ σ 10 0 ∧ σ 10 0 ≤ 700) (ha : 0 ≤ army ∧ army ≤ 1) (hWf : WfWar (wr σ)) (hn : σ 18 0 = L.length) (hL : L.length ≤ 24) (hv : rowV L) (hs : fil σ 16 L.length (sd (wr σ) (rf L) s1)) (hg : fil σ 15 L.length (rg L)) (hgv : ∀ i : Int, 0 ≤ i → i < L.length → 0 ≤ rg L i ∧ rg L i ≤ 1) (hmd : Mad σ (wr σ) L s1 army) (hj : at_ = 24 * army + j ∧ 0 ≤ j ∧ j < (mvs (wr σ) L s1 army).length) : Met l yX5_purity (ws_ yX5_purity cX5_purity 6 (some .int)) ⟨2, 0, 0, 44⟩ (wPre G shM ad σ (fun _ => True) [.ref (ad 0), .int (iI army), .int (iI at_)]) (qP (.int (iI (pur (wr σ) L army (rf (mvs (wr σ) L s1 army) j) (rg (mvs (wr σ) L s1 army) j))))) 0 0 (aM ad) := by
  refine wStart (by decide) (Nat.le_of_ble_eq_true rfl) (fun k hk => ⟨k, hk, rfl⟩) (fun p e s m below meth c S hr hlk _ _ ls hW hl => ?_)
  have hl : lv_has ls 6 [(0, .ref (ad 0)), (1, .int (iI army)), (2, .int (iI at_))] := hl
  have hA := hWf.2.2.2.2 army ha.1 ha.2
  have h5 := hA.2.2.2.2.1
  have hh := hrs_rng (n := σ 18 0) hA (by omega)
  have hne : hrs (wr σ) (σ 18 0) army = hrs (wr σ) L.length army := by rw [hn]
  have hM := mvs_len (s := s1) hA hL
  have hE := hmd.2.2 j hj.2.1 hj.2.2
  rw [← hj.1] at hE
  have hB := mvs_at (s := s1) (L := L) hA hj.2
  have hO := (hA.2.2.2.2.2 _ hB.1 hB.2.1).2.1
  have ole : oLen (wr σ) army (σ 20 at_) = oLen (wr σ) army (rf (mvs (wr σ) L s1 army) j) := by rw [hE.2.1]
  refine r_iconst S dX5_purity_0 ?_
  refine lv_istore_n (lv' := [(3, .int (iI 0)), (0, .ref (ad 0)), (1, .int (iI army)), (2, .int (iI at_))]) S.1 S.2.1 dX5_purity_1 rfl hl (by decide) rfl (fun ls hl => ?_)
  refine lv_aload_n S.1 S.2.1 dX5_purity_2 rfl (lv_at hl 1 rfl) ?_
  refine lv_iload_n S.1 S.2.1 dX5_purity_3 rfl (lv_at hl 2 rfl) ?_
  refine lv_aload_n S.1 S.2.1 dX5_purity_4 rfl (lv_at hl 1 rfl) ?_
  refine w_getr S hW in_X5 0 rfl rfl 20 (by decide) q1671 rfl rfl dX5_purity_5 ?_
  refine lv_iload_n S.1 S.2.1 dX5_purity_8 rfl (lv_at hl 3 rfl) ?_
  refine w_ald S hW 11 0 rfl rfl (by omega) dX5_purity_9 ?_
  refine c_VP S hW (tX5_lengthOf l G ad σ army (σ 20 at_) (by omega) (by omega)) (cw_X5_230 S.2.2.2.2 ⟨Nat.le_of_ble_eq_true rfl, Nat.le_of_ble_eq_true rfl⟩) eBlind_T (fun _ _ _ => trivial) (w_recv hW (q0 := 0) rfl rfl) rfl hl.1 (rest := []) rfl (Nat.le_of_ble_eq_true rfl) dX5_purity_10 ⟨Nat.le_of_ble_eq_true rfl, Nat.le_of_ble_eq_true rfl⟩ (fun locs hW => ?_)
  refine lv_istore (lv' := [(4, .int (iI (oLen (wr σ) army (σ 20 at_)))), (3, .int (iI 0)), (0, .ref (ad 0)), (1, .int (iI army)), (2, .int (iI at_))]) S.1 S.2.1 dX5_purity_13 hl (by decide) rfl (fun ls hl => ?_)
  refine r_iconst S dX5_purity_15 ?_
  refine lv_istore (lv' := [(5, .int (iI 0)), (4, .int (iI (oLen (wr σ) army (σ 20 at_)))), (3, .int (iI 0)), (0, .ref (ad 0)), (1, .int (iI army)), (2, .int (iI at_))]) S.1 S.2.1 dX5_purity_16 hl (by decide) rfl (fun ls hl => ?_)
  have cut_18 : ∀ (N_18 : Nat) (own i : Int) (locs : List Loc) (ls : Array Slot), (0 ≤ i ∧ i ≤ oLen (wr σ) army (rf (mvs (wr σ) L s1 army) j)) → (own = cnI (fun i => rg L (plc (wr σ) army (rg (mvs (wr σ) L s1 army) j + i)) = army) i) → ((oLen (wr σ) army (rf (mvs (wr σ) L s1 army) j) - i).toNat) < N_18 → WD G shM ad (aM ad) s s.heap σ s.heap locs → lv_has ls 6 [(5, .int (iI i)), (4, .int (iI (oLen (wr σ) army (σ 20 at_)))), (3, .int (iI own)), (0, .ref (ad 0)), (1, .int (iI army)), (2, .int (iI at_))] → W p l e (⟨2, 0, 0, 44⟩ : Room) s m ([.ref (ad 0), .int (iI army), .int (iI at_)] : List Value).toArray below meth c s.heap locs 0 0 (MQ below (qP (.int (iI (pur (wr σ) L army (rf (mvs (wr σ) L s1 army) j) (rg (mvs (wr σ) L s1 army) j))))) ([.ref (ad 0), .int (iI army), .int (iI at_)] : List Value).toArray s 0 0 (aM ad)) (F0 m 18 ls []) := by
    intro N_18
    induction N_18 with
    | zero =>
      intro own i locs ls hi ho hμ_18 hW hl
      exact absurd hμ_18 (by omega)
    | succ N_18 ih_18 =>
      intro own i locs ls hi ho hμ_18 hW hl
      have hcr := cnI_rng (fun i => rg L (plc (wr σ) army (rg (mvs (wr σ) L s1 army) j + i)) = army) hi.1
      refine lv_iload S.1 S.2.1 dX5_purity_18 (lv_at hl 0 rfl) ?_
      refine lv_iload S.1 S.2.1 dX5_purity_20 (lv_at hl 1 rfl) ?_
      refine r_icmp_ge S (tgt := 62) dX5_purity_22 rfl (by omega) (fun c_22 => ?_) (fun c_22 => ?_)
      ·
        refine lv_iload_n S.1 S.2.1 dX5_purity_62 rfl (lv_at hl 2 rfl) ?_
        refine lv_iload S.1 S.2.1 dX5_purity_63 (lv_at hl 1 rfl) ?_
        refine r_icmp_ne S (tgt := 72) dX5_purity_65 rfl (by omega) (fun c_65 => ?_) (fun c_65 => ?_)
        ·
          refine lv_iload_n S.1 S.2.1 dX5_purity_72 rfl (lv_at hl 2 rfl) ?_
          refine r_if_ne S (tgt := 80) dX5_purity_73 rfl (by omega) (fun c_73 => ?_) (fun c_73 => ?_)
          ·
            refine r_iconst S dX5_purity_80 ?_
            exact e_iP S hr hlk hW.2.2.2.2 (by unfold pur; rw [show oLen (wr σ) army (rf (mvs (wr σ) L s1 army) j) = i by omega, ← ho]; first | rw [if_pos (by omega)] | rw [if_neg (by omega), if_pos (by omega)] | rw [if_neg (by omega), if_neg (by omega)]) dX5_purity_81
          ·
            refine r_iconst S dX5_purity_76 ?_
            refine lv_goto (tgt := 81) S.1 S.2.1 dX5_purity_77 rfl ?_
            exact e_iP S hr hlk hW.2.2.2.2 (by unfold pur; rw [show oLen (wr σ) army (rf (mvs (wr σ) L s1 army) j) = i by omega, ← ho]; first | rw [if_pos (by omega)] | rw [if_neg (by omega), if_pos (by omega)] | rw [if_neg (by omega), if_neg (by omega)]) dX5_purity_81
        ·
          refine r_iconst S dX5_purity_68 ?_
          refine lv_goto (tgt := 81) S.1 S.2.1 dX5_purity_69 rfl ?_
          exact e_iP S hr hlk hW.2.2.2.2 (by unfold pur; rw [show oLen (wr σ) army (rf (mvs (wr σ) L s1 army) j) = i by omega, ← ho]; first | rw [if_pos (by omega)] | rw [if_neg (by omega), if_pos (by omega)] | rw [if_neg (by omega), if_neg (by omega)]) dX5_purity_81
      ·
        have hp := plc_rng hA (k := rg (mvs (wr σ) L s1 army) j + i) (n := L.length) (by omega) (by omega)
        have hq := hg _ hp.1 hp.2
        have hr2 := hgv _ hp.1 hp.2
        have hpe : plc (wr σ) army (σ 21 at_ + i) = plc (wr σ) army (rg (mvs (wr σ) L s1 army) j + i) := by rw [hE.2.2]
        refine lv_iload_n S.1 S.2.1 dX5_purity_25 rfl (lv_at hl 2 rfl) ?_
        refine lv_aload_n S.1 S.2.1 dX5_purity_26 rfl (lv_at hl 3 rfl) ?_
        refine w_getr S hW in_X5 0 rfl rfl 15 (by decide) q1666 rfl rfl dX5_purity_27 ?_
        refine lv_aload_n S.1 S.2.1 dX5_purity_30 rfl (lv_at hl 3 rfl) ?_
        refine lv_iload_n S.1 S.2.1 dX5_purity_31 rfl (lv_at hl 4 rfl) ?_
        refine lv_aload_n S.1 S.2.1 dX5_purity_32 rfl (lv_at hl 3 rfl) ?_
        refine w_getr S hW in_X5 0 rfl rfl 21 (by decide) q1672 rfl rfl dX5_purity_33 ?_
        refine lv_iload_n S.1 S.2.1 dX5_purity_36 rfl (lv_at hl 5 rfl) ?_
        refine w_ald S hW 12 0 rfl rfl (by omega) dX5_purity_37 ?_
        refine lv_iload S.1 S.2.1 dX5_purity_38 (lv_at hl 0 rfl) ?_
        refine r_iadd S dX5_purity_40 ?_
        refine c_VP S hW (tX5_placeHeard l G ad σ army ((σ 21 at_) + i) (by omega) (by omega)) (cw_X5_258 S.2.2.2.2 ⟨Nat.le_of_ble_eq_true rfl, Nat.le_of_ble_eq_true rfl⟩) eBlind_T (fun _ _ _ => trivial) (w_recv hW (q0 := 0) rfl rfl) rfl hl.1 (rest := [.ref (ad 7), .int (iI own)]) rfl (Nat.le_of_ble_eq_true rfl) dX5_purity_41 ⟨Nat.le_of_ble_eq_true rfl, Nat.le_of_ble_eq_true rfl⟩ (fun locs hW => ?_)
        refine w_ald S hW 7 0 rfl rfl (by omega) dX5_purity_44 ?_
        have hq2 : σ 15 (plc (wr σ) army (σ 21 at_ + i)) = rg L (plc (wr σ) army (rg (mvs (wr σ) L s1 army) j + i)) := by rw [hpe, hq]
        refine lv_iload_n S.1 S.2.1 dX5_purity_45 rfl (lv_at hl 4 rfl) ?_
        refine r_icmp_ne S (tgt := 53) dX5_purity_46 rfl (by omega) (fun c_46 => ?_) (fun c_46 => ?_)
        ·
          refine r_iconst S dX5_purity_53 ?_
          refine r_iadd S dX5_purity_54 ?_
          refine lv_istore_n (lv' := [(3, .int (iI (own + 0))), (5, .int (iI i)), (4, .int (iI (oLen (wr σ) army (σ 20 at_)))), (0, .ref (ad 0)), (1, .int (iI army)), (2, .int (iI at_))]) S.1 S.2.1 dX5_purity_55 rfl hl (by decide) rfl (fun ls hl => ?_)
          refine lv_iinc (v := iI (i + 1)) (lv' := [(5, .int (iI (i + 1))), (3, .int (iI (own + 0))), (4, .int (iI (oLen (wr σ) army (σ 20 at_)))), (0, .ref (ad 0)), (1, .int (iI army)), (2, .int (iI at_))]) S.1 S.2.1 dX5_purity_56 hl (k := 1) rfl (iI_add _ _) (by decide) rfl (fun ls hl => ?_)
          refine lv_goto (tgt := 18) S.1 S.2.1 dX5_purity_59 rfl ?_
          exact ih_18 (own + 0) (i + 1) _ _ (by omega) (by rw [cnI_s _ hi.1, ← ho]; congr 1; first | exact dP_1 (by rw [← hq, ← hE.2.2]; exact c_46) | exact dP_0 (fun z => c_46 (by rw [hE.2.2, hq]; exact z))) (by omega) hW (lv_sub hl [0, 2, 1, 3, 4, 5] rfl)
        ·
          refine r_iconst S dX5_purity_49 ?_
          refine lv_goto (tgt := 54) S.1 S.2.1 dX5_purity_50 rfl ?_
          refine r_iadd S dX5_purity_54 ?_
          refine lv_istore_n (lv' := [(3, .int (iI (own + 1))), (5, .int (iI i)), (4, .int (iI (oLen (wr σ) army (σ 20 at_)))), (0, .ref (ad 0)), (1, .int (iI army)), (2, .int (iI at_))]) S.1 S.2.1 dX5_purity_55 rfl hl (by decide) rfl (fun ls hl => ?_)
          refine lv_iinc (v := iI (i + 1)) (lv' := [(5, .int (iI (i + 1))), (3, .int (iI (own + 1))), (4, .int (iI (oLen (wr σ) army (σ 20 at_)))), (0, .ref (ad 0)), (1, .int (iI army)), (2, .int (iI at_))]) S.1 S.2.1 dX5_purity_56 hl (k := 1) rfl (iI_add _ _) (by decide) rfl (fun ls hl => ?_)
          refine lv_goto (tgt := 18) S.1 S.2.1 dX5_purity_59 rfl ?_
          exact ih_18 (own + 1) (i + 1) _ _ (by omega) (by rw [cnI_s _ hi.1, ← ho]; congr 1; first | exact dP_1 (by rw [← hq, ← hE.2.2]; exact c_46) | exact dP_0 (fun z => c_46 (by rw [hE.2.2, hq]; exact z))) (by omega) hW (lv_sub hl [0, 2, 1, 3, 4, 5] rfl)
  exact cut_18 _ 0 0 _ _ (by omega) (rfl) (Nat.lt_succ_self _) hW (lv_sub hl [0, 1, 2, 3, 4, 5] rfl)
set_option maxHeartbeats 4000000 in
theorem tX5_echoed (l : Launch) (G : GG) (ad : Nat → Nat) (σ : St) (army : Int) (L : List (Int × Int)) (s1 : Int) (hw0 : 0 ≤ σ 10 0 ∧ σ 10 0 ≤ 700) (ha : 0 ≤ army ∧ army ≤ 1) (hWf : WfWar (wr σ)) (hn : σ 18 0 = L.length) (hL : L.length ≤ 24) (hv : rowV L) (hs : fil σ 16 L.length (sd (wr σ) (rf L) s1)) (he : fil σ 17 L.length (fun i => b2i (dP (ec (wr σ) (rf L) s1 i)))) (hmd : Mad σ (wr σ) L s1 army) : Met l yX5_echoed (ws_ yX5_echoed cX5_echoed 7 (some .int)) ⟨2, 0, 0, 44⟩ (wPre G shM ad σ (fun _ => True) [.ref (ad 0), .int (iI army)]) (qP (.int (iI (ecn (wr σ) L s1 army)))) 0 0 (aM ad) := by
  refine wStart (by decide) (Nat.le_of_ble_eq_true rfl) (fun k hk => ⟨k, hk, rfl⟩) (fun p e s m below meth c S hr hlk _ _ ls hW hl => ?_)
  have hl : lv_has ls 7 [(0, .ref (ad 0)), (1, .int (iI army))] := hl
  have hA := hWf.2.2.2.2 army ha.1 ha.2
  have h5 := hA.2.2.2.2.1
  have hh := hrs_rng (n := σ 18 0) hA (by omega)
  have hne : hrs (wr σ) (σ 18 0) army = hrs (wr σ) L.length army := by rw [hn]
  have hM := mvs_len (s := s1) hA hL
  have hm0 := hmd.1
  refine r_iconst S dX5_echoed_0 ?_
  refine lv_istore_n (lv' := [(2, .int (iI 0)), (0, .ref (ad 0)), (1, .int (iI army))]) S.1 S.2.1 dX5_echoed_1 rfl hl (by decide) rfl (fun ls hl => ?_)
  refine r_iconst S dX5_echoed_2 ?_
  refine lv_istore_n (lv' := [(3, .int (iI 0)), (2, .int (iI 0)), (0, .ref (ad 0)), (1, .int (iI army))]) S.1 S.2.1 dX5_echoed_3 rfl hl (by decide) rfl (fun ls hl => ?_)
  have cut_4 : ∀ (N_4 : Nat) (sum k : Int) (locs : List Loc) (ls : Array Slot), (0 ≤ k ∧ k ≤ (mvs (wr σ) L s1 army).length) → (sum = cnI (ecd (wr σ) L s1 army) k) → (((mvs (wr σ) L s1 army).length - k).toNat) < N_4 → WD G shM ad (aM ad) s s.heap σ s.heap locs → lv_has ls 7 [(3, .int (iI k)), (2, .int (iI sum)), (0, .ref (ad 0)), (1, .int (iI army))] → W p l e (⟨2, 0, 0, 44⟩ : Room) s m ([.ref (ad 0), .int (iI army)] : List Value).toArray below meth c s.heap locs 0 0 (MQ below (qP (.int (iI (ecn (wr σ) L s1 army)))) ([.ref (ad 0), .int (iI army)] : List Value).toArray s 0 0 (aM ad)) (F0 m 4 ls []) := by
    intro N_4
    induction N_4 with
    | zero =>
      intro sum k locs ls hk hsu hμ_4 hW hl
      exact absurd hμ_4 (by omega)
    | succ N_4 ih_4 =>
      intro sum k locs ls hk hsu hμ_4 hW hl
      have hcr := cnI_rng (ecd (wr σ) L s1 army) hk.1
      refine lv_iload_n S.1 S.2.1 dX5_echoed_4 rfl (lv_at hl 0 rfl) ?_
      refine lv_aload_n S.1 S.2.1 dX5_echoed_5 rfl (lv_at hl 2 rfl) ?_
      refine w_getr S hW in_X5 0 rfl rfl 22 (by decide) q1673 rfl rfl dX5_echoed_6 ?_
      refine lv_iload_n S.1 S.2.1 dX5_echoed_9 rfl (lv_at hl 3 rfl) ?_
      refine w_ald S hW 13 0 rfl rfl (by omega) dX5_echoed_10 ?_
      refine r_icmp_ge S (tgt := 105) dX5_echoed_11 rfl (by omega) (fun c_11 => ?_) (fun c_11 => ?_)
      ·
        refine lv_iload_n S.1 S.2.1 dX5_echoed_105 rfl (lv_at hl 1 rfl) ?_
        exact e_iP S hr hlk hW.2.2.2.2 (by unfold ecn; rw [hsu, show k = (mvs (wr σ) L s1 army).length by omega]) dX5_echoed_106
      ·
        have hE := hmd.2.2 k (by omega) (by omega)
        have hB := mvs_at (s := s1) (L := L) hA (j := k) (by omega)
        have hO := (hA.2.2.2.2.2 _ hB.1 hB.2.1).2.1
        refine r_bipush S dX5_echoed_14 (by decide) ?_
        refine lv_iload_n S.1 S.2.1 dX5_echoed_16 rfl (lv_at hl 3 rfl) ?_
        refine r_imul S dX5_echoed_17 ?_
        refine lv_iload_n S.1 S.2.1 dX5_echoed_18 rfl (lv_at hl 0 rfl) ?_
        refine r_iadd S dX5_echoed_19 ?_
        refine lv_istore (lv' := [(4, .int (iI ((24 * army) + k))), (3, .int (iI k)), (2, .int (iI sum)), (0, .ref (ad 0)), (1, .int (iI army))]) S.1 S.2.1 dX5_echoed_20 hl (by decide) rfl (fun ls hl => ?_)
        refine r_iconst S dX5_echoed_22 ?_
        refine r_as (b2i (dP (ecU (wr σ) L s1 army k 0))) (dP_0 ecU_0) ?_
        refine lv_istore (lv' := [(5, .int (iI (b2i (dP (ecU (wr σ) L s1 army k 0))))), (4, .int (iI ((24 * army) + k))), (3, .int (iI k)), (2, .int (iI sum)), (0, .ref (ad 0)), (1, .int (iI army))]) S.1 S.2.1 dX5_echoed_23 hl (by decide) rfl (fun ls hl => ?_)
        refine r_iconst S dX5_echoed_25 ?_
        refine lv_istore (lv' := [(6, .int (iI 0)), (5, .int (iI (b2i (dP (ecU (wr σ) L s1 army k 0))))), (4, .int (iI ((24 * army) + k))), (3, .int (iI k)), (2, .int (iI sum)), (0, .ref (ad 0)), (1, .int (iI army))]) S.1 S.2.1 dX5_echoed_26 hl (by decide) rfl (fun ls hl => ?_)
        have cut_28 : ∀ (N_28 : Nat) (i : Int) (locs : List Loc) (ls : Array Slot), (0 ≤ i ∧ i ≤ oLen (wr σ) army (rf (mvs (wr σ) L s1 army) k)) → ((oLen (wr σ) army (rf (mvs (wr σ) L s1 army) k) - i).toNat) < N_28 → WD G shM ad (aM ad) s s.heap σ s.heap locs → lv_has ls 7 [(6, .int (iI i)), (5, .int (iI (b2i (dP (ecU (wr σ) L s1 army k i))))), (4, .int (iI ((24 * army) + k))), (3, .int (iI k)), (2, .int (iI sum)), (0, .ref (ad 0)), (1, .int (iI army))] → W p l e (⟨2, 0, 0, 44⟩ : Room) s m ([.ref (ad 0), .int (iI army)] : List Value).toArray below meth c s.heap locs 0 0 (MQ below (qP (.int (iI (ecn (wr σ) L s1 army)))) ([.ref (ad 0), .int (iI army)] : List Value).toArray s 0 0 (aM ad)) (F0 m 28 ls []) := by
          intro N_28
          induction N_28 with
          | zero =>
            intro i locs ls hi hμ_28 hW hl
            exact absurd hμ_28 (by omega)
          | succ N_28 ih_28 =>
            intro i locs ls hi hμ_28 hW hl
            have ole : oLen (wr σ) army (σ 20 (24 * army + k)) = oLen (wr σ) army (rf (mvs (wr σ) L s1 army) k) := by rw [hE.2.1]
            refine lv_iload S.1 S.2.1 dX5_echoed_28 (lv_at hl 0 rfl) ?_
            refine lv_aload_n S.1 S.2.1 dX5_echoed_30 rfl (lv_at hl 5 rfl) ?_
            refine lv_iload_n S.1 S.2.1 dX5_echoed_31 rfl (lv_at hl 6 rfl) ?_
            refine lv_aload_n S.1 S.2.1 dX5_echoed_32 rfl (lv_at hl 5 rfl) ?_
            refine w_getr S hW in_X5 0 rfl rfl 20 (by decide) q1671 rfl rfl dX5_echoed_33 ?_
            refine lv_iload S.1 S.2.1 dX5_echoed_36 (lv_at hl 2 rfl) ?_
            refine w_ald S hW 11 0 rfl rfl (by omega) dX5_echoed_38 ?_
            refine c_VP S hW (tX5_lengthOf l G ad σ army (σ 20 ((24 * army) + k)) (by omega) (by omega)) (cw_X5_230 S.2.2.2.2 ⟨Nat.le_of_ble_eq_true rfl, Nat.le_of_ble_eq_true rfl⟩) eBlind_T (fun _ _ _ => trivial) (w_recv hW (q0 := 0) rfl rfl) rfl hl.1 (rest := [.int (iI i)]) rfl (Nat.le_of_ble_eq_true rfl) dX5_echoed_39 ⟨Nat.le_of_ble_eq_true rfl, Nat.le_of_ble_eq_true rfl⟩ (fun locs hW => ?_)
            refine r_icmp_ge S (tgt := 86) dX5_echoed_42 rfl (by omega) (fun c_42 => ?_) (fun c_42 => ?_)
            ·
              refine lv_iload_n S.1 S.2.1 dX5_echoed_86 rfl (lv_at hl 4 rfl) ?_
              refine lv_iload S.1 S.2.1 dX5_echoed_87 (lv_at hl 1 rfl) ?_
              refine r_ifeq_p S (tgt := 96) dX5_echoed_89 rfl (fun c_89 => ?_) (fun c_89 => ?_)
              ·
                refine r_iconst S dX5_echoed_96 ?_
                refine r_iadd S dX5_echoed_97 ?_
                refine lv_istore_n (lv' := [(2, .int (iI (sum + 0))), (6, .int (iI i)), (5, .int (iI (b2i (dP (ecU (wr σ) L s1 army k i))))), (4, .int (iI ((24 * army) + k))), (3, .int (iI k)), (0, .ref (ad 0)), (1, .int (iI army))]) S.1 S.2.1 dX5_echoed_98 rfl hl (by decide) rfl (fun ls hl => ?_)
                refine lv_iinc (v := iI (k + 1)) (lv' := [(3, .int (iI (k + 1))), (2, .int (iI (sum + 0))), (6, .int (iI i)), (5, .int (iI (b2i (dP (ecU (wr σ) L s1 army k i))))), (4, .int (iI ((24 * army) + k))), (0, .ref (ad 0)), (1, .int (iI army))]) S.1 S.2.1 dX5_echoed_99 hl (k := 4) rfl (iI_add _ _) (by decide) rfl (fun ls hl => ?_)
                refine lv_goto (tgt := 4) S.1 S.2.1 dX5_echoed_102 rfl ?_
                have hI : i = oLen (wr σ) army (rf (mvs (wr σ) L s1 army) k) := by omega
                exact ih_4 (sum + 0) (k + 1) _ _ (by omega) (by rw [cnI_s _ hk.1, ← hsu]; congr 1; first | exact dP_1 (by rw [hI] at c_89; exact c_89) | exact dP_0 (by rw [hI] at c_89; exact c_89)) (by omega) hW (lv_sub hl [0, 1, 5, 6] rfl)
              ·
                refine r_iconst S dX5_echoed_92 ?_
                refine lv_goto (tgt := 97) S.1 S.2.1 dX5_echoed_93 rfl ?_
                refine r_iadd S dX5_echoed_97 ?_
                refine lv_istore_n (lv' := [(2, .int (iI (sum + 1))), (6, .int (iI i)), (5, .int (iI (b2i (dP (ecU (wr σ) L s1 army k i))))), (4, .int (iI ((24 * army) + k))), (3, .int (iI k)), (0, .ref (ad 0)), (1, .int (iI army))]) S.1 S.2.1 dX5_echoed_98 rfl hl (by decide) rfl (fun ls hl => ?_)
                refine lv_iinc (v := iI (k + 1)) (lv' := [(3, .int (iI (k + 1))), (2, .int (iI (sum + 1))), (6, .int (iI i)), (5, .int (iI (b2i (dP (ecU (wr σ) L s1 army k i))))), (4, .int (iI ((24 * army) + k))), (0, .ref (ad 0)), (1, .int (iI army))]) S.1 S.2.1 dX5_echoed_99 hl (k := 4) rfl (iI_add _ _) (by decide) rfl (fun ls hl => ?_)
                refine lv_goto (tgt := 4) S.1 S.2.1 dX5_echoed_102 rfl ?_
                have hI : i = oLen (wr σ) army (rf (mvs (wr σ) L s1 army) k) := by omega
                exact ih_4 (sum + 1) (k + 1) _ _ (by omega) (by rw [cnI_s _ hk.1, ← hsu]; congr 1; first | exact dP_1 (by rw [hI] at c_89; exact c_89) | exact dP_0 (by rw [hI] at c_89; exact c_89)) (by omega) hW (lv_sub hl [0, 1, 5, 6] rfl)
            ·
              refine lv_iload S.1 S.2.1 dX5_echoed_45 (lv_at hl 1 rfl) ?_
              refine r_ifne_p S (tgt := 73) dX5_echoed_47 rfl (fun c_47 => ?_) (fun c_47 => ?_)
              ·
                refine r_iconst S dX5_echoed_73 ?_
                refine lv_goto (tgt := 78) S.1 S.2.1 dX5_echoed_74 rfl ?_
                refine r_as (b2i (dP (ecU (wr σ) L s1 army k (i + 1)))) (by first | exact dP_1 ((ecU_s hi.1).mpr (Or.inl c_47)) | exact dP_1 ((ecU_s hi.1).mpr (Or.inr hec)) | exact dP_0 (fun z => ((ecU_s hi.1).mp z).elim c_47 hec)) ?_
                refine lv_istore (lv' := [(5, .int (iI (b2i (dP (ecU (wr σ) L s1 army k (i + 1)))))), (6, .int (iI i)), (4, .int (iI ((24 * army) + k))), (3, .int (iI k)), (2, .int (iI sum)), (0, .ref (ad 0)), (1, .int (iI army))]) S.1 S.2.1 dX5_echoed_78 hl (by decide) rfl (fun ls hl => ?_)
                refine lv_iinc (v := iI (i + 1)) (lv' := [(6, .int (iI (i + 1))), (5, .int (iI (b2i (dP (ecU (wr σ) L s1 army k (i + 1)))))), (4, .int (iI ((24 * army) + k))), (3, .int (iI k)), (2, .int (iI sum)), (0, .ref (ad 0)), (1, .int (iI army))]) S.1 S.2.1 dX5_echoed_80 hl (k := 1) rfl (iI_add _ _) (by decide) rfl (fun ls hl => ?_)
                refine lv_goto (tgt := 28) S.1 S.2.1 dX5_echoed_83 rfl ?_
                exact ih_28 (i + 1) _ _ (by omega) (by omega) hW (lv_sub hl [0, 1, 2, 3, 4, 5, 6] rfl)
              ·
                have hp := plc_rng hA (k := rg (mvs (wr σ) L s1 army) k + i) (n := L.length) (by omega) (by omega)
                have hq : σ 17 (plc (wr σ) army (rg (mvs (wr σ) L s1 army) k + i)) = b2i (dP (ec (wr σ) (rf L) s1 (plc (wr σ) army (rg (mvs (wr σ) L s1 army) k + i)))) := he _ hp.1 hp.2
                have hpe : plc (wr σ) army (σ 21 (24 * army + k) + i) = plc (wr σ) army (rg (mvs (wr σ) L s1 army) k + i) := by rw [hE.2.2]
                have hb2 := b2i_in (dP (ec (wr σ) (rf L) s1 (plc (wr σ) army (rg (mvs (wr σ) L s1 army) k + i))))
                refine lv_aload_n S.1 S.2.1 dX5_echoed_50 rfl (lv_at hl 5 rfl) ?_
                refine w_getr S hW in_X5 0 rfl rfl 17 (by decide) q1668 rfl rfl dX5_echoed_51 ?_
                refine lv_aload_n S.1 S.2.1 dX5_echoed_54 rfl (lv_at hl 5 rfl) ?_
                refine lv_iload_n S.1 S.2.1 dX5_echoed_55 rfl (lv_at hl 6 rfl) ?_
                refine lv_aload_n S.1 S.2.1 dX5_echoed_56 rfl (lv_at hl 5 rfl) ?_
                refine w_getr S hW in_X5 0 rfl rfl 21 (by decide) q1672 rfl rfl dX5_echoed_57 ?_
                refine lv_iload S.1 S.2.1 dX5_echoed_60 (lv_at hl 2 rfl) ?_
                refine w_ald S hW 12 0 rfl rfl (by omega) dX5_echoed_62 ?_
                refine lv_iload S.1 S.2.1 dX5_echoed_63 (lv_at hl 0 rfl) ?_
                refine r_iadd S dX5_echoed_65 ?_
                refine c_VP S hW (tX5_placeHeard l G ad σ army ((σ 21 ((24 * army) + k)) + i) (by omega) (by omega)) (cw_X5_258 S.2.2.2.2 ⟨Nat.le_of_ble_eq_true rfl, Nat.le_of_ble_eq_true rfl⟩) eBlind_T (fun _ _ _ => trivial) (w_recv hW (q0 := 0) rfl rfl) rfl hl.1 (rest := [.ref (ad 9)]) rfl (Nat.le_of_ble_eq_true rfl) dX5_echoed_66 ⟨Nat.le_of_ble_eq_true rfl, Nat.le_of_ble_eq_true rfl⟩ (fun locs hW => ?_)
                refine w_zald S hW 9 1 rfl rfl (by omega) dX5_echoed_69 ?_
                have hq2 : σ 17 (plc (wr σ) army (σ 21 (24 * army + k) + i)) = b2i (dP (ec (wr σ) (rf L) s1 (plc (wr σ) army (rg (mvs (wr σ) L s1 army) k + i)))) := by rw [hpe, hq]
                refine r_if_eq S (tgt := 77) dX5_echoed_70 rfl (by omega) (fun c_70 => ?_) (fun c_70 => ?_)
                ·
                  have hec : ¬ ec (wr σ) (rf L) s1 (plc (wr σ) army (rg (mvs (wr σ) L s1 army) k + i)) := dP_f.mp (b2i_eq0.mp (by omega))
                  refine r_iconst S dX5_echoed_77 ?_
                  refine r_as (b2i (dP (ecU (wr σ) L s1 army k (i + 1)))) (by first | exact dP_1 ((ecU_s hi.1).mpr (Or.inl c_47)) | exact dP_1 ((ecU_s hi.1).mpr (Or.inr hec)) | exact dP_0 (fun z => ((ecU_s hi.1).mp z).elim c_47 hec)) ?_
                  refine lv_istore (lv' := [(5, .int (iI (b2i (dP (ecU (wr σ) L s1 army k (i + 1)))))), (6, .int (iI i)), (4, .int (iI ((24 * army) + k))), (3, .int (iI k)), (2, .int (iI sum)), (0, .ref (ad 0)), (1, .int (iI army))]) S.1 S.2.1 dX5_echoed_78 hl (by decide) rfl (fun ls hl => ?_)
                  refine lv_iinc (v := iI (i + 1)) (lv' := [(6, .int (iI (i + 1))), (5, .int (iI (b2i (dP (ecU (wr σ) L s1 army k (i + 1)))))), (4, .int (iI ((24 * army) + k))), (3, .int (iI k)), (2, .int (iI sum)), (0, .ref (ad 0)), (1, .int (iI army))]) S.1 S.2.1 dX5_echoed_80 hl (k := 1) rfl (iI_add _ _) (by decide) rfl (fun ls hl => ?_)
                  refine lv_goto (tgt := 28) S.1 S.2.1 dX5_echoed_83 rfl ?_
                  exact ih_28 (i + 1) _ _ (by omega) (by omega) hW (lv_sub hl [0, 1, 2, 3, 4, 5, 6] rfl)
                ·
                  have hec : ec (wr σ) (rf L) s1 (plc (wr σ) army (rg (mvs (wr σ) L s1 army) k + i)) := by cases hb9 : dP (ec (wr σ) (rf L) s1 (plc (wr σ) army (rg (mvs (wr σ) L s1 army) k + i))) with | true => exact dP_t.mp hb9 | false => rw [hb9] at hq2; exact absurd hq2 c_70
                  refine r_iconst S dX5_echoed_73 ?_
                  refine lv_goto (tgt := 78) S.1 S.2.1 dX5_echoed_74 rfl ?_
                  refine r_as (b2i (dP (ecU (wr σ) L s1 army k (i + 1)))) (by first | exact dP_1 ((ecU_s hi.1).mpr (Or.inl c_47)) | exact dP_1 ((ecU_s hi.1).mpr (Or.inr hec)) | exact dP_0 (fun z => ((ecU_s hi.1).mp z).elim c_47 hec)) ?_
                  refine lv_istore (lv' := [(5, .int (iI (b2i (dP (ecU (wr σ) L s1 army k (i + 1)))))), (6, .int (iI i)), (4, .int (iI ((24 * army) + k))), (3, .int (iI k)), (2, .int (iI sum)), (0, .ref (ad 0)), (1, .int (iI army))]) S.1 S.2.1 dX5_echoed_78 hl (by decide) rfl (fun ls hl => ?_)
                  refine lv_iinc (v := iI (i + 1)) (lv' := [(6, .int (iI (i + 1))), (5, .int (iI (b2i (dP (ecU (wr σ) L s1 army k (i + 1)))))), (4, .int (iI ((24 * army) + k))), (3, .int (iI k)), (2, .int (iI sum)), (0, .ref (ad 0)), (1, .int (iI army))]) S.1 S.2.1 dX5_echoed_80 hl (k := 1) rfl (iI_add _ _) (by decide) rfl (fun ls hl => ?_)
                  refine lv_goto (tgt := 28) S.1 S.2.1 dX5_echoed_83 rfl ?_
                  exact ih_28 (i + 1) _ _ (by omega) (by omega) hW (lv_sub hl [0, 1, 2, 3, 4, 5, 6] rfl)
        exact cut_28 _ 0 _ _ (by omega) (Nat.lt_succ_self _) hW (lv_sub hl [0, 1, 2, 3, 4, 5, 6] rfl)
  exact cut_4 _ 0 0 _ _ (by omega) (rfl) (Nat.lt_succ_self _) hW (lv_sub hl [0, 1, 2, 3] rfl)
