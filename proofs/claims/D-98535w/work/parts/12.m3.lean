set_option maxHeartbeats 4000000 in
theorem tX5_plays (l : Launch) (G : GG) (ad : Nat → Nat) (σ : St) (rests : Int) (L : List (Int × Int)) (hw0 : 0 ≤ σ 10 0 ∧ σ 10 0 ≤ 700) (hWf : WfWar (wr σ)) (hn : σ 18 0 = L.length) (hL : L.length ≤ 24) (hrow : fil σ 14 L.length (rf L)) (hv : rowV L) : Met l yX5_plays (ws_ yX5_plays cX5_plays 4 none) ⟨1, 0, 0, 21⟩ (wPre G shM ad σ (fun _ => True) [.ref (ad 0), .int (iI rests)]) (qS G shM ad (aM ad) (rV (fun σ' => (Snd σ' 16 17 (wr σ) L rests) ∧ (same [16, 17] σ σ')))) 0 0 (aM ad) := by
  refine wStart (by decide) (Nat.le_of_ble_eq_true rfl) (fun k hk => ⟨k, hk, rfl⟩) (fun p e s m below meth c S hr hlk _ _ ls hW hl => ?_)
  have hl : lv_has ls 4 [(0, .ref (ad 0)), (1, .int (iI rests))] := hl
  have hT := hWf.2.1
  have hE := hWf.2.2.1
  refine r_iconst S dX5_plays_0 ?_
  refine lv_istore_n (lv' := [(2, .int (iI 0)), (0, .ref (ad 0)), (1, .int (iI rests))]) S.1 S.2.1 dX5_plays_1 rfl hl (by decide) rfl (fun ls hl => ?_)
  have cut_2 : ∀ (N_2 : Nat) (k : Int) (σ1 : St) (H : Heap) (locs : List Loc) (ls : Array Slot), (0 ≤ k ∧ k ≤ L.length) → (same [16, 17] σ σ1) → (fil σ1 16 k (sd0 (wr σ) (rf L) rests)) → (fil σ1 17 k (fun _ => 0)) → ((L.length - k).toNat) < N_2 → WD G shM ad (aM ad) s s.heap σ1 H locs → lv_has ls 4 [(2, .int (iI k)), (0, .ref (ad 0)), (1, .int (iI rests))] → W p l e (⟨1, 0, 0, 21⟩ : Room) s m ([.ref (ad 0), .int (iI rests)] : List Value).toArray below meth c H locs 0 0 (MQ below (qS G shM ad (aM ad) (rV (fun σ' => (Snd σ' 16 17 (wr σ) L rests) ∧ (same [16, 17] σ σ')))) ([.ref (ad 0), .int (iI rests)] : List Value).toArray s 0 0 (aM ad)) (F0 m 2 ls []) := by
    intro N_2
    induction N_2 with
    | zero =>
      intro k σ1 H locs ls hk hsm hs he hμ_2 hW hl
      exact absurd hμ_2 (by omega)
    | succ N_2 ih_2 =>
      intro k σ1 H locs ls hk hsm hs he hμ_2 hW hl
      have e0 := hsm 0 (by decide)
      have e10 := hsm 10 (by decide)
      have e18 : σ1 18 = σ 18 := hsm 18 (by decide)
      have e14 : σ1 14 = σ 14 := hsm 14 (by decide)
      have n18 : σ1 18 0 = L.length := by rw [e18]; exact hn
      have w10 : σ1 10 0 = σ 10 0 := by rw [e10]
      have we : ∀ j, wr σ1 j = wr σ j := fun j => by simp only [wr, e0, e10]
      have w1 := we 1
      have w2 := we 2
      refine lv_iload_n S.1 S.2.1 dX5_plays_2 rfl (lv_at hl 0 rfl) ?_
      refine lv_aload_n S.1 S.2.1 dX5_plays_3 rfl (lv_at hl 1 rfl) ?_
      refine w_geti S hW in_X5 0 rfl rfl 18 (by decide) q1669 rfl rfl dX5_plays_4 ?_
      refine r_icmp_ge S (tgt := 84) dX5_plays_7 rfl (by omega) (fun c_7 => ?_) (fun c_7 => ?_)
      ·
        refine lv_aload_n S.1 S.2.1 dX5_plays_84 rfl (lv_at hl 1 rfl) ?_
        refine r_iconst S dX5_plays_85 ?_
        refine c_VP S hW (tX5_of l G ad σ1 2 (by omega)) (cw_X5_212 S.2.2.2.2 ⟨Nat.le_of_ble_eq_true rfl, Nat.le_of_ble_eq_true rfl⟩) eBlind_T (fun _ _ _ => trivial) (w_recv hW (q0 := 0) rfl rfl) rfl hl.1 (rest := []) rfl (Nat.le_of_ble_eq_true rfl) dX5_plays_86 ⟨Nat.le_of_ble_eq_true rfl, Nat.le_of_ble_eq_true rfl⟩ (fun locs hW => ?_)
        refine r_as (wr σ 2) (w2) ?_
        refine lv_istore_n (lv' := [(2, .int (iI (wr σ 2))), (0, .ref (ad 0)), (1, .int (iI rests))]) S.1 S.2.1 dX5_plays_89 rfl hl (by decide) rfl (fun ls hl => ?_)
        refine r_iconst S dX5_plays_90 ?_
        refine lv_istore_n (lv' := [(3, .int (iI 0)), (2, .int (iI (wr σ 2))), (0, .ref (ad 0)), (1, .int (iI rests))]) S.1 S.2.1 dX5_plays_91 rfl hl (by decide) rfl (fun ls hl => ?_)
        have cut_92 : ∀ (N_92 : Nat) (k : Int) (σ2 : St) (H : Heap) (locs : List Loc) (ls : Array Slot), (0 ≤ k ∧ k ≤ L.length ∧ (0 < wr σ 2 ∨ k = 0)) → (same [16, 17] σ σ2) → (fil σ2 16 L.length (sd0 (wr σ) (rf L) rests)) → (fil σ2 17 L.length (fun i => if i < k + wr σ 2 then b2i (dP (ec (wr σ) (rf L) rests i)) else 0)) → ((L.length - k).toNat) < N_92 → WD G shM ad (aM ad) s s.heap σ2 H locs → lv_has ls 4 [(3, .int (iI k)), (2, .int (iI (wr σ 2))), (0, .ref (ad 0)), (1, .int (iI rests))] → W p l e (⟨1, 0, 0, 21⟩ : Room) s m ([.ref (ad 0), .int (iI rests)] : List Value).toArray below meth c H locs 0 0 (MQ below (qS G shM ad (aM ad) (rV (fun σ' => (Snd σ' 16 17 (wr σ) L rests) ∧ (same [16, 17] σ σ')))) ([.ref (ad 0), .int (iI rests)] : List Value).toArray s 0 0 (aM ad)) (F0 m 92 ls []) := by
          intro N_92
          induction N_92 with
          | zero =>
            intro k σ2 H locs ls hk hsm hs he hμ_92 hW hl
            exact absurd hμ_92 (by omega)
          | succ N_92 ih_92 =>
            intro k σ2 H locs ls hk hsm hs he hμ_92 hW hl
            have e0 := hsm 0 (by decide)
            have e10 := hsm 10 (by decide)
            have e18 : σ2 18 = σ 18 := hsm 18 (by decide)
            have e14 : σ2 14 = σ 14 := hsm 14 (by decide)
            have n18 : σ2 18 0 = L.length := by rw [e18]; exact hn
            have w10 : σ2 10 0 = σ 10 0 := by rw [e10]
            have we : ∀ j, wr σ2 j = wr σ j := fun j => by simp only [wr, e0, e10]
            have w1 := we 1
            have w2 := we 2
            have cut_148 : ∀ (N_148 : Nat) (k : Int) (σ3 : St) (H : Heap) (locs : List Loc) (ls : Array Slot), (0 ≤ k ∧ k ≤ L.length) → (same [16, 17] σ σ3) → (fil σ3 16 L.length (fun i => if i < k then sd (wr σ) (rf L) rests i else sd0 (wr σ) (rf L) rests i)) → (fil σ3 17 L.length (fun i => b2i (dP (ec (wr σ) (rf L) rests i)))) → ((L.length - k).toNat) < N_148 → WD G shM ad (aM ad) s s.heap σ3 H locs → lv_has ls 4 [(3, .int (iI k)), (2, .int (iI (wr σ 2))), (0, .ref (ad 0)), (1, .int (iI rests))] → W p l e (⟨1, 0, 0, 21⟩ : Room) s m ([.ref (ad 0), .int (iI rests)] : List Value).toArray below meth c H locs 0 0 (MQ below (qS G shM ad (aM ad) (rV (fun σ' => (Snd σ' 16 17 (wr σ) L rests) ∧ (same [16, 17] σ σ')))) ([.ref (ad 0), .int (iI rests)] : List Value).toArray s 0 0 (aM ad)) (F0 m 148 ls []) := by
              intro N_148
              induction N_148 with
              | zero =>
                intro k σ3 H locs ls hk hsm hs he hμ_148 hW hl
                exact absurd hμ_148 (by omega)
              | succ N_148 ih_148 =>
                intro k σ3 H locs ls hk hsm hs he hμ_148 hW hl
                have e0 := hsm 0 (by decide)
                have e10 := hsm 10 (by decide)
                have e18 : σ3 18 = σ 18 := hsm 18 (by decide)
                have e14 : σ3 14 = σ 14 := hsm 14 (by decide)
                have n18 : σ3 18 0 = L.length := by rw [e18]; exact hn
                have w10 : σ3 10 0 = σ 10 0 := by rw [e10]
                have we : ∀ j, wr σ3 j = wr σ j := fun j => by simp only [wr, e0, e10]
                have w1 := we 1
                have w2 := we 2
                refine lv_iload_n S.1 S.2.1 dX5_plays_148 rfl (lv_at hl 0 rfl) ?_
                refine lv_aload_n S.1 S.2.1 dX5_plays_149 rfl (lv_at hl 2 rfl) ?_
                refine w_geti S hW in_X5 0 rfl rfl 18 (by decide) q1669 rfl rfl dX5_plays_150 ?_
                refine r_icmp_ge S (tgt := 178) dX5_plays_153 rfl (by omega) (fun c_153 => ?_) (fun c_153 => ?_)
                ·
                  exact e_vS S hr hlk hW ⟨rfl, ⟨(⟨fil_all hs (by omega), he⟩), (hsm)⟩⟩ dX5_plays_178
                ·
                  have hek : σ3 17 k = b2i (dP (ec (wr σ) (rf L) rests k)) := he k (by omega) (by omega)
                  have hbk := b2i_in (dP (ec (wr σ) (rf L) rests k))
                  rw [← hek] at hbk
                  refine lv_aload_n S.1 S.2.1 dX5_plays_156 rfl (lv_at hl 2 rfl) ?_
                  refine w_getr S hW in_X5 0 rfl rfl 17 (by decide) q1668 rfl rfl dX5_plays_157 ?_
                  refine lv_iload_n S.1 S.2.1 dX5_plays_160 rfl (lv_at hl 0 rfl) ?_
                  refine w_zald S hW 9 1 rfl rfl (by omega) dX5_plays_161 ?_
                  refine r_if_eq S (tgt := 172) dX5_plays_162 rfl (by omega) (fun c_162 => ?_) (fun c_162 => ?_)
                  ·
                    refine lv_iinc (v := iI (k + 1)) (lv' := [(3, .int (iI (k + 1))), (2, .int (iI (wr σ 2))), (0, .ref (ad 0)), (1, .int (iI rests))]) S.1 S.2.1 dX5_plays_172 hl (k := 0) rfl (iI_add _ _) (by decide) rfl (fun ls hl => ?_)
                    refine lv_goto (tgt := 148) S.1 S.2.1 dX5_plays_175 rfl ?_
                    exact ih_148 (k + 1) σ3 H _ _ (by omega) (by first | exact hsm | exact same_up hsm (by decide)) (by first | exact fil_mix hs (by unfold sd; rw [if_neg (fun z => by rw [z] at hek; rw [hek] at c_162; exact absurd c_162 (by decide))]) | exact fil_mixU hs (by unfold sd; rw [if_pos (by cases hb9 : dP (ec (wr σ) (rf L) rests k) with | true => rfl | false => rw [hb9] at hek; exact absurd hek c_162)])) (by first | exact he | exact fil_ne he (by decide)) (by omega) hW (lv_sub hl [0, 1, 2, 3] rfl)
                  ·
                    refine lv_aload_n S.1 S.2.1 dX5_plays_165 rfl (lv_at hl 2 rfl) ?_
                    refine w_getr S hW in_X5 0 rfl rfl 16 (by decide) q1667 rfl rfl dX5_plays_166 ?_
                    refine lv_iload_n S.1 S.2.1 dX5_plays_169 rfl (lv_at hl 0 rfl) ?_
                    refine r_iconst S dX5_plays_170 ?_
                    refine w_ast S hW 8 0 rfl rfl rfl (z := 1) (by omega) dX5_plays_171 (fun H locs hW => ?_)
                    refine lv_iinc (v := iI (k + 1)) (lv' := [(3, .int (iI (k + 1))), (2, .int (iI (wr σ 2))), (0, .ref (ad 0)), (1, .int (iI rests))]) S.1 S.2.1 dX5_plays_172 hl (k := 0) rfl (iI_add _ _) (by decide) rfl (fun ls hl => ?_)
                    refine lv_goto (tgt := 148) S.1 S.2.1 dX5_plays_175 rfl ?_
                    exact ih_148 (k + 1) (up σ3 16 k 1) H _ _ (by omega) (by first | exact hsm | exact same_up hsm (by decide)) (by first | exact fil_mix hs (by unfold sd; rw [if_neg (fun z => by rw [z] at hek; rw [hek] at c_162; exact absurd c_162 (by decide))]) | exact fil_mixU hs (by unfold sd; rw [if_pos (by cases hb9 : dP (ec (wr σ) (rf L) rests k) with | true => rfl | false => rw [hb9] at hek; exact absurd hek c_162)])) (by first | exact he | exact fil_ne he (by decide)) (by omega) hW (lv_sub hl [0, 1, 2, 3] rfl)
            refine lv_iload_n S.1 S.2.1 dX5_plays_92 rfl (lv_at hl 0 rfl) ?_
            refine lv_iload_n S.1 S.2.1 dX5_plays_93 rfl (lv_at hl 1 rfl) ?_
            refine r_iadd S dX5_plays_94 ?_
            refine lv_aload_n S.1 S.2.1 dX5_plays_95 rfl (lv_at hl 2 rfl) ?_
            refine w_geti S hW in_X5 0 rfl rfl 18 (by decide) q1669 rfl rfl dX5_plays_96 ?_
            refine r_icmp_ge S (tgt := 146) dX5_plays_99 rfl (by omega) (fun c_99 => ?_) (fun c_99 => ?_)
            ·
              have hend : fil σ2 17 L.length (fun i => b2i (dP (ec (wr σ) (rf L) rests i))) := fil_f he (fun i h1 h2 => by rw [if_pos (by omega)])
              refine r_iconst S dX5_plays_146 ?_
              refine lv_istore_n (lv' := [(3, .int (iI 0)), (2, .int (iI (wr σ 2))), (0, .ref (ad 0)), (1, .int (iI rests))]) S.1 S.2.1 dX5_plays_147 rfl hl (by decide) rfl (fun ls hl => ?_)
              exact cut_148 _ 0 σ2 H _ _ (by omega) (hsm) (fil_f hs (fun i h1 h2 => by rw [if_neg (by omega)])) (hend) (Nat.lt_succ_self _) hW (lv_sub hl [0, 1, 2, 3] rfl)
            ·
              refine lv_iload_n S.1 S.2.1 dX5_plays_102 rfl (lv_at hl 1 rfl) ?_
              refine r_if_le S (tgt := 146) dX5_plays_103 rfl (by omega) (fun c_103 => ?_) (fun c_103 => ?_)
              ·
                have hend : fil σ2 17 L.length (fun i => b2i (dP (ec (wr σ) (rf L) rests i))) := fil_f he (fun i h1 h2 => by rw [if_neg (by omega)]; exact dP_0 (by unfold ec; omega))
                refine r_iconst S dX5_plays_146 ?_
                refine lv_istore_n (lv' := [(3, .int (iI 0)), (2, .int (iI (wr σ 2))), (0, .ref (ad 0)), (1, .int (iI rests))]) S.1 S.2.1 dX5_plays_147 rfl hl (by decide) rfl (fun ls hl => ?_)
                exact cut_148 _ 0 σ2 H _ _ (by omega) (hsm) (fil_f hs (fun i h1 h2 => by rw [if_neg (by omega)])) (hend) (Nat.lt_succ_self _) hW (lv_sub hl [0, 1, 2, 3] rfl)
              ·
                have s1 := hs k (by omega) (by omega)
                have s2 := hs (k + wr σ 2) (by omega) (by omega)
                have g1 := sd0_rng (s := rests) hWf (hv k (by omega) (by omega))
                have g2 := sd0_rng (s := rests) hWf (hv (k + wr σ 2) (by omega) (by omega))
                rw [← s1] at g1
                rw [← s2] at g2
                have ekk : k + wr σ 2 - wr σ 2 = k := by omega
                refine lv_aload_n S.1 S.2.1 dX5_plays_106 rfl (lv_at hl 2 rfl) ?_
                refine w_getr S hW in_X5 0 rfl rfl 17 (by decide) q1668 rfl rfl dX5_plays_107 ?_
                refine lv_iload_n S.1 S.2.1 dX5_plays_110 rfl (lv_at hl 0 rfl) ?_
                refine lv_iload_n S.1 S.2.1 dX5_plays_111 rfl (lv_at hl 1 rfl) ?_
                refine r_iadd S dX5_plays_112 ?_
                refine lv_aload_n S.1 S.2.1 dX5_plays_113 rfl (lv_at hl 2 rfl) ?_
                refine w_getr S hW in_X5 0 rfl rfl 16 (by decide) q1667 rfl rfl dX5_plays_114 ?_
                refine lv_iload_n S.1 S.2.1 dX5_plays_117 rfl (lv_at hl 0 rfl) ?_
                refine w_ald S hW 8 0 rfl rfl (by omega) dX5_plays_118 ?_
                refine r_iconst S dX5_plays_119 ?_
                refine r_icmp_ne S (tgt := 138) dX5_plays_120 rfl (by omega) (fun c_120 => ?_) (fun c_120 => ?_)
                ·
                  refine r_iconst S dX5_plays_138 ?_
                  refine w_zast S hW 9 1 rfl rfl rfl (z := 0) (by omega) (by omega) dX5_plays_139 (fun H locs hW => ?_)
                  refine lv_iinc (v := iI (k + 1)) (lv' := [(3, .int (iI (k + 1))), (2, .int (iI (wr σ 2))), (0, .ref (ad 0)), (1, .int (iI rests))]) S.1 S.2.1 dX5_plays_140 hl (k := 0) rfl (iI_add _ _) (by decide) rfl (fun ls hl => ?_)
                  refine lv_goto (tgt := 92) S.1 S.2.1 dX5_plays_143 rfl ?_
                  exact ih_92 (k + 1) (up σ2 17 (k + (wr σ 2)) 0) H _ _ (by omega) (same_up hsm (by decide)) (fil_ne hs (by decide)) (by rw [show k + 1 + wr σ 2 = k + wr σ 2 + 1 by omega]; refine fil_mixU he ?_; first | exact dP_1 (by unfold ec; rw [ekk]; omega) | exact dP_0 (by unfold ec; rw [ekk]; omega)) (by omega) hW (lv_sub hl [0, 1, 2, 3] rfl)
                ·
                  refine lv_aload_n S.1 S.2.1 dX5_plays_123 rfl (lv_at hl 2 rfl) ?_
                  refine w_getr S hW in_X5 0 rfl rfl 16 (by decide) q1667 rfl rfl dX5_plays_124 ?_
                  refine lv_iload_n S.1 S.2.1 dX5_plays_127 rfl (lv_at hl 0 rfl) ?_
                  refine lv_iload_n S.1 S.2.1 dX5_plays_128 rfl (lv_at hl 1 rfl) ?_
                  refine r_iadd S dX5_plays_129 ?_
                  refine w_ald S hW 8 0 rfl rfl (by omega) dX5_plays_130 ?_
                  refine r_if_ne S (tgt := 138) dX5_plays_131 rfl (by omega) (fun c_131 => ?_) (fun c_131 => ?_)
                  ·
                    refine r_iconst S dX5_plays_138 ?_
                    refine w_zast S hW 9 1 rfl rfl rfl (z := 0) (by omega) (by omega) dX5_plays_139 (fun H locs hW => ?_)
                    refine lv_iinc (v := iI (k + 1)) (lv' := [(3, .int (iI (k + 1))), (2, .int (iI (wr σ 2))), (0, .ref (ad 0)), (1, .int (iI rests))]) S.1 S.2.1 dX5_plays_140 hl (k := 0) rfl (iI_add _ _) (by decide) rfl (fun ls hl => ?_)
                    refine lv_goto (tgt := 92) S.1 S.2.1 dX5_plays_143 rfl ?_
                    exact ih_92 (k + 1) (up σ2 17 (k + (wr σ 2)) 0) H _ _ (by omega) (same_up hsm (by decide)) (fil_ne hs (by decide)) (by rw [show k + 1 + wr σ 2 = k + wr σ 2 + 1 by omega]; refine fil_mixU he ?_; first | exact dP_1 (by unfold ec; rw [ekk]; omega) | exact dP_0 (by unfold ec; rw [ekk]; omega)) (by omega) hW (lv_sub hl [0, 1, 2, 3] rfl)
                  ·
                    refine r_iconst S dX5_plays_134 ?_
                    refine lv_goto (tgt := 139) S.1 S.2.1 dX5_plays_135 rfl ?_
                    refine w_zast S hW 9 1 rfl rfl rfl (z := 1) (by omega) (by omega) dX5_plays_139 (fun H locs hW => ?_)
                    refine lv_iinc (v := iI (k + 1)) (lv' := [(3, .int (iI (k + 1))), (2, .int (iI (wr σ 2))), (0, .ref (ad 0)), (1, .int (iI rests))]) S.1 S.2.1 dX5_plays_140 hl (k := 0) rfl (iI_add _ _) (by decide) rfl (fun ls hl => ?_)
                    refine lv_goto (tgt := 92) S.1 S.2.1 dX5_plays_143 rfl ?_
                    exact ih_92 (k + 1) (up σ2 17 (k + (wr σ 2)) 1) H _ _ (by omega) (same_up hsm (by decide)) (fil_ne hs (by decide)) (by rw [show k + 1 + wr σ 2 = k + wr σ 2 + 1 by omega]; refine fil_mixU he ?_; first | exact dP_1 (by unfold ec; rw [ekk]; omega) | exact dP_0 (by unfold ec; rw [ekk]; omega)) (by omega) hW (lv_sub hl [0, 1, 2, 3] rfl)
        have he0 : ∀ i : Int, (0 : Int) = (if i < 0 + wr σ 2 then b2i (dP (ec (wr σ) (rf L) rests i)) else 0) := by
          intro i
          split
          · exact dP_0 (by unfold ec; omega)
          · rfl
        exact cut_92 _ 0 σ1 H _ _ (by omega) (hsm) (fil_le hs (by omega)) (fil_f (fil_le he (by omega)) (fun i h1 h2 => he0 i)) (Nat.lt_succ_self _) hW (lv_sub hl [0, 1, 2, 3] rfl)
      ·
        have b01 := and1 (shrI rests k)
        have hrk : σ1 14 k = rf L k := by rw [e14]; exact hrow k (by omega) (by omega)
        have hvk := hv k (by omega) (by omega)
        have cut_44 : ∀ (H : Heap) (locs : List Loc) (ls : Array Slot), WD G shM ad (aM ad) s s.heap σ1 H locs → lv_has ls 4 [(2, .int (iI k)), (0, .ref (ad 0)), (1, .int (iI rests))] → W p l e (⟨1, 0, 0, 21⟩ : Room) s m ([.ref (ad 0), .int (iI rests)] : List Value).toArray below meth c H locs 0 0 (MQ below (qS G shM ad (aM ad) (rV (fun σ' => (Snd σ' 16 17 (wr σ) L rests) ∧ (same [16, 17] σ σ')))) ([.ref (ad 0), .int (iI rests)] : List Value).toArray s 0 0 (aM ad)) (F0 m 44 ls [.int (iI (b2i (dP (rst (wr σ) rests k))))]) := by
          intro H locs ls hW hl
          refine lv_istore_n (lv' := [(3, .int (iI (b2i (dP (rst (wr σ) rests k))))), (2, .int (iI k)), (0, .ref (ad 0)), (1, .int (iI rests))]) S.1 S.2.1 dX5_plays_44 rfl hl (by decide) rfl (fun ls hl => ?_)
          refine lv_aload_n S.1 S.2.1 dX5_plays_45 rfl (lv_at hl 2 rfl) ?_
          refine w_getr S hW in_X5 0 rfl rfl 16 (by decide) q1667 rfl rfl dX5_plays_46 ?_
          refine lv_iload_n S.1 S.2.1 dX5_plays_49 rfl (lv_at hl 1 rfl) ?_
          refine lv_aload_n S.1 S.2.1 dX5_plays_50 rfl (lv_at hl 2 rfl) ?_
          refine r_iconst S dX5_plays_51 ?_
          refine lv_iload_n S.1 S.2.1 dX5_plays_52 rfl (lv_at hl 0 rfl) ?_
          refine r_ifeq_p S (tgt := 60) dX5_plays_53 rfl (fun c_53 => ?_) (fun c_53 => ?_)
          ·
            refine lv_aload_n S.1 S.2.1 dX5_plays_60 rfl (lv_at hl 2 rfl) ?_
            refine w_getr S hW in_X5 0 rfl rfl 14 (by decide) q1665 rfl rfl dX5_plays_61 ?_
            refine lv_iload_n S.1 S.2.1 dX5_plays_64 rfl (lv_at hl 1 rfl) ?_
            refine w_ald S hW 6 0 rfl rfl (by omega) dX5_plays_65 ?_
            refine r_iadd S dX5_plays_66 ?_
            refine c_VP S hW (tX5_of l G ad σ1 (3 + (σ1 14 k)) (by omega)) (cw_X5_212 S.2.2.2.2 ⟨Nat.le_of_ble_eq_true rfl, Nat.le_of_ble_eq_true rfl⟩) eBlind_T (fun _ _ _ => trivial) (w_recv hW (q0 := 0) rfl rfl) rfl hl.1 (rest := [.int (iI k), .ref (ad 8)]) rfl (Nat.le_of_ble_eq_true rfl) dX5_plays_67 ⟨Nat.le_of_ble_eq_true rfl, Nat.le_of_ble_eq_true rfl⟩ (fun locs hW => ?_)
            refine w_ast S hW 8 0 rfl rfl rfl (z := (wr σ1 (3 + (σ1 14 k)))) (by omega) dX5_plays_70 (fun H locs hW => ?_)
            refine lv_aload_n S.1 S.2.1 dX5_plays_71 rfl (lv_at hl 2 rfl) ?_
            refine w_getr S hW in_X5 0 rfl rfl 17 (by decide) q1668 rfl rfl dX5_plays_72 ?_
            refine lv_iload_n S.1 S.2.1 dX5_plays_75 rfl (lv_at hl 1 rfl) ?_
            refine r_iconst S dX5_plays_76 ?_
            refine w_zast S hW 9 1 rfl rfl rfl (z := 0) (by omega) (by omega) dX5_plays_77 (fun H locs hW => ?_)
            refine lv_iinc (v := iI (k + 1)) (lv' := [(2, .int (iI (k + 1))), (3, .int (iI (b2i (dP (rst (wr σ) rests k))))), (0, .ref (ad 0)), (1, .int (iI rests))]) S.1 S.2.1 dX5_plays_78 hl (k := 1) rfl (iI_add _ _) (by decide) rfl (fun ls hl => ?_)
            refine lv_goto (tgt := 2) S.1 S.2.1 dX5_plays_81 rfl ?_
            exact ih_2 (k + 1) (up (up σ1 16 k (wr σ1 (3 + (σ1 14 k)))) 17 k 0) H _ _ (by omega) (same_up (same_up hsm (by decide)) (by decide)) (fil_ne (fil_up hs (by unfold sd0; rw [we]; first | rw [if_pos (dP_t.mpr c_53)] | rw [if_neg (fun z => c_53 (dP_t.mp z)), hrk])) (by decide)) (fil_up (fil_ne he (by decide)) rfl) (by omega) hW (lv_sub hl [0, 2, 3] rfl)
          ·
            refine r_iconst S dX5_plays_56 ?_
            refine lv_goto (tgt := 66) S.1 S.2.1 dX5_plays_57 rfl ?_
            refine r_iadd S dX5_plays_66 ?_
            refine c_VP S hW (tX5_of l G ad σ1 (3 + 0) (by omega)) (cw_X5_212 S.2.2.2.2 ⟨Nat.le_of_ble_eq_true rfl, Nat.le_of_ble_eq_true rfl⟩) eBlind_T (fun _ _ _ => trivial) (w_recv hW (q0 := 0) rfl rfl) rfl hl.1 (rest := [.int (iI k), .ref (ad 8)]) rfl (Nat.le_of_ble_eq_true rfl) dX5_plays_67 ⟨Nat.le_of_ble_eq_true rfl, Nat.le_of_ble_eq_true rfl⟩ (fun locs hW => ?_)
            refine w_ast S hW 8 0 rfl rfl rfl (z := (wr σ1 (3 + 0))) (by omega) dX5_plays_70 (fun H locs hW => ?_)
            refine lv_aload_n S.1 S.2.1 dX5_plays_71 rfl (lv_at hl 2 rfl) ?_
            refine w_getr S hW in_X5 0 rfl rfl 17 (by decide) q1668 rfl rfl dX5_plays_72 ?_
            refine lv_iload_n S.1 S.2.1 dX5_plays_75 rfl (lv_at hl 1 rfl) ?_
            refine r_iconst S dX5_plays_76 ?_
            refine w_zast S hW 9 1 rfl rfl rfl (z := 0) (by omega) (by omega) dX5_plays_77 (fun H locs hW => ?_)
            refine lv_iinc (v := iI (k + 1)) (lv' := [(2, .int (iI (k + 1))), (3, .int (iI (b2i (dP (rst (wr σ) rests k))))), (0, .ref (ad 0)), (1, .int (iI rests))]) S.1 S.2.1 dX5_plays_78 hl (k := 1) rfl (iI_add _ _) (by decide) rfl (fun ls hl => ?_)
            refine lv_goto (tgt := 2) S.1 S.2.1 dX5_plays_81 rfl ?_
            exact ih_2 (k + 1) (up (up σ1 16 k (wr σ1 (3 + 0))) 17 k 0) H _ _ (by omega) (same_up (same_up hsm (by decide)) (by decide)) (fil_ne (fil_up hs (by unfold sd0; rw [we]; first | rw [if_pos (dP_t.mpr c_53)] | rw [if_neg (fun z => c_53 (dP_t.mp z)), hrk])) (by decide)) (fil_up (fil_ne he (by decide)) rfl) (by omega) hW (lv_sub hl [0, 2, 3] rfl)
        refine lv_iload_n S.1 S.2.1 dX5_plays_10 rfl (lv_at hl 2 rfl) ?_
        refine lv_iload_n S.1 S.2.1 dX5_plays_11 rfl (lv_at hl 0 rfl) ?_
        refine r_ishr S dX5_plays_12 ?_
        refine r_iconst S dX5_plays_13 ?_
        refine r_iand S dX5_plays_14 ?_
        refine r_iconst S dX5_plays_15 ?_
        refine r_icmp_eq S (tgt := 39) dX5_plays_16 rfl (by omega) (fun c_16 => ?_) (fun c_16 => ?_)
        ·
          refine r_iconst S dX5_plays_39 ?_
          refine lv_goto (tgt := 44) S.1 S.2.1 dX5_plays_40 rfl ?_
          refine r_as (b2i (dP (rst (wr σ) rests k))) (by first | exact dP_1 (by unfold rst; omega) | exact dP_0 (by unfold rst; omega)) ?_
          exact cut_44 H _ _ hW (lv_sub hl [0, 1, 2] rfl)
        ·
          refine lv_aload_n S.1 S.2.1 dX5_plays_19 rfl (lv_at hl 1 rfl) ?_
          refine r_iconst S dX5_plays_20 ?_
          refine c_VP S hW (tX5_of l G ad σ1 1 (by omega)) (cw_X5_212 S.2.2.2.2 ⟨Nat.le_of_ble_eq_true rfl, Nat.le_of_ble_eq_true rfl⟩) eBlind_T (fun _ _ _ => trivial) (w_recv hW (q0 := 0) rfl rfl) rfl hl.1 (rest := []) rfl (Nat.le_of_ble_eq_true rfl) dX5_plays_21 ⟨Nat.le_of_ble_eq_true rfl, Nat.le_of_ble_eq_true rfl⟩ (fun locs hW => ?_)
          refine r_as (wr σ 1) (w1) ?_
          refine r_if_eq S (tgt := 43) dX5_plays_24 rfl (by omega) (fun c_24 => ?_) (fun c_24 => ?_)
          ·
            refine r_iconst S dX5_plays_43 ?_
            refine r_as (b2i (dP (rst (wr σ) rests k))) (by first | exact dP_1 (by unfold rst; omega) | exact dP_0 (by unfold rst; omega)) ?_
            exact cut_44 H _ _ hW (lv_sub hl [0, 1, 2] rfl)
          ·
            refine lv_iload_n S.1 S.2.1 dX5_plays_27 rfl (lv_at hl 0 rfl) ?_
            refine r_iconst S dX5_plays_28 ?_
            refine r_iadd S dX5_plays_29 ?_
            refine lv_aload_n S.1 S.2.1 dX5_plays_30 rfl (lv_at hl 1 rfl) ?_
            refine r_iconst S dX5_plays_31 ?_
            refine c_VP S hW (tX5_of l G ad σ1 1 (by omega)) (cw_X5_212 S.2.2.2.2 ⟨Nat.le_of_ble_eq_true rfl, Nat.le_of_ble_eq_true rfl⟩) eBlind_T (fun _ _ _ => trivial) (w_recv hW (q0 := 0) rfl rfl) rfl hl.1 (rest := [.int (iI (k + 1))]) rfl (Nat.le_of_ble_eq_true rfl) dX5_plays_32 ⟨Nat.le_of_ble_eq_true rfl, Nat.le_of_ble_eq_true rfl⟩ (fun locs hW => ?_)
            refine r_as (wr σ 1) (w1) ?_
            refine r_irem S dX5_plays_35 (by omega) ?_
            have hm1 := Int.emod_nonneg (k + 1) (show wr σ 1 ≠ 0 by omega)
            have hm2 := Int.emod_lt_of_pos (k + 1) (show 0 < wr σ 1 by omega)
            refine r_if_ne S (tgt := 43) dX5_plays_36 rfl (by omega) (fun c_36 => ?_) (fun c_36 => ?_)
            ·
              refine r_iconst S dX5_plays_43 ?_
              refine r_as (b2i (dP (rst (wr σ) rests k))) (by first | exact dP_1 (by unfold rst; omega) | exact dP_0 (by unfold rst; omega)) ?_
              exact cut_44 H _ _ hW (lv_sub hl [0, 1, 2] rfl)
            ·
              refine r_iconst S dX5_plays_39 ?_
              refine lv_goto (tgt := 44) S.1 S.2.1 dX5_plays_40 rfl ?_
              refine r_as (b2i (dP (rst (wr σ) rests k))) (by first | exact dP_1 (by unfold rst; omega) | exact dP_0 (by unfold rst; omega)) ?_
              exact cut_44 H _ _ hW (lv_sub hl [0, 1, 2] rfl)
  exact cut_2 _ 0 σ s.heap _ _ (by omega) (same_rf) (fil_0) (fil_0) (Nat.lt_succ_self _) hW (lv_sub hl [0, 1, 2] rfl)
