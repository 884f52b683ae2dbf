theorem hd_X5_beginsWith : yX5_beginsWith.cls = RX5 ∧ yX5_beginsWith.cls ≠ "java/lang/invoke/MethodHandle" ∧ yX5_beginsWith.cls ≠ "java/lang/invoke/VarHandle" ∧ (parseMethodDescriptor yX5_beginsWith.desc).map (fun d => d.parameters.length) = some 4 := by decide +kernel
theorem cw_X5_328 {R : Room} {s : State} {args : Array Value} (ht : ∀ w ∈ lw_all, w.before args s = true) (hR : 2 + 1 ≤ R.frames ∧ 8 + (7 + 11) + 45 ≤ R.locals) : CallW R s args "OneDrumModel" RX5 328 yX5_beginsWith cX5_beginsWith 7 (some .boolean) (ws_ yX5_beginsWith cX5_beginsWith 7 (some .boolean)) ⟨2, 0, 0, 45⟩ 0 0 4 := cwV 4 ht (lw_V q2080 q2082 qs99 q126 q2083) rfl rfl rfl hd_X5_beginsWith hR
set_option maxHeartbeats 4000000 in
theorem tX5_codes (l : Launch) (G : GG) (ad : Nat → Nat) (σ : St) (k : Int) (army : Int) (what : Int) (hr0 : -2147483648 ≤ k ∧ k < 2147483648 ∧ -2147483648 ≤ army ∧ army < 2147483648 ∧ -2147483648 ≤ what ∧ what < 2147483648) (hdb : WfDB (σ 0)) : Met l yX5_codes (ws_ yX5_codes cX5_codes 8 (some .int)) ⟨3, 0, 0, 72⟩ (wPre G shM ad σ (fun _ => True) [.ref (ad 0), .int (iI k), .int (iI army), .int (iI what)]) (qS G shM ad (aM ad) (rI (fun r σ' => (r = sCodes (σ 0) k army what) ∧ (same [10, 26, 27, 28] σ σ')))) 0 0 (aM ad) := by
  refine wStart (by decide) (Nat.le_of_ble_eq_true rfl) (fun k hk => ⟨k, hk, rfl⟩) (fun p e s m below meth c S hr hlk _ _ ls hW hl => ?_)
  have hl : lv_has ls 8 [(0, .ref (ad 0)), (1, .int (iI k)), (2, .int (iI army)), (3, .int (iI what))] := hl
  have d0 := hdb.1
  have d1 := hdb.2.1
  have d2 := hdb.2.2.1
  have d3 := hdb.2.2.2.1
  refine lv_aload_n S.1 S.2.1 dX5_codes_0 rfl (lv_at hl 0 rfl) ?_
  refine lv_iload_n S.1 S.2.1 dX5_codes_1 rfl (lv_at hl 1 rfl) ?_
  refine c_VSz S hW (tX5_isWar l G ad σ k (by omega) (by omega)) (cw_X5_224 S.2.2.2.2 ⟨Nat.le_of_ble_eq_true rfl, Nat.le_of_ble_eq_true rfl⟩) eBlind_T (fun _ _ _ => trivial) (w_recv hW (q0 := 0) rfl rfl) rfl hl.1 (rest := []) rfl (Nat.le_of_ble_eq_true rfl) dX5_codes_2 ⟨Nat.le_of_ble_eq_true rfl, Nat.le_of_ble_eq_true rfl⟩ (fun r2 σ2 H locs q2 hW => ?_)
  obtain ⟨rfl, q2_sm, q2_w⟩ := q2
  have e0 : σ2 0 = σ 0 := q2_sm 0 (by decide)
  refine r_ifeq_p S (tgt := 24) dX5_codes_5 rfl (fun c_5 => ?_) (fun c_5 => ?_)
  ·
    refine r_bipush S dX5_codes_24 (by decide) ?_
    exact e_iS S hr hlk hW ⟨(-2), rfl, ⟨(by unfold sCodes; rw [if_neg (by omega)]), (same_w q2_sm (by decide))⟩⟩ dX5_codes_26
  ·
    have w10 := q2_w (by omega)
    have we : wr σ2 = wAt (σ 0) k := wr_at e0 w10
    have we2 : ∀ j, wr σ2 j = wAt (σ 0) k j := fun j => congrFun we j
    have hWf := hdb.2.2.2.2.2.2.2.2.1 k (by omega) (by omega)
    refine lv_iload_n S.1 S.2.1 dX5_codes_8 rfl (lv_at hl 2 rfl) ?_
    refine c_SPw S hW (tX5_isArmy l army (by omega)) (cw_X5_218 S.2.2.2.2 ⟨Nat.le_of_ble_eq_true rfl, Nat.le_of_ble_eq_true rfl⟩) rfl hl.1 (rest := []) rfl (Nat.le_of_ble_eq_true rfl) dX5_codes_9 ⟨Nat.le_of_ble_eq_true rfl, Nat.le_of_ble_eq_true rfl⟩ (fun locs hW => ?_)
    refine r_ifeq_p S (tgt := 24) dX5_codes_12 rfl (fun c_12 => ?_) (fun c_12 => ?_)
    ·
      refine r_bipush S dX5_codes_24 (by decide) ?_
      exact e_iS S hr hlk hW ⟨(-2), rfl, ⟨(by unfold sCodes; rw [if_neg (by omega)]), (same_w q2_sm (by decide))⟩⟩ dX5_codes_26
    ·
      refine lv_iload_n S.1 S.2.1 dX5_codes_15 rfl (lv_at hl 3 rfl) ?_
      refine r_iconst S dX5_codes_16 ?_
      refine r_iconst S dX5_codes_17 ?_
      refine c_SPw S hW (tX5_isIn l what 0 1 (by omega)) (cw_X5_145 S.2.2.2.2 ⟨Nat.le_of_ble_eq_true rfl, Nat.le_of_ble_eq_true rfl⟩) rfl hl.1 (rest := []) rfl (Nat.le_of_ble_eq_true rfl) dX5_codes_18 ⟨Nat.le_of_ble_eq_true rfl, Nat.le_of_ble_eq_true rfl⟩ (fun locs hW => ?_)
      refine r_ifne_p S (tgt := 27) dX5_codes_21 rfl (fun c_21 => ?_) (fun c_21 => ?_)
      ·
        have hA := hWf.2.2.2.2 army (by omega) (by omega)
        have h5 := hA.2.2.2.2.1
        refine r_iconst S dX5_codes_27 ?_
        refine lv_istore (lv' := [(4, .int (iI (-1))), (0, .ref (ad 0)), (1, .int (iI k)), (2, .int (iI army)), (3, .int (iI what))]) S.1 S.2.1 dX5_codes_28 hl (by decide) rfl (fun ls hl => ?_)
        refine r_iconst S dX5_codes_30 ?_
        refine lv_istore (lv' := [(5, .int (iI 0)), (4, .int (iI (-1))), (0, .ref (ad 0)), (1, .int (iI k)), (2, .int (iI army)), (3, .int (iI what))]) S.1 S.2.1 dX5_codes_31 hl (by decide) rfl (fun ls hl => ?_)
        refine r_iconst S dX5_codes_33 ?_
        refine lv_istore (lv' := [(6, .int (iI 1)), (5, .int (iI 0)), (4, .int (iI (-1))), (0, .ref (ad 0)), (1, .int (iI k)), (2, .int (iI army)), (3, .int (iI what))]) S.1 S.2.1 dX5_codes_34 hl (by decide) rfl (fun ls hl => ?_)
        have cut_36 : ∀ (N_36 : Nat) (safe heads b : Int) (σ1 : St) (H : Heap) (locs : List Loc) (ls : Array Slot), (1 ≤ b ∧ b ≤ 6 ∧ (b ≤ wAt (σ 0) k (15 + army) ∨ b = 1)) → (same [26, 27, 28] σ2 σ1) → (safe = sfI (wAt (σ 0) k) army b 0 ∧ -1 ≤ safe ∧ safe ≤ 100) → (heads = hdI (wAt (σ 0) k) army b) → ((7 - b).toNat) < N_36 → WD G shM ad (aM ad) s s.heap σ1 H locs → lv_has ls 8 [(6, .int (iI b)), (5, .int (iI heads)), (4, .int (iI safe)), (0, .ref (ad 0)), (1, .int (iI k)), (2, .int (iI army)), (3, .int (iI what))] → W p l e (⟨3, 0, 0, 72⟩ : Room) s m ([.ref (ad 0), .int (iI k), .int (iI army), .int (iI what)] : List Value).toArray below meth c H locs 0 0 (MQ below (qS G shM ad (aM ad) (rI (fun r σ' => (r = sCodes (σ 0) k army what) ∧ (same [10, 26, 27, 28] σ σ')))) ([.ref (ad 0), .int (iI k), .int (iI army), .int (iI what)] : List Value).toArray s 0 0 (aM ad)) (F0 m 36 ls []) := by
          intro N_36
          induction N_36 with
          | zero =>
            intro safe heads b σ1 H locs ls hb hsm hsa hhe hμ_36 hW hl
            exact absurd hμ_36 (by omega)
          | succ N_36 ih_36 =>
            intro safe heads b σ1 H locs ls hb hsm hsa hhe hμ_36 hW hl
            have y0 : σ1 0 = σ 0 := (hsm 0 (by decide)).trans e0
            have y10 : σ1 10 = σ2 10 := hsm 10 (by decide)
            have y10b : σ1 10 0 = 610 + 89 * k := by rw [y10]; exact w10
            have wq : wr σ1 = wAt (σ 0) k := wr_at y0 y10b
            have wq15 : wr σ1 (15 + army) = wAt (σ 0) k (15 + army) := by rw [wq]
            have hhr := hdI_rng (w := (wAt (σ 0) k)) (army := army) (h := b) (by omega)
            refine lv_iload S.1 S.2.1 dX5_codes_36 (lv_at hl 0 rfl) ?_
            refine lv_aload_n S.1 S.2.1 dX5_codes_38 rfl (lv_at hl 3 rfl) ?_
            refine lv_iload_n S.1 S.2.1 dX5_codes_39 rfl (lv_at hl 5 rfl) ?_
            refine c_VP S hW (tX5_orders l G ad σ1 army (by omega) (by omega)) (cw_X5_221 S.2.2.2.2 ⟨Nat.le_of_ble_eq_true rfl, Nat.le_of_ble_eq_true rfl⟩) eBlind_T (fun _ _ _ => trivial) (w_recv hW (q0 := 0) rfl rfl) rfl hl.1 (rest := [.int (iI b)]) rfl (Nat.le_of_ble_eq_true rfl) dX5_codes_40 ⟨Nat.le_of_ble_eq_true rfl, Nat.le_of_ble_eq_true rfl⟩ (fun locs hW => ?_)
            refine r_icmp_ge S (tgt := 165) dX5_codes_43 rfl (by omega) (fun c_43 => ?_) (fun c_43 => ?_)
            ·
              have he1 : safe = sfI (wAt (σ 0) k) army (wAt (σ 0) k (15 + army)) 0 := (show b = wAt (σ 0) k (15 + army) ∨ (b = 1 ∧ wAt (σ 0) k (15 + army) = 0) by omega).elim (fun z => by rw [← z]; exact hsa.1) (fun z => by rw [hsa.1, z.1, z.2]; exact sfI_n (h := 0) (by omega))
              have he2 : heads = hdI (wAt (σ 0) k) army (wAt (σ 0) k (15 + army)) := (show b = wAt (σ 0) k (15 + army) ∨ (b = 1 ∧ wAt (σ 0) k (15 + army) = 0) by omega).elim (fun z => by rw [← z]; exact hhe) (fun z => by rw [hhe, z.1, z.2]; have := hdI_s (w := (wAt (σ 0) k)) (army := army) (h := 0) (by omega); rw [cnI_0] at this; exact this)
              refine lv_iload_n S.1 S.2.1 dX5_codes_165 rfl (lv_at hl 6 rfl) ?_
              refine r_if_ne S (tgt := 174) dX5_codes_166 rfl (by omega) (fun c_166 => ?_) (fun c_166 => ?_)
              ·
                refine lv_iload S.1 S.2.1 dX5_codes_174 (lv_at hl 1 rfl) ?_
                exact e_iS S hr hlk hW ⟨heads, rfl, ⟨(by unfold sCodes; rw [if_pos (by omega)]; first | (rw [if_pos (by omega)]; exact he1) | (rw [if_neg (by omega)]; exact he2)), (same_tr (same_w q2_sm (by decide)) hsm (by decide))⟩⟩ dX5_codes_176
              ·
                refine lv_iload S.1 S.2.1 dX5_codes_169 (lv_at hl 2 rfl) ?_
                refine lv_goto (tgt := 176) S.1 S.2.1 dX5_codes_171 rfl ?_
                exact e_iS S hr hlk hW ⟨safe, rfl, ⟨(by unfold sCodes; rw [if_pos (by omega)]; first | (rw [if_pos (by omega)]; exact he1) | (rw [if_neg (by omega)]; exact he2)), (same_tr (same_w q2_sm (by decide)) hsm (by decide))⟩⟩ dX5_codes_176
            ·
              refine r_iconst S dX5_codes_46 ?_
              refine lv_istore (lv' := [(7, .int (iI 0)), (6, .int (iI b)), (5, .int (iI heads)), (4, .int (iI safe)), (0, .ref (ad 0)), (1, .int (iI k)), (2, .int (iI army)), (3, .int (iI what))]) S.1 S.2.1 dX5_codes_47 hl (by decide) rfl (fun ls hl => ?_)
              have cut_49 : ∀ (N_49 : Nat) (safe heads a : Int) (σ3 : St) (H : Heap) (locs : List Loc) (ls : Array Slot), (0 ≤ a ∧ a ≤ b ∧ b < wAt (σ 0) k (15 + army)) → (same [26, 27, 28] σ2 σ3) → (safe = sfI (wAt (σ 0) k) army b a ∧ -1 ≤ safe ∧ safe ≤ 100) → (heads = hdI (wAt (σ 0) k) army b + cnI (hdP (wAt (σ 0) k) army b) a) → ((b - a).toNat) < N_49 → WD G shM ad (aM ad) s s.heap σ3 H locs → lv_has ls 8 [(7, .int (iI a)), (6, .int (iI b)), (5, .int (iI heads)), (4, .int (iI safe)), (0, .ref (ad 0)), (1, .int (iI k)), (2, .int (iI army)), (3, .int (iI what))] → W p l e (⟨3, 0, 0, 72⟩ : Room) s m ([.ref (ad 0), .int (iI k), .int (iI army), .int (iI what)] : List Value).toArray below meth c H locs 0 0 (MQ below (qS G shM ad (aM ad) (rI (fun r σ' => (r = sCodes (σ 0) k army what) ∧ (same [10, 26, 27, 28] σ σ')))) ([.ref (ad 0), .int (iI k), .int (iI army), .int (iI what)] : List Value).toArray s 0 0 (aM ad)) (F0 m 49 ls []) := by
                intro N_49
                induction N_49 with
                | zero =>
                  intro safe heads a σ3 H locs ls ha hsm3 hsa3 hhe3 hμ_49 hW hl
                  exact absurd hμ_49 (by omega)
                | succ N_49 ih_49 =>
                  intro safe heads a σ3 H locs ls ha hsm3 hsa3 hhe3 hμ_49 hW hl
                  have y0 : σ3 0 = σ 0 := (hsm3 0 (by decide)).trans e0
                  have y10 : σ3 10 = σ2 10 := hsm3 10 (by decide)
                  have y10b : σ3 10 0 = 610 + 89 * k := by rw [y10]; exact w10
                  have wq : wr σ3 = wAt (σ 0) k := wr_at y0 y10b
                  have wq15 : wr σ3 (15 + army) = wAt (σ 0) k (15 + army) := by rw [wq]
                  have hhr3 := hdI_rng (w := (wAt (σ 0) k)) (army := army) (h := b) (by omega)
                  have hcr3 := cnI_rng (hdP (wAt (σ 0) k) army b) ha.1
                  refine lv_iload S.1 S.2.1 dX5_codes_49 (lv_at hl 0 rfl) ?_
                  refine lv_iload S.1 S.2.1 dX5_codes_51 (lv_at hl 1 rfl) ?_
                  refine r_icmp_ge S (tgt := 159) dX5_codes_53 rfl (by omega) (fun c_53 => ?_) (fun c_53 => ?_)
                  ·
                    refine lv_iinc (v := iI (b + 1)) (lv' := [(6, .int (iI (b + 1))), (7, .int (iI a)), (5, .int (iI heads)), (4, .int (iI safe)), (0, .ref (ad 0)), (1, .int (iI k)), (2, .int (iI army)), (3, .int (iI what))]) S.1 S.2.1 dX5_codes_159 hl (k := 1) rfl (iI_add _ _) (by decide) rfl (fun ls hl => ?_)
                    refine lv_goto (tgt := 36) S.1 S.2.1 dX5_codes_162 rfl ?_
                    exact ih_36 safe heads (b + 1) σ3 H _ _ (by omega) (hsm3) (by rw [sfI_n (by omega), ← show a = b by omega]; rw [show a = b by omega] at hsa3 ⊢; exact hsa3) (by rw [hdI_s (by omega), hhe3, show a = b by omega]) (by omega) hW (lv_sub hl [0, 2, 3, 4, 5, 6, 7] rfl)
                  ·
                    have hOa := hA.2.2.2.2.2 a (by omega) (by omega)
                    have hOb := hA.2.2.2.2.2 b (by omega) (by omega)
                    have hOa1 := hOa.1
                    have hOb1 := hOb.1
                    have hOa2 := hOa.2.1
                    have hOb2 := hOb.2.1
                    have her := edI_rng (f := oBeat (wAt (σ 0) k) army a) (g := oBeat (wAt (σ 0) k) army b) (i := oLen (wAt (σ 0) k) army a) (j := oLen (wAt (σ 0) k) army b) (by omega) (by omega)
                    have hed : edO (wAt (σ 0) k) army a b = edI (oBeat (wAt (σ 0) k) army a) (oBeat (wAt (σ 0) k) army b) (oLen (wAt (σ 0) k) army a) (oLen (wAt (σ 0) k) army b) := rfl
                    refine lv_iload S.1 S.2.1 dX5_codes_56 (lv_at hl 2 rfl) ?_
                    have cut_89 : ∀ (H : Heap) (locs : List Loc) (ls : Array Slot), WD G shM ad (aM ad) s s.heap σ3 H locs → lv_has ls 8 [(7, .int (iI a)), (6, .int (iI b)), (5, .int (iI heads)), (4, .int (iI safe)), (0, .ref (ad 0)), (1, .int (iI k)), (2, .int (iI army)), (3, .int (iI what))] → W p l e (⟨3, 0, 0, 72⟩ : Room) s m ([.ref (ad 0), .int (iI k), .int (iI army), .int (iI what)] : List Value).toArray below meth c H locs 0 0 (MQ below (qS G shM ad (aM ad) (rI (fun r σ' => (r = sCodes (σ 0) k army what) ∧ (same [10, 26, 27, 28] σ σ')))) ([.ref (ad 0), .int (iI k), .int (iI army), .int (iI what)] : List Value).toArray s 0 0 (aM ad)) (F0 m 89 ls [.int (iI (b2i (dP (hdP (wAt (σ 0) k) army b a)))), .int (iI heads)]) := by
                      intro H locs ls hW hl
                      refine r_iadd S dX5_codes_89 ?_
                      refine lv_istore (lv' := [(5, .int (iI (heads + (b2i (dP (hdP (wAt (σ 0) k) army b a)))))), (7, .int (iI a)), (6, .int (iI b)), (4, .int (iI safe)), (0, .ref (ad 0)), (1, .int (iI k)), (2, .int (iI army)), (3, .int (iI what))]) S.1 S.2.1 dX5_codes_90 hl (by decide) rfl (fun ls hl => ?_)
                      refine lv_aload_n S.1 S.2.1 dX5_codes_92 rfl (lv_at hl 4 rfl) ?_
                      refine w_getr S hW in_X5 0 rfl rfl 0 (by decide) q1651 rfl rfl dX5_codes_93 ?_
                      refine lv_aload_n S.1 S.2.1 dX5_codes_96 rfl (lv_at hl 4 rfl) ?_
                      refine lv_iload_n S.1 S.2.1 dX5_codes_97 rfl (lv_at hl 6 rfl) ?_
                      refine lv_iload S.1 S.2.1 dX5_codes_98 (lv_at hl 1 rfl) ?_
                      refine c_VP S hW (tX5_orderAt l G ad σ3 army a) (cw_X5_215 S.2.2.2.2 ⟨Nat.le_of_ble_eq_true rfl, Nat.le_of_ble_eq_true rfl⟩) eBlind_T (fun _ _ _ => trivial) (w_recv hW (q0 := 0) rfl rfl) rfl hl.1 (rest := [.ref (ad 1)]) rfl (Nat.le_of_ble_eq_true rfl) dX5_codes_100 ⟨Nat.le_of_ble_eq_true rfl, Nat.le_of_ble_eq_true rfl⟩ (fun locs hW => ?_)
                      refine w_ald S hW 1 0 rfl rfl (by omega) dX5_codes_103 ?_
                      refine r_as (oMove (wAt (σ 0) k) army a) (by simp only [oMove, wAt]; rw [y0, y10b]; congr 1; omega) ?_
                      refine lv_aload_n S.1 S.2.1 dX5_codes_104 rfl (lv_at hl 4 rfl) ?_
                      refine w_getr S hW in_X5 0 rfl rfl 0 (by decide) q1651 rfl rfl dX5_codes_105 ?_
                      refine lv_aload_n S.1 S.2.1 dX5_codes_108 rfl (lv_at hl 4 rfl) ?_
                      refine lv_iload_n S.1 S.2.1 dX5_codes_109 rfl (lv_at hl 6 rfl) ?_
                      refine lv_iload S.1 S.2.1 dX5_codes_110 (lv_at hl 2 rfl) ?_
                      refine c_VP S hW (tX5_orderAt l G ad σ3 army b) (cw_X5_215 S.2.2.2.2 ⟨Nat.le_of_ble_eq_true rfl, Nat.le_of_ble_eq_true rfl⟩) eBlind_T (fun _ _ _ => trivial) (w_recv hW (q0 := 0) rfl rfl) rfl hl.1 (rest := [.ref (ad 1), .int (iI (oMove (wAt (σ 0) k) army a))]) rfl (Nat.le_of_ble_eq_true rfl) dX5_codes_112 ⟨Nat.le_of_ble_eq_true rfl, Nat.le_of_ble_eq_true rfl⟩ (fun locs hW => ?_)
                      refine w_ald S hW 1 0 rfl rfl (by omega) dX5_codes_115 ?_
                      refine r_as (oMove (wAt (σ 0) k) army b) (by simp only [oMove, wAt]; rw [y0, y10b]; congr 1; omega) ?_
                      refine r_icmp_eq S (tgt := 153) dX5_codes_116 rfl (by omega) (fun c_116 => ?_) (fun c_116 => ?_)
                      ·
                        refine lv_iinc (v := iI (a + 1)) (lv' := [(7, .int (iI (a + 1))), (5, .int (iI (heads + (b2i (dP (hdP (wAt (σ 0) k) army b a)))))), (6, .int (iI b)), (4, .int (iI safe)), (0, .ref (ad 0)), (1, .int (iI k)), (2, .int (iI army)), (3, .int (iI what))]) S.1 S.2.1 dX5_codes_153 hl (k := 1) rfl (iI_add _ _) (by decide) rfl (fun ls hl => ?_)
                        refine lv_goto (tgt := 49) S.1 S.2.1 dX5_codes_156 rfl ?_
                        exact ih_49 safe (heads + (b2i (dP (hdP (wAt (σ 0) k) army b a)))) (a + 1) σ3 H _ _ (by omega) (by first | exact hsm3 | exact same_tr hsm3 q131_sm (by decide) | exact same_tr hsm3 q145_sm (by decide)) (by rw [sfI_s ha.1, ← hsa3.1]; first | (rw [if_pos c_116]; exact ⟨rfl, hsa3.2⟩) | (rw [if_neg c_116]; unfold mnD; rw [if_pos c_122, wq]; exact ⟨rfl, by omega⟩) | (rw [if_neg c_116]; unfold mnD; rw [if_neg c_122, hed2]; exact ⟨rfl, by omega⟩)) (by rw [cnI_s _ ha.1, hhe3]; omega) (by omega) hW (lv_sub hl [0, 2, 1, 3, 4, 5, 6, 7] rfl)
                      ·
                        refine lv_iload S.1 S.2.1 dX5_codes_119 (lv_at hl 3 rfl) ?_
                        refine r_iconst S dX5_codes_121 ?_
                        refine r_icmp_ne S (tgt := 137) dX5_codes_122 rfl (by omega) (fun c_122 => ?_) (fun c_122 => ?_)
                        ·
                          refine lv_iload S.1 S.2.1 dX5_codes_137 (lv_at hl 3 rfl) ?_
                          refine lv_aload_n S.1 S.2.1 dX5_codes_139 rfl (lv_at hl 4 rfl) ?_
                          refine lv_iload_n S.1 S.2.1 dX5_codes_140 rfl (lv_at hl 6 rfl) ?_
                          refine lv_iload S.1 S.2.1 dX5_codes_141 (lv_at hl 1 rfl) ?_
                          refine lv_iload S.1 S.2.1 dX5_codes_143 (lv_at hl 2 rfl) ?_
                          refine c_VSi S hW (tX5_farOf l G ad σ3 army a b (by omega) (by omega) (by rw [wq]; exact hA) (by omega) (by omega)) (cw_X5_325 S.2.2.2.2 ⟨Nat.le_of_ble_eq_true rfl, Nat.le_of_ble_eq_true rfl⟩) eBlind_T (fun _ _ _ => trivial) (w_recv hW (q0 := 0) rfl rfl) rfl hl.1 (rest := [.int (iI safe)]) rfl (Nat.le_of_ble_eq_true rfl) dX5_codes_145 ⟨Nat.le_of_ble_eq_true rfl, Nat.le_of_ble_eq_true rfl⟩ (fun r145 σ145 H locs q145 hW => ?_)
                          obtain ⟨rfl, q145_sm⟩ := q145
                          have hed2 : edO (wr σ3) army a b = edO (wAt (σ 0) k) army a b := by rw [wq]
                          refine c_SPw S hW (tX5_lesser l safe (edO (wr σ3) army a b) (by omega)) (cw_X5_320 S.2.2.2.2 ⟨Nat.le_of_ble_eq_true rfl, Nat.le_of_ble_eq_true rfl⟩) rfl hl.1 (rest := []) rfl (Nat.le_of_ble_eq_true rfl) dX5_codes_148 ⟨Nat.le_of_ble_eq_true rfl, Nat.le_of_ble_eq_true rfl⟩ (fun locs hW => ?_)
                          refine lv_istore (lv' := [(4, .int (iI (min safe (edO (wr σ3) army a b)))), (5, .int (iI (heads + (b2i (dP (hdP (wAt (σ 0) k) army b a)))))), (7, .int (iI a)), (6, .int (iI b)), (0, .ref (ad 0)), (1, .int (iI k)), (2, .int (iI army)), (3, .int (iI what))]) S.1 S.2.1 dX5_codes_151 hl (by decide) rfl (fun ls hl => ?_)
                          refine lv_iinc (v := iI (a + 1)) (lv' := [(7, .int (iI (a + 1))), (4, .int (iI (min safe (edO (wr σ3) army a b)))), (5, .int (iI (heads + (b2i (dP (hdP (wAt (σ 0) k) army b a)))))), (6, .int (iI b)), (0, .ref (ad 0)), (1, .int (iI k)), (2, .int (iI army)), (3, .int (iI what))]) S.1 S.2.1 dX5_codes_153 hl (k := 2) rfl (iI_add _ _) (by decide) rfl (fun ls hl => ?_)
                          refine lv_goto (tgt := 49) S.1 S.2.1 dX5_codes_156 rfl ?_
                          exact ih_49 (min safe (edO (wr σ3) army a b)) (heads + (b2i (dP (hdP (wAt (σ 0) k) army b a)))) (a + 1) σ145 H _ _ (by omega) (by first | exact hsm3 | exact same_tr hsm3 q131_sm (by decide) | exact same_tr hsm3 q145_sm (by decide)) (by rw [sfI_s ha.1, ← hsa3.1]; first | (rw [if_pos c_116]; exact ⟨rfl, hsa3.2⟩) | (rw [if_neg c_116]; unfold mnD; rw [if_pos c_122, wq]; exact ⟨rfl, by omega⟩) | (rw [if_neg c_116]; unfold mnD; rw [if_neg c_122, hed2]; exact ⟨rfl, by omega⟩)) (by rw [cnI_s _ ha.1, hhe3]; omega) (by omega) hW (lv_sub hl [0, 3, 2, 1, 4, 5, 6, 7] rfl)
                        ·
                          refine lv_aload_n S.1 S.2.1 dX5_codes_125 rfl (lv_at hl 4 rfl) ?_
                          refine lv_iload_n S.1 S.2.1 dX5_codes_126 rfl (lv_at hl 6 rfl) ?_
                          refine lv_iload S.1 S.2.1 dX5_codes_127 (lv_at hl 1 rfl) ?_
                          refine lv_iload S.1 S.2.1 dX5_codes_129 (lv_at hl 2 rfl) ?_
                          refine c_VSi S hW (tX5_farOf l G ad σ3 army a b (by omega) (by omega) (by rw [wq]; exact hA) (by omega) (by omega)) (cw_X5_325 S.2.2.2.2 ⟨Nat.le_of_ble_eq_true rfl, Nat.le_of_ble_eq_true rfl⟩) eBlind_T (fun _ _ _ => trivial) (w_recv hW (q0 := 0) rfl rfl) rfl hl.1 (rest := []) rfl (Nat.le_of_ble_eq_true rfl) dX5_codes_131 ⟨Nat.le_of_ble_eq_true rfl, Nat.le_of_ble_eq_true rfl⟩ (fun r131 σ131 H locs q131 hW => ?_)
                          obtain ⟨rfl, q131_sm⟩ := q131
                          refine lv_goto (tgt := 151) S.1 S.2.1 dX5_codes_134 rfl ?_
                          refine lv_istore (lv' := [(4, .int (iI (edO (wr σ3) army a b))), (5, .int (iI (heads + (b2i (dP (hdP (wAt (σ 0) k) army b a)))))), (7, .int (iI a)), (6, .int (iI b)), (0, .ref (ad 0)), (1, .int (iI k)), (2, .int (iI army)), (3, .int (iI what))]) S.1 S.2.1 dX5_codes_151 hl (by decide) rfl (fun ls hl => ?_)
                          refine lv_iinc (v := iI (a + 1)) (lv' := [(7, .int (iI (a + 1))), (4, .int (iI (edO (wr σ3) army a b))), (5, .int (iI (heads + (b2i (dP (hdP (wAt (σ 0) k) army b a)))))), (6, .int (iI b)), (0, .ref (ad 0)), (1, .int (iI k)), (2, .int (iI army)), (3, .int (iI what))]) S.1 S.2.1 dX5_codes_153 hl (k := 2) rfl (iI_add _ _) (by decide) rfl (fun ls hl => ?_)
                          refine lv_goto (tgt := 49) S.1 S.2.1 dX5_codes_156 rfl ?_
                          exact ih_49 (edO (wr σ3) army a b) (heads + (b2i (dP (hdP (wAt (σ 0) k) army b a)))) (a + 1) σ131 H _ _ (by omega) (by first | exact hsm3 | exact same_tr hsm3 q131_sm (by decide) | exact same_tr hsm3 q145_sm (by decide)) (by rw [sfI_s ha.1, ← hsa3.1]; first | (rw [if_pos c_116]; exact ⟨rfl, hsa3.2⟩) | (rw [if_neg c_116]; unfold mnD; rw [if_pos c_122, wq]; exact ⟨rfl, by omega⟩) | (rw [if_neg c_116]; unfold mnD; rw [if_neg c_122, hed2]; exact ⟨rfl, by omega⟩)) (by rw [cnI_s _ ha.1, hhe3]; omega) (by omega) hW (lv_sub hl [0, 3, 2, 1, 4, 5, 6, 7] rfl)
                    refine lv_aload_n S.1 S.2.1 dX5_codes_58 rfl (lv_at hl 4 rfl) ?_
                    refine lv_iload_n S.1 S.2.1 dX5_codes_59 rfl (lv_at hl 6 rfl) ?_
                    refine lv_iload S.1 S.2.1 dX5_codes_60 (lv_at hl 0 rfl) ?_
                    refine lv_iload_n S.1 S.2.1 dX5_codes_62 rfl (lv_at hl 6 rfl) ?_
                    refine lv_iload S.1 S.2.1 dX5_codes_63 (lv_at hl 1 rfl) ?_
                    refine c_VP S hW (tX5_beginsWith l G ad σ3 army a army b (by omega) (by omega) (by rw [wq]; exact hA) (by rw [wq]; exact hA) (by omega) (by omega)) (cw_X5_328 S.2.2.2.2 ⟨Nat.le_of_ble_eq_true rfl, Nat.le_of_ble_eq_true rfl⟩) eBlind_T (fun _ _ _ => trivial) (w_recv hW (q0 := 0) rfl rfl) rfl hl.1 (rest := [.int (iI heads)]) rfl (Nat.le_of_ble_eq_true rfl) dX5_codes_65 ⟨Nat.le_of_ble_eq_true rfl, Nat.le_of_ble_eq_true rfl⟩ (fun locs hW => ?_)
                    refine r_ifne_p S (tgt := 84) dX5_codes_68 rfl (fun c_68 => ?_) (fun c_68 => ?_)
                    ·
                      rw [wq] at c_68
                      refine r_iconst S dX5_codes_84 ?_
                      refine lv_goto (tgt := 89) S.1 S.2.1 dX5_codes_85 rfl ?_
                      refine r_as (b2i (dP (hdP (wAt (σ 0) k) army b a))) (by first | exact dP_1 (Or.inl c_68) | exact dP_1 (Or.inr c_81) | exact dP_0 (fun z => z.elim c_68 c_81)) ?_
                      exact cut_89 H _ _ hW (lv_sub hl [0, 1, 2, 3, 4, 5, 6, 7] rfl)
                    ·
                      rw [wq] at c_68
                      refine lv_aload_n S.1 S.2.1 dX5_codes_71 rfl (lv_at hl 4 rfl) ?_
                      refine lv_iload_n S.1 S.2.1 dX5_codes_72 rfl (lv_at hl 6 rfl) ?_
                      refine lv_iload S.1 S.2.1 dX5_codes_73 (lv_at hl 1 rfl) ?_
                      refine lv_iload_n S.1 S.2.1 dX5_codes_75 rfl (lv_at hl 6 rfl) ?_
                      refine lv_iload S.1 S.2.1 dX5_codes_76 (lv_at hl 0 rfl) ?_
                      refine c_VP S hW (tX5_beginsWith l G ad σ3 army b army a (by omega) (by omega) (by rw [wq]; exact hA) (by rw [wq]; exact hA) (by omega) (by omega)) (cw_X5_328 S.2.2.2.2 ⟨Nat.le_of_ble_eq_true rfl, Nat.le_of_ble_eq_true rfl⟩) eBlind_T (fun _ _ _ => trivial) (w_recv hW (q0 := 0) rfl rfl) rfl hl.1 (rest := [.int (iI heads)]) rfl (Nat.le_of_ble_eq_true rfl) dX5_codes_78 ⟨Nat.le_of_ble_eq_true rfl, Nat.le_of_ble_eq_true rfl⟩ (fun locs hW => ?_)
                      refine r_ifeq_p S (tgt := 88) dX5_codes_81 rfl (fun c_81 => ?_) (fun c_81 => ?_)
                      ·
                        rw [wq] at c_81
                        refine r_iconst S dX5_codes_88 ?_
                        refine r_as (b2i (dP (hdP (wAt (σ 0) k) army b a))) (by first | exact dP_1 (Or.inl c_68) | exact dP_1 (Or.inr c_81) | exact dP_0 (fun z => z.elim c_68 c_81)) ?_
                        exact cut_89 H _ _ hW (lv_sub hl [0, 1, 2, 3, 4, 5, 6, 7] rfl)
                      ·
                        rw [wq] at c_81
                        refine r_iconst S dX5_codes_84 ?_
                        refine lv_goto (tgt := 89) S.1 S.2.1 dX5_codes_85 rfl ?_
                        refine r_as (b2i (dP (hdP (wAt (σ 0) k) army b a))) (by first | exact dP_1 (Or.inl c_68) | exact dP_1 (Or.inr c_81) | exact dP_0 (fun z => z.elim c_68 c_81)) ?_
                        exact cut_89 H _ _ hW (lv_sub hl [0, 1, 2, 3, 4, 5, 6, 7] rfl)
              exact cut_49 _ safe heads 0 σ1 H _ _ (by omega) (hsm) (hsa) (by rw [hhe, cnI_0]; omega) (Nat.lt_succ_self _) hW (lv_sub hl [0, 1, 2, 3, 4, 5, 6, 7] rfl)
        exact cut_36 _ (-1) 0 1 σ2 H _ _ (by omega) (same_rf) (⟨(sfI_n (h := 0) (by omega)).symm, by omega, by omega⟩) (by have := hdI_s (w := (wAt (σ 0) k)) (army := army) (h := 0) (by omega); rw [cnI_0] at this; exact this.symm) (Nat.lt_succ_self _) hW (lv_sub hl [0, 1, 2, 3, 4, 5, 6] rfl)
      ·
        refine r_bipush S dX5_codes_24 (by decide) ?_
        exact e_iS S hr hlk hW ⟨(-2), rfl, ⟨(by unfold sCodes; rw [if_neg (by omega)]), (same_w q2_sm (by decide))⟩⟩ dX5_codes_26
