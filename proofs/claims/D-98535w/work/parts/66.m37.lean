theorem TwI_9 {w : Int → Int} {x : Int} {h : Int → Int} (hz : ∀ j : Int, 0 ≤ j → j < 30 → h j = 9999) : TwI w x h := ⟨fun k a b => by rw [hz k a b]; omega, fun k a b z => absurd z (by rw [hz k a b]; omega), fun k a b z => absurd z (by rw [hz k a b]; omega)⟩
theorem smU_nn' {h : Int → Int} : ∀ n : Nat, (∀ k : Int, 0 ≤ k → k < n → 0 ≤ h k) → 0 ≤ smU h n := by
  intro n
  induction n with
  | zero => intro _; exact Int.le_refl 0
  | succ n ih => intro hh; unfold smU; have := hh n (by omega) (by omega); have := ih (fun k a b => hh k a (by omega)); omega
theorem hd_X5_hangsOn : yX5_hangsOn.cls = RX5 ∧ yX5_hangsOn.cls ≠ "java/lang/invoke/MethodHandle" ∧ yX5_hangsOn.cls ≠ "java/lang/invoke/VarHandle" ∧ (parseMethodDescriptor yX5_hangsOn.desc).map (fun d => d.parameters.length) = some 4 := by decide +kernel
theorem cw_X5_385 {R : Room} {s : State} {args : Array Value} (ht : ∀ w ∈ lw_all, w.before args s = true) (hR : 3 + 1 ≤ R.frames ∧ 8 + (7 + 11) + 72 ≤ R.locals) : CallW R s args "OneDrumModel" RX5 385 yX5_hangsOn cX5_hangsOn 7 (some .boolean) (ws_ yX5_hangsOn cX5_hangsOn 7 (some .boolean)) ⟨3, 0, 0, 72⟩ 0 0 4 := cwV 4 ht (lw_V q2179 q2181 qs115 q126 q2182) rfl rfl rfl hd_X5_hangsOn hR
set_option maxHeartbeats 4000000 in
theorem tX5_twofold (l : Launch) (G : GG) (ad : Nat → Nat) (σ : St) (army : Int) (hw0 : 0 ≤ σ 10 0 ∧ σ 10 0 ≤ 700) (hx : 0 ≤ army ∧ army ≤ 1) (hA : WfArmy (wr σ) army) : Met l yX5_twofold (ws_ yX5_twofold cX5_twofold 5 (some .int)) ⟨4, 0, 0, 98⟩ (wPre G shM ad σ (fun _ => True) [.ref (ad 0), .int (iI army)]) (qS G shM ad (aM ad) (rI (fun r σ' => (r = twI (cdL (wr σ) army) (wr σ (15 + army))) ∧ (same [37] σ σ')))) 0 0 (aM ad) := by
  refine wStart (by decide) (Nat.le_of_ble_eq_true rfl) (fun k hk => ⟨k, hk, rfl⟩) (fun p e s m below meth c S hr hlk _ _ ls hW hl => ?_)
  have hl : lv_has ls 5 [(0, .ref (ad 0)), (1, .int (iI army))] := hl
  have hN := hA.2.2.2.2.1
  have hL : ∀ a : Int, 0 ≤ a → a < (wr σ (15 + army)) → 1 ≤ oLen (wr σ) army a ∧ oLen (wr σ) army a ≤ 4 := fun a a0 a1 => (hA.2.2.2.2.2 a a0 a1).2.1
  refine r_iconst S dX5_twofold_0 ?_
  refine lv_istore_n (lv' := [(2, .int (iI 0)), (0, .ref (ad 0)), (1, .int (iI army))]) S.1 S.2.1 dX5_twofold_1 rfl hl (by decide) rfl (fun ls hl => ?_)
  have cut_2 : ∀ (N_2 : Nat) (k : Int) (σ1 : St) (H : Heap) (locs : List Loc) (ls : Array Slot), (0 ≤ k ∧ k ≤ 30) → (same [37] σ σ1) → (∀ j : Int, 0 ≤ j → j < k → σ1 37 j = 9999) → ((30 - k).toNat) < N_2 → WD G shM ad (aM ad) s s.heap σ1 H locs → lv_has ls 5 [(2, .int (iI k)), (0, .ref (ad 0)), (1, .int (iI army))] → W p l e (⟨4, 0, 0, 98⟩ : Room) s m ([.ref (ad 0), .int (iI army)] : List Value).toArray below meth c H locs 0 0 (MQ below (qS G shM ad (aM ad) (rI (fun r σ' => (r = twI (cdL (wr σ) army) (wr σ (15 + army))) ∧ (same [37] σ σ')))) ([.ref (ad 0), .int (iI army)] : List Value).toArray s 0 0 (aM ad)) (F0 m 2 ls []) := by
    intro N_2
    induction N_2 with
    | zero =>
      intro k σ1 H locs ls hk hs hz hμ_2 hW hl
      exact absurd hμ_2 (by omega)
    | succ N_2 ih_2 =>
      intro k σ1 H locs ls hk hs hz hμ_2 hW hl
      refine lv_iload_n S.1 S.2.1 dX5_twofold_2 rfl (lv_at hl 0 rfl) ?_
      refine r_bipush S dX5_twofold_3 (by decide) ?_
      refine r_icmp_ge S (tgt := 23) dX5_twofold_5 rfl (by omega) (fun c_5 => ?_) (fun c_5 => ?_)
      ·
        refine r_iconst S dX5_twofold_23 ?_
        refine lv_istore_n (lv' := [(2, .int (iI 0)), (0, .ref (ad 0)), (1, .int (iI army))]) S.1 S.2.1 dX5_twofold_24 rfl hl (by decide) rfl (fun ls hl => ?_)
        have cut_25 : ∀ (N_25 : Nat) (a : Int) (σ2 : St) (H : Heap) (locs : List Loc) (ls : Array Slot), (0 ≤ a ∧ a ≤ (wr σ (15 + army))) → (same [37] σ σ2) → (TwI (wr σ) army (σ2 37)) → (∀ x y : Int, 0 ≤ x → x < a → 0 ≤ y → y < (wr σ (15 + army)) → x ≠ y → giP (wr σ) army x 0 y 0 → σ2 37 (5 * y + oLen (wr σ) army x) ≤ oLen (wr σ) army y) → (((wr σ (15 + army)) - a).toNat) < N_25 → WD G shM ad (aM ad) s s.heap σ2 H locs → lv_has ls 5 [(2, .int (iI a)), (0, .ref (ad 0)), (1, .int (iI army))] → W p l e (⟨4, 0, 0, 98⟩ : Room) s m ([.ref (ad 0), .int (iI army)] : List Value).toArray below meth c H locs 0 0 (MQ below (qS G shM ad (aM ad) (rI (fun r σ' => (r = twI (cdL (wr σ) army) (wr σ (15 + army))) ∧ (same [37] σ σ')))) ([.ref (ad 0), .int (iI army)] : List Value).toArray s 0 0 (aM ad)) (F0 m 25 ls []) := by
          intro N_25
          induction N_25 with
          | zero =>
            intro a σ2 H locs ls ha hs2 hI2 h02 hμ_25 hW hl
            exact absurd hμ_25 (by omega)
          | succ N_25 ih_25 =>
            intro a σ2 H locs ls ha hs2 hI2 h02 hμ_25 hW hl
            have wE : wr σ2 = wr σ := by funext j; simp only [wr]; rw [hs2 0 (by decide), hs2 10 (by decide)]
            have yo : wr σ2 (15 + army) = wr σ (15 + army) := by rw [wE]
            have y10 : σ2 10 0 = σ 10 0 := by rw [hs2 10 (by decide)]
            refine lv_iload_n S.1 S.2.1 dX5_twofold_25 rfl (lv_at hl 0 rfl) ?_
            refine lv_aload_n S.1 S.2.1 dX5_twofold_26 rfl (lv_at hl 1 rfl) ?_
            refine lv_iload_n S.1 S.2.1 dX5_twofold_27 rfl (lv_at hl 2 rfl) ?_
            refine c_VP S hW (tX5_orders l G ad σ2 army (by omega) (hx)) (cw_X5_221 S.2.2.2.2 ⟨Nat.le_of_ble_eq_true rfl, Nat.le_of_ble_eq_true rfl⟩) eBlind_T (fun _ _ _ => trivial) (w_recv hW (q0 := 0) rfl rfl) rfl hl.1 (rest := [.int (iI a)]) rfl (Nat.le_of_ble_eq_true rfl) dX5_twofold_28 ⟨Nat.le_of_ble_eq_true rfl, Nat.le_of_ble_eq_true rfl⟩ (fun locs hW => ?_)
            refine r_icmp_ge S (tgt := 95) dX5_twofold_31 rfl (by omega) (fun c_31 => ?_) (fun c_31 => ?_)
            ·
              refine r_iconst S dX5_twofold_95 ?_
              refine lv_istore_n (lv' := [(2, .int (iI 1)), (0, .ref (ad 0)), (1, .int (iI army))]) S.1 S.2.1 dX5_twofold_96 rfl hl (by decide) rfl (fun ls hl => ?_)
              have cut_97 : ∀ (N_97 : Nat) (mo : Bool) (σ4 : St) (H : Heap) (locs : List Loc) (ls : Array Slot), (same [37] σ σ4) → (TwI (wr σ) army (σ4 37)) → (∀ x y : Int, 0 ≤ x → x < (wr σ (15 + army)) → 0 ≤ y → y < (wr σ (15 + army)) → x ≠ y → giP (wr σ) army x 0 y 0 → σ4 37 (5 * y + oLen (wr σ) army x) ≤ oLen (wr σ) army y) → (mo = true ∨ ∀ x f y : Int, 0 ≤ x → x < (wr σ (15 + army)) → 0 ≤ f → f ≤ 4 → 0 ≤ y → y < (wr σ (15 + army)) → (True) → stP (wr σ) army (σ4 37) x f y) → ((2 * smU (σ4 37) 30 + b2i mo).toNat) < N_97 → WD G shM ad (aM ad) s s.heap σ4 H locs → lv_has ls 5 [(2, .int (iI (b2i mo))), (0, .ref (ad 0)), (1, .int (iI army))] → W p l e (⟨4, 0, 0, 98⟩ : Room) s m ([.ref (ad 0), .int (iI army)] : List Value).toArray below meth c H locs 0 0 (MQ below (qS G shM ad (aM ad) (rI (fun r σ' => (r = twI (cdL (wr σ) army) (wr σ (15 + army))) ∧ (same [37] σ σ')))) ([.ref (ad 0), .int (iI army)] : List Value).toArray s 0 0 (aM ad)) (F0 m 97 ls []) := by
                intro N_97
                induction N_97 with
                | zero =>
                  intro mo σ4 H locs ls hs4 hI4 h04 hmo hμ_97 hW hl
                  exact absurd hμ_97 (by omega)
                | succ N_97 ih_97 =>
                  intro mo σ4 H locs ls hs4 hI4 h04 hmo hμ_97 hW hl
                  have wE : wr σ4 = wr σ := by funext j; simp only [wr]; rw [hs4 0 (by decide), hs4 10 (by decide)]
                  have yo : wr σ4 (15 + army) = wr σ (15 + army) := by rw [wE]
                  have y10 : σ4 10 0 = σ 10 0 := by rw [hs4 10 (by decide)]
                  refine lv_iload_n S.1 S.2.1 dX5_twofold_97 rfl (lv_at hl 0 rfl) ?_
                  refine r_ifeq_b S (tgt := 176) dX5_twofold_98 rfl (fun c_98 => ?_) (fun c_98 => ?_)
                  ·
                    refine r_sipush S dX5_twofold_176 (by decide) ?_
                    refine lv_istore_n (lv' := [(3, .int (iI 9999)), (2, .int (iI (b2i mo))), (0, .ref (ad 0)), (1, .int (iI army))]) S.1 S.2.1 dX5_twofold_179 rfl hl (by decide) rfl (fun ls hl => ?_)
                    refine r_iconst S dX5_twofold_180 ?_
                    refine lv_istore (lv' := [(4, .int (iI 0)), (3, .int (iI 9999)), (2, .int (iI (b2i mo))), (0, .ref (ad 0)), (1, .int (iI army))]) S.1 S.2.1 dX5_twofold_181 hl (by decide) rfl (fun ls hl => ?_)
                    have cut_183 : ∀ (N_183 : Nat) (le_ a : Int) (H : Heap) (locs : List Loc) (ls : Array Slot), (0 ≤ a ∧ a ≤ (wr σ (15 + army))) → (0 ≤ le_ ∧ le_ ≤ 9999) → (le_ = 9999 ∨ ∃ x : Int, (0 ≤ x ∧ x < (wr σ (15 + army))) ∧ le_ = σ4 37 (5 * x + oLen (wr σ) army x)) → (∀ x : Int, 0 ≤ x → x < a → le_ ≤ σ4 37 (5 * x + oLen (wr σ) army x)) → (((wr σ (15 + army)) - a).toNat) < N_183 → WD G shM ad (aM ad) s s.heap σ4 H locs → lv_has ls 5 [(4, .int (iI a)), (3, .int (iI le_)), (0, .ref (ad 0)), (1, .int (iI army))] → W p l e (⟨4, 0, 0, 98⟩ : Room) s m ([.ref (ad 0), .int (iI army)] : List Value).toArray below meth c H locs 0 0 (MQ below (qS G shM ad (aM ad) (rI (fun r σ' => (r = twI (cdL (wr σ) army) (wr σ (15 + army))) ∧ (same [37] σ σ')))) ([.ref (ad 0), .int (iI army)] : List Value).toArray s 0 0 (aM ad)) (F0 m 183 ls []) := by
                      intro N_183
                      induction N_183 with
                      | zero =>
                        intro le_ a H locs ls ha9 hle hm9 hls hμ_183 hW hl
                        exact absurd hμ_183 (by omega)
                      | succ N_183 ih_183 =>
                        intro le_ a H locs ls ha9 hle hm9 hls hμ_183 hW hl
                        have yl : ∀ z : Int, oLen (wr σ4) army z = oLen (wr σ) army z := fun z => by rw [wE]
                        refine lv_iload S.1 S.2.1 dX5_twofold_183 (lv_at hl 0 rfl) ?_
                        refine lv_aload_n S.1 S.2.1 dX5_twofold_185 rfl (lv_at hl 2 rfl) ?_
                        refine lv_iload_n S.1 S.2.1 dX5_twofold_186 rfl (lv_at hl 3 rfl) ?_
                        refine c_VP S hW (tX5_orders l G ad σ4 army (by omega) (hx)) (cw_X5_221 S.2.2.2.2 ⟨Nat.le_of_ble_eq_true rfl, Nat.le_of_ble_eq_true rfl⟩) eBlind_T (fun _ _ _ => trivial) (w_recv hW (q0 := 0) rfl rfl) rfl hl.1 (rest := [.int (iI a)]) rfl (Nat.le_of_ble_eq_true rfl) dX5_twofold_187 ⟨Nat.le_of_ble_eq_true rfl, Nat.le_of_ble_eq_true rfl⟩ (fun locs hW => ?_)
                        refine r_icmp_ge S (tgt := 221) dX5_twofold_190 rfl (by omega) (fun c_190 => ?_) (fun c_190 => ?_)
                        ·
                          refine lv_iload_n S.1 S.2.1 dX5_twofold_221 rfl (lv_at hl 1 rfl) ?_
                          refine r_sipush S dX5_twofold_222 (by decide) ?_
                          refine r_icmp_ne S (tgt := 232) dX5_twofold_225 rfl (by omega) (fun c_225 => ?_) (fun c_225 => ?_)
                          ·
                            refine lv_iload_n S.1 S.2.1 dX5_twofold_232 rfl (lv_at hl 1 rfl) ?_
                            exact e_iS S hr hlk hW ⟨le_, rfl, ⟨(by have hst : ∀ x f y : Int, 0 ≤ x → x < (wr σ (15 + army)) → 0 ≤ f → f ≤ 4 → 0 ≤ y → y < (wr σ (15 + army)) → (True) → stP (wr σ) army (σ4 37) x f y := (hmo.elim (fun z => absurd z (by rw [c_98]; decide)) (fun z => z)); have ti := Tw_end hA hI4 (fun x y x0 x1 y0 y1 => h04 x y x0 x1 y0 y1) (fun x f y x0 x1 f0 f1 y0 y1 => hst x f y x0 x1 f0 f1 y0 y1 trivial) hm9 (fun x x0 x1 => hls x x0 (by omega)) hle.2; first | (rw [if_pos (by omega)] at ti; exact (twI_is ti).symm) | (rw [if_neg (by omega)] at ti; exact (twI_is ti).symm)), (hs4)⟩⟩ dX5_twofold_233
                          ·
                            refine r_iconst S dX5_twofold_228 ?_
                            refine lv_goto (tgt := 233) S.1 S.2.1 dX5_twofold_229 rfl ?_
                            exact e_iS S hr hlk hW ⟨(-1), rfl, ⟨(by have hst : ∀ x f y : Int, 0 ≤ x → x < (wr σ (15 + army)) → 0 ≤ f → f ≤ 4 → 0 ≤ y → y < (wr σ (15 + army)) → (True) → stP (wr σ) army (σ4 37) x f y := (hmo.elim (fun z => absurd z (by rw [c_98]; decide)) (fun z => z)); have ti := Tw_end hA hI4 (fun x y x0 x1 y0 y1 => h04 x y x0 x1 y0 y1) (fun x f y x0 x1 f0 f1 y0 y1 => hst x f y x0 x1 f0 f1 y0 y1 trivial) hm9 (fun x x0 x1 => hls x x0 (by omega)) hle.2; first | (rw [if_pos (by omega)] at ti; exact (twI_is ti).symm) | (rw [if_neg (by omega)] at ti; exact (twI_is ti).symm)), (hs4)⟩⟩ dX5_twofold_233
                        ·
                          have la := hL a (by omega) (by omega)
                          have hv := hI4.1 (5 * a + oLen (wr σ) army a) (by omega) (by omega)
                          refine lv_iload_n S.1 S.2.1 dX5_twofold_193 rfl (lv_at hl 1 rfl) ?_
                          refine lv_aload_n S.1 S.2.1 dX5_twofold_194 rfl (lv_at hl 2 rfl) ?_
                          refine w_getr S hW in_X5 0 rfl rfl 37 (by decide) q1688 rfl rfl dX5_twofold_195 ?_
                          refine r_iconst S dX5_twofold_198 ?_
                          refine lv_iload S.1 S.2.1 dX5_twofold_199 (lv_at hl 0 rfl) ?_
                          refine r_imul S dX5_twofold_201 ?_
                          refine lv_aload_n S.1 S.2.1 dX5_twofold_202 rfl (lv_at hl 2 rfl) ?_
                          refine lv_iload_n S.1 S.2.1 dX5_twofold_203 rfl (lv_at hl 3 rfl) ?_
                          refine lv_iload S.1 S.2.1 dX5_twofold_204 (lv_at hl 0 rfl) ?_
                          refine c_VP S hW (tX5_lengthOf l G ad σ4 army a (by omega) (by omega)) (cw_X5_230 S.2.2.2.2 ⟨Nat.le_of_ble_eq_true rfl, Nat.le_of_ble_eq_true rfl⟩) eBlind_T (fun _ _ _ => trivial) (w_recv hW (q0 := 0) rfl rfl) rfl hl.1 (rest := [.int (iI (5 * a)), .ref (ad 25), .int (iI le_)]) rfl (Nat.le_of_ble_eq_true rfl) dX5_twofold_206 ⟨Nat.le_of_ble_eq_true rfl, Nat.le_of_ble_eq_true rfl⟩ (fun locs hW => ?_)
                          refine r_as (oLen (wr σ) army a) (yl a) ?_
                          refine r_iadd S dX5_twofold_209 ?_
                          refine w_ald S hW 25 0 rfl rfl (by omega) dX5_twofold_210 ?_
                          refine c_SPw S hW (tX5_lesser l le_ (σ4 37 ((5 * a) + (oLen (wr σ) army a))) (by omega)) (cw_X5_320 S.2.2.2.2 ⟨Nat.le_of_ble_eq_true rfl, Nat.le_of_ble_eq_true rfl⟩) rfl hl.1 (rest := []) rfl (Nat.le_of_ble_eq_true rfl) dX5_twofold_211 ⟨Nat.le_of_ble_eq_true rfl, Nat.le_of_ble_eq_true rfl⟩ (fun locs hW => ?_)
                          refine lv_istore_n (lv' := [(3, .int (iI (min le_ (σ4 37 ((5 * a) + (oLen (wr σ) army a)))))), (4, .int (iI a)), (0, .ref (ad 0)), (1, .int (iI army))]) S.1 S.2.1 dX5_twofold_214 rfl hl (by decide) rfl (fun ls hl => ?_)
                          refine lv_iinc (v := iI (a + 1)) (lv' := [(4, .int (iI (a + 1))), (3, .int (iI (min le_ (σ4 37 ((5 * a) + (oLen (wr σ) army a)))))), (0, .ref (ad 0)), (1, .int (iI army))]) S.1 S.2.1 dX5_twofold_215 hl (k := 1) rfl (iI_add _ _) (by decide) rfl (fun ls hl => ?_)
                          refine lv_goto (tgt := 183) S.1 S.2.1 dX5_twofold_218 rfl ?_
                          exact ih_183 (min le_ (σ4 37 ((5 * a) + (oLen (wr σ) army a)))) (a + 1) H _ _ (by omega) (by omega) ((show min le_ (σ4 37 (5 * a + oLen (wr σ) army a)) = le_ ∨ min le_ (σ4 37 (5 * a + oLen (wr σ) army a)) = σ4 37 (5 * a + oLen (wr σ) army a) by omega).elim (fun z => by rw [z]; exact hm9) (fun z => Or.inr ⟨a, by omega, z⟩)) (fun x x0 x1 => (show x = a ∨ x < a by omega).elim (fun z => by rw [z]; omega) (fun z => by have := hls x x0 z; omega)) (by omega) hW (lv_sub hl [0, 1, 2, 3] rfl)
                    exact cut_183 _ 9999 0 H _ _ (by omega) (by omega) (Or.inl rfl) (fun x x0 x1 => absurd x1 (by omega)) (Nat.lt_succ_self _) hW (lv_sub hl [0, 1, 3, 4] rfl)
                  ·
                    refine r_iconst S dX5_twofold_101 ?_
                    refine lv_istore_n (lv' := [(2, .int (iI 0)), (0, .ref (ad 0)), (1, .int (iI army))]) S.1 S.2.1 dX5_twofold_102 rfl hl (by decide) rfl (fun ls hl => ?_)
                    refine r_iconst S dX5_twofold_103 ?_
                    refine lv_istore_n (lv' := [(3, .int (iI 0)), (2, .int (iI 0)), (0, .ref (ad 0)), (1, .int (iI army))]) S.1 S.2.1 dX5_twofold_104 rfl hl (by decide) rfl (fun ls hl => ?_)
                    have cut_105 : ∀ (N_105 : Nat) (mp : Bool) (k : Int) (σ5 : St) (H : Heap) (locs : List Loc) (ls : Array Slot), (0 ≤ k ∧ k ≤ 30) → (same [37] σ σ5) → (TwI (wr σ) army (σ5 37)) → (∀ x y : Int, 0 ≤ x → x < (wr σ (15 + army)) → 0 ≤ y → y < (wr σ (15 + army)) → x ≠ y → giP (wr σ) army x 0 y 0 → σ5 37 (5 * y + oLen (wr σ) army x) ≤ oLen (wr σ) army y) → ((mp = false ∧ σ5 37 = σ4 37 ∧ ∀ x f y : Int, 0 ≤ x → x < (wr σ (15 + army)) → 0 ≤ f → f ≤ 4 → 0 ≤ y → y < (wr σ (15 + army)) → (5 * x + f < k) → stP (wr σ) army (σ4 37) x f y) ∨ (mp = true ∧ smU (σ5 37) 30 < smU (σ4 37) 30)) → ((30 - k).toNat) < N_105 → WD G shM ad (aM ad) s s.heap σ5 H locs → lv_has ls 5 [(3, .int (iI k)), (2, .int (iI (b2i mp))), (0, .ref (ad 0)), (1, .int (iI army))] → W p l e (⟨4, 0, 0, 98⟩ : Room) s m ([.ref (ad 0), .int (iI army)] : List Value).toArray below meth c H locs 0 0 (MQ below (qS G shM ad (aM ad) (rI (fun r σ' => (r = twI (cdL (wr σ) army) (wr σ (15 + army))) ∧ (same [37] σ σ')))) ([.ref (ad 0), .int (iI army)] : List Value).toArray s 0 0 (aM ad)) (F0 m 105 ls []) := by
                      intro N_105
                      induction N_105 with
                      | zero =>
                        intro mp k σ5 H locs ls hk5 hs5 hI5 h05 hd5 hμ_105 hW hl
                        exact absurd hμ_105 (by omega)
                      | succ N_105 ih_105 =>
                        intro mp k σ5 H locs ls hk5 hs5 hI5 h05 hd5 hμ_105 hW hl
                        refine lv_iload_n S.1 S.2.1 dX5_twofold_105 rfl (lv_at hl 0 rfl) ?_
                        refine r_bipush S dX5_twofold_106 (by decide) ?_
                        refine r_icmp_ge S (tgt := 173) dX5_twofold_108 rfl (by omega) (fun c_108 => ?_) (fun c_108 => ?_)
                        ·
                          refine lv_goto (tgt := 97) S.1 S.2.1 dX5_twofold_173 rfl ?_
                          exact ih_97 mp σ5 H _ _ (hs5) (hI5) (h05) (hd5.elim (fun z => Or.inr (fun x f y x0 x1 f0 f1 y0 y1 _ => by rw [z.2.1]; exact z.2.2 x f y x0 x1 f0 f1 y0 y1 (by omega))) (fun z => Or.inl z.1)) (by have sn := smU_nn' (h := σ5 37) 30 (fun j j0 j1 => (hI5.1 j j0 (by omega)).1); rw [c_98] at hμ_97; have e1 : b2i true = 1 := rfl; have e0 : b2i false = 0 := rfl; rcases hd5 with ⟨z1, z2, _⟩ | ⟨z1, z2⟩; (rw [z1, z2]; rw [z2] at sn; omega); (rw [z1]; omega)) hW (lv_sub hl [1, 2, 3] rfl)
                        ·
                          refine r_iconst S dX5_twofold_111 ?_
                          refine lv_istore (lv' := [(4, .int (iI 0)), (3, .int (iI k)), (2, .int (iI (b2i mp))), (0, .ref (ad 0)), (1, .int (iI army))]) S.1 S.2.1 dX5_twofold_112 hl (by decide) rfl (fun ls hl => ?_)
                          have cut_114 : ∀ (N_114 : Nat) (mq : Bool) (b : Int) (σ6 : St) (H : Heap) (locs : List Loc) (ls : Array Slot), (0 ≤ b ∧ b ≤ (wr σ (15 + army))) → (same [37] σ σ6) → (TwI (wr σ) army (σ6 37)) → (∀ x y : Int, 0 ≤ x → x < (wr σ (15 + army)) → 0 ≤ y → y < (wr σ (15 + army)) → x ≠ y → giP (wr σ) army x 0 y 0 → σ6 37 (5 * y + oLen (wr σ) army x) ≤ oLen (wr σ) army y) → ((mq = false ∧ σ6 37 = σ4 37 ∧ ∀ x f y : Int, 0 ≤ x → x < (wr σ (15 + army)) → 0 ≤ f → f ≤ 4 → 0 ≤ y → y < (wr σ (15 + army)) → (5 * x + f < k ∨ 5 * x + f = k ∧ y < b) → stP (wr σ) army (σ4 37) x f y) ∨ (mq = true ∧ smU (σ6 37) 30 < smU (σ4 37) 30)) → (((wr σ (15 + army)) - b).toNat) < N_114 → WD G shM ad (aM ad) s s.heap σ6 H locs → lv_has ls 5 [(4, .int (iI b)), (3, .int (iI k)), (2, .int (iI (b2i mq))), (0, .ref (ad 0)), (1, .int (iI army))] → W p l e (⟨4, 0, 0, 98⟩ : Room) s m ([.ref (ad 0), .int (iI army)] : List Value).toArray below meth c H locs 0 0 (MQ below (qS G shM ad (aM ad) (rI (fun r σ' => (r = twI (cdL (wr σ) army) (wr σ (15 + army))) ∧ (same [37] σ σ')))) ([.ref (ad 0), .int (iI army)] : List Value).toArray s 0 0 (aM ad)) (F0 m 114 ls []) := by
                            intro N_114
                            induction N_114 with
                            | zero =>
                              intro mq b σ6 H locs ls hb6 hs6 hI6 h06 hd6 hμ_114 hW hl
                              exact absurd hμ_114 (by omega)
                            | succ N_114 ih_114 =>
                              intro mq b σ6 H locs ls hb6 hs6 hI6 h06 hd6 hμ_114 hW hl
                              have wE : wr σ6 = wr σ := by funext j; simp only [wr]; rw [hs6 0 (by decide), hs6 10 (by decide)]
                              have yo : wr σ6 (15 + army) = wr σ (15 + army) := by rw [wE]
                              have y10 : σ6 10 0 = σ 10 0 := by rw [hs6 10 (by decide)]
                              refine lv_iload S.1 S.2.1 dX5_twofold_114 (lv_at hl 0 rfl) ?_
                              refine lv_aload_n S.1 S.2.1 dX5_twofold_116 rfl (lv_at hl 3 rfl) ?_
                              refine lv_iload_n S.1 S.2.1 dX5_twofold_117 rfl (lv_at hl 4 rfl) ?_
                              refine c_VP S hW (tX5_orders l G ad σ6 army (by omega) (hx)) (cw_X5_221 S.2.2.2.2 ⟨Nat.le_of_ble_eq_true rfl, Nat.le_of_ble_eq_true rfl⟩) eBlind_T (fun _ _ _ => trivial) (w_recv hW (q0 := 0) rfl rfl) rfl hl.1 (rest := [.int (iI b)]) rfl (Nat.le_of_ble_eq_true rfl) dX5_twofold_118 ⟨Nat.le_of_ble_eq_true rfl, Nat.le_of_ble_eq_true rfl⟩ (fun locs hW => ?_)
                              refine r_icmp_ge S (tgt := 167) dX5_twofold_121 rfl (by omega) (fun c_121 => ?_) (fun c_121 => ?_)
                              ·
                                refine lv_iinc (v := iI (k + 1)) (lv' := [(3, .int (iI (k + 1))), (4, .int (iI b)), (2, .int (iI (b2i mq))), (0, .ref (ad 0)), (1, .int (iI army))]) S.1 S.2.1 dX5_twofold_167 hl (k := 1) rfl (iI_add _ _) (by decide) rfl (fun ls hl => ?_)
                                refine lv_goto (tgt := 105) S.1 S.2.1 dX5_twofold_170 rfl ?_
                                exact ih_105 mq (k + 1) σ6 H _ _ (by omega) (hs6) (hI6) (h06) (hd6.elim (fun z => Or.inl ⟨z.1, z.2.1, fun x f y x0 x1 f0 f1 y0 y1 w9 => z.2.2 x f y x0 x1 f0 f1 y0 y1 (by omega)⟩) (fun z => Or.inr z)) (by omega) hW (lv_sub hl [0, 2, 3, 4] rfl)
                              ·
                                refine lv_iload_n S.1 S.2.1 dX5_twofold_124 rfl (lv_at hl 1 rfl) ?_
                                refine r_iconst S dX5_twofold_125 ?_
                                refine r_idiv S dX5_twofold_126 (by omega) ?_
                                refine lv_aload_n S.1 S.2.1 dX5_twofold_127 rfl (lv_at hl 3 rfl) ?_
                                refine lv_iload_n S.1 S.2.1 dX5_twofold_128 rfl (lv_at hl 4 rfl) ?_
                                refine c_VP S hW (tX5_orders l G ad σ6 army (by omega) (hx)) (cw_X5_221 S.2.2.2.2 ⟨Nat.le_of_ble_eq_true rfl, Nat.le_of_ble_eq_true rfl⟩) eBlind_T (fun _ _ _ => trivial) (w_recv hW (q0 := 0) rfl rfl) rfl hl.1 (rest := [.int (iI (k / 5))]) rfl (Nat.le_of_ble_eq_true rfl) dX5_twofold_129 ⟨Nat.le_of_ble_eq_true rfl, Nat.le_of_ble_eq_true rfl⟩ (fun locs hW => ?_)
                                refine r_icmp_ge S (tgt := 167) dX5_twofold_132 rfl (by omega) (fun c_132 => ?_) (fun c_132 => ?_)
                                ·
                                  refine lv_iinc (v := iI (k + 1)) (lv' := [(3, .int (iI (k + 1))), (4, .int (iI b)), (2, .int (iI (b2i mq))), (0, .ref (ad 0)), (1, .int (iI army))]) S.1 S.2.1 dX5_twofold_167 hl (k := 1) rfl (iI_add _ _) (by decide) rfl (fun ls hl => ?_)
                                  refine lv_goto (tgt := 105) S.1 S.2.1 dX5_twofold_170 rfl ?_
                                  exact ih_105 mq (k + 1) σ6 H _ _ (by omega) (hs6) (hI6) (h06) (hd6.elim (fun z => Or.inl ⟨z.1, z.2.1, fun x f y x0 x1 f0 f1 y0 y1 w9 => z.2.2 x f y x0 x1 f0 f1 y0 y1 (by omega)⟩) (fun z => Or.inr z)) (by omega) hW (lv_sub hl [0, 2, 3, 4] rfl)
                                ·
                                  refine lv_aload_n S.1 S.2.1 dX5_twofold_135 rfl (lv_at hl 3 rfl) ?_
                                  refine lv_iload_n S.1 S.2.1 dX5_twofold_136 rfl (lv_at hl 4 rfl) ?_
                                  refine lv_iload_n S.1 S.2.1 dX5_twofold_137 rfl (lv_at hl 1 rfl) ?_
                                  refine r_iconst S dX5_twofold_138 ?_
                                  refine r_idiv S dX5_twofold_139 (by omega) ?_
                                  refine lv_iload_n S.1 S.2.1 dX5_twofold_140 rfl (lv_at hl 1 rfl) ?_
                                  refine r_iconst S dX5_twofold_141 ?_
                                  refine r_irem S dX5_twofold_142 (by omega) ?_
                                  refine lv_iload S.1 S.2.1 dX5_twofold_143 (lv_at hl 0 rfl) ?_
                                  refine c_VSz S hW (tX5_hangsOn l G ad σ6 army (k / 5) (k % 5) b (by omega) (hx) (by rw [wE]; exact hA) (by rw [wE]; omega) (by omega) (by rw [wE]; omega) (by rw [wE]; exact hI6)) (cw_X5_385 S.2.2.2.2 ⟨Nat.le_of_ble_eq_true rfl, Nat.le_of_ble_eq_true rfl⟩) eBlind_T (fun _ _ _ => trivial) (w_recv hW (q0 := 0) rfl rfl) rfl hl.1 (rest := []) rfl (Nat.le_of_ble_eq_true rfl) dX5_twofold_145 ⟨Nat.le_of_ble_eq_true rfl, Nat.le_of_ble_eq_true rfl⟩ (fun r145 σ145 H locs q145 hW => ?_)
                                  obtain ⟨q145_d, q145_sm⟩ := q145
                                  rw [wE] at q145_d
                                  have cut_160 : ∀ (H : Heap) (locs : List Loc) (ls : Array Slot), WD G shM ad (aM ad) s s.heap σ145 H locs → lv_has ls 5 [(4, .int (iI b)), (3, .int (iI k)), (2, .int (iI (b2i mq))), (0, .ref (ad 0)), (1, .int (iI army))] → W p l e (⟨4, 0, 0, 98⟩ : Room) s m ([.ref (ad 0), .int (iI army)] : List Value).toArray below meth c H locs 0 0 (MQ below (qS G shM ad (aM ad) (rI (fun r σ' => (r = twI (cdL (wr σ) army) (wr σ (15 + army))) ∧ (same [37] σ σ')))) ([.ref (ad 0), .int (iI army)] : List Value).toArray s 0 0 (aM ad)) (F0 m 160 ls [.int (iI (b2i (r145 || mq)))]) := by
                                    intro H locs ls hW hl
                                    refine lv_istore_n (lv' := [(2, .int (iI (b2i (r145 || mq)))), (4, .int (iI b)), (3, .int (iI k)), (0, .ref (ad 0)), (1, .int (iI army))]) S.1 S.2.1 dX5_twofold_160 rfl hl (by decide) rfl (fun ls hl => ?_)
                                    refine lv_iinc (v := iI (b + 1)) (lv' := [(4, .int (iI (b + 1))), (2, .int (iI (b2i (r145 || mq)))), (3, .int (iI k)), (0, .ref (ad 0)), (1, .int (iI army))]) S.1 S.2.1 dX5_twofold_161 hl (k := 1) rfl (iI_add _ _) (by decide) rfl (fun ls hl => ?_)
                                    refine lv_goto (tgt := 114) S.1 S.2.1 dX5_twofold_164 rfl ?_
                                    exact ih_114 (r145 || mq) (b + 1) σ145 H _ _ (by omega) (same_tr hs6 q145_sm (by decide)) (q145_d.elim (fun z => by rw [z.2.1]; exact hI6) (fun z => z.2.1)) (fun x y x0 x1 y0 y1 hn hg9 => by have o := h06 x y x0 x1 y0 y1 hn hg9; have hx9 := hL x x0 x1; rcases q145_d with ⟨_, z, _⟩ | ⟨_, _, z⟩; (rw [z]; exact o); (have := z.1 (5 * y + oLen (wr σ) army x) (by omega) (by omega); omega)) (by rcases q145_d with ⟨z1, z2, z3⟩ | ⟨z1, z2, z3⟩; (rw [z1]; rcases hd6 with ⟨y1, y2, y3⟩ | ⟨y1, y2⟩; (exact Or.inl ⟨y1, z2.trans y2, fun x f y x0 x1 f0 f1 y0 y1 w9 => (show (5 * x + f < k ∨ 5 * x + f = k ∧ y < b) ∨ (x = k / 5 ∧ f = k % 5 ∧ y = b) by omega).elim (fun w8 => y3 x f y x0 x1 f0 f1 y0 y1 w8) (fun w8 => by rw [w8.1, w8.2.1, w8.2.2, ← y2]; exact z3)⟩); (exact Or.inr ⟨y1, by rw [z2]; exact y2⟩)); (rw [z1]; have z4 := z3.2; rcases hd6 with ⟨y1, y2, y3⟩ | ⟨y1, y2⟩; (exact Or.inr ⟨rfl, by rw [← y2]; exact z4⟩); (exact Or.inr ⟨rfl, by omega⟩))) (by omega) hW (lv_sub hl [0, 2, 1, 3, 4] rfl)
                                  refine r_ifne_b S (tgt := 155) dX5_twofold_148 rfl (fun c_148 => ?_) (fun c_148 => ?_)
                                  ·
                                    refine r_iconst S dX5_twofold_155 ?_
                                    refine lv_goto (tgt := 160) S.1 S.2.1 dX5_twofold_156 rfl ?_
                                    refine r_as (b2i (r145 || mq)) (by first | (rw [c_148]; rfl) | (rw [c_148, c_152]; rfl)) ?_
                                    exact cut_160 H _ _ hW (lv_sub hl [0, 1, 2, 3, 4] rfl)
                                  ·
                                    refine lv_iload_n S.1 S.2.1 dX5_twofold_151 rfl (lv_at hl 2 rfl) ?_
                                    refine r_ifeq_b S (tgt := 159) dX5_twofold_152 rfl (fun c_152 => ?_) (fun c_152 => ?_)
                                    ·
                                      refine r_iconst S dX5_twofold_159 ?_
                                      refine r_as (b2i (r145 || mq)) (by first | (rw [c_148]; rfl) | (rw [c_148, c_152]; rfl)) ?_
                                      exact cut_160 H _ _ hW (lv_sub hl [0, 1, 2, 3, 4] rfl)
                                    ·
                                      refine r_iconst S dX5_twofold_155 ?_
                                      refine lv_goto (tgt := 160) S.1 S.2.1 dX5_twofold_156 rfl ?_
                                      refine r_as (b2i (r145 || mq)) (by first | (rw [c_148]; rfl) | (rw [c_148, c_152]; rfl)) ?_
                                      exact cut_160 H _ _ hW (lv_sub hl [0, 1, 2, 3, 4] rfl)
                          exact cut_114 _ mp 0 σ5 H _ _ (by omega) (hs5) (hI5) (h05) (hd5.elim (fun z => Or.inl ⟨z.1, z.2.1, fun x f y x0 x1 f0 f1 y0 y1 w9 => z.2.2 x f y x0 x1 f0 f1 y0 y1 (by omega)⟩) (fun z => Or.inr z)) (Nat.lt_succ_self _) hW (lv_sub hl [0, 1, 2, 3, 4] rfl)
                    exact cut_105 _ false 0 σ4 H _ _ (by omega) (hs4) (hI4) (h04) (Or.inl ⟨rfl, rfl, fun x f y x0 x1 f0 f1 y0 y1 z => absurd z (by omega)⟩) (Nat.lt_succ_self _) hW (lv_sub hl [0, 1, 2, 3] rfl)
              exact cut_97 _ true σ2 H _ _ (hs2) (hI2) (fun x y x0 x1 y0 y1 => h02 x y x0 (by omega) y0 y1) (Or.inl rfl) (Nat.lt_succ_self _) hW (lv_sub hl [0, 1, 2] rfl)
            ·
              refine r_iconst S dX5_twofold_34 ?_
              refine lv_istore_n (lv' := [(3, .int (iI 0)), (2, .int (iI a)), (0, .ref (ad 0)), (1, .int (iI army))]) S.1 S.2.1 dX5_twofold_35 rfl hl (by decide) rfl (fun ls hl => ?_)
              have cut_36 : ∀ (N_36 : Nat) (b : Int) (σ3 : St) (H : Heap) (locs : List Loc) (ls : Array Slot), (0 ≤ b ∧ b ≤ (wr σ (15 + army))) → (same [37] σ σ3) → (TwI (wr σ) army (σ3 37)) → (∀ x y : Int, (0 ≤ x ∧ x < a ∧ 0 ≤ y ∧ y < (wr σ (15 + army)) ∨ x = a ∧ 0 ≤ y ∧ y < b) → x ≠ y → giP (wr σ) army x 0 y 0 → σ3 37 (5 * y + oLen (wr σ) army x) ≤ oLen (wr σ) army y) → (((wr σ (15 + army)) - b).toNat) < N_36 → WD G shM ad (aM ad) s s.heap σ3 H locs → lv_has ls 5 [(3, .int (iI b)), (2, .int (iI a)), (0, .ref (ad 0)), (1, .int (iI army))] → W p l e (⟨4, 0, 0, 98⟩ : Room) s m ([.ref (ad 0), .int (iI army)] : List Value).toArray below meth c H locs 0 0 (MQ below (qS G shM ad (aM ad) (rI (fun r σ' => (r = twI (cdL (wr σ) army) (wr σ (15 + army))) ∧ (same [37] σ σ')))) ([.ref (ad 0), .int (iI army)] : List Value).toArray s 0 0 (aM ad)) (F0 m 36 ls []) := by
                intro N_36
                induction N_36 with
                | zero =>
                  intro b σ3 H locs ls hb hs3 hI3 h03 hμ_36 hW hl
                  exact absurd hμ_36 (by omega)
                | succ N_36 ih_36 =>
                  intro b σ3 H locs ls hb hs3 hI3 h03 hμ_36 hW hl
                  have wE : wr σ3 = wr σ := by funext j; simp only [wr]; rw [hs3 0 (by decide), hs3 10 (by decide)]
                  have yo : wr σ3 (15 + army) = wr σ (15 + army) := by rw [wE]
                  have y10 : σ3 10 0 = σ 10 0 := by rw [hs3 10 (by decide)]
                  have la := hL a (by omega) (by omega)
                  refine lv_iload_n S.1 S.2.1 dX5_twofold_36 rfl (lv_at hl 0 rfl) ?_
                  refine lv_aload_n S.1 S.2.1 dX5_twofold_37 rfl (lv_at hl 2 rfl) ?_
                  refine lv_iload_n S.1 S.2.1 dX5_twofold_38 rfl (lv_at hl 3 rfl) ?_
                  refine c_VP S hW (tX5_orders l G ad σ3 army (by omega) (hx)) (cw_X5_221 S.2.2.2.2 ⟨Nat.le_of_ble_eq_true rfl, Nat.le_of_ble_eq_true rfl⟩) eBlind_T (fun _ _ _ => trivial) (w_recv hW (q0 := 0) rfl rfl) rfl hl.1 (rest := [.int (iI b)]) rfl (Nat.le_of_ble_eq_true rfl) dX5_twofold_39 ⟨Nat.le_of_ble_eq_true rfl, Nat.le_of_ble_eq_true rfl⟩ (fun locs hW => ?_)
                  refine r_icmp_ge S (tgt := 89) dX5_twofold_42 rfl (by omega) (fun c_42 => ?_) (fun c_42 => ?_)
                  ·
                    refine lv_iinc (v := iI (a + 1)) (lv' := [(2, .int (iI (a + 1))), (3, .int (iI b)), (0, .ref (ad 0)), (1, .int (iI army))]) S.1 S.2.1 dX5_twofold_89 hl (k := 1) rfl (iI_add _ _) (by decide) rfl (fun ls hl => ?_)
                    refine lv_goto (tgt := 25) S.1 S.2.1 dX5_twofold_92 rfl ?_
                    exact ih_25 (a + 1) σ3 H _ _ (by omega) (hs3) (hI3) (fun x y x0 x1 y0 y1 => h03 x y (by omega)) (by omega) hW (lv_sub hl [0, 2, 3] rfl)
                  ·
                    refine lv_iload_n S.1 S.2.1 dX5_twofold_45 rfl (lv_at hl 1 rfl) ?_
                    refine lv_iload_n S.1 S.2.1 dX5_twofold_46 rfl (lv_at hl 0 rfl) ?_
                    refine r_icmp_eq S (tgt := 83) dX5_twofold_47 rfl (by omega) (fun c_47 => ?_) (fun c_47 => ?_)
                    ·
                      refine lv_iinc (v := iI (b + 1)) (lv' := [(3, .int (iI (b + 1))), (2, .int (iI a)), (0, .ref (ad 0)), (1, .int (iI army))]) S.1 S.2.1 dX5_twofold_83 hl (k := 0) rfl (iI_add _ _) (by decide) rfl (fun ls hl => ?_)
                      refine lv_goto (tgt := 36) S.1 S.2.1 dX5_twofold_86 rfl ?_
                      exact ih_36 (b + 1) σ3 H _ _ (by omega) (by first | exact hs3 | exact same_tr hs3 q79_sm (by decide)) (by first | exact hI3 | (rw [q79_h]; by_cases cc : oLen (wr σ) army b < σ3 37 (5 * b + oLen (wr σ) army a); (rw [if_pos cc]; exact Tw_0 hA hI3 (by omega) (by omega) (by omega) hg cc); (rw [if_neg cc]; exact hI3))) (fun x y z hn hg9 => by by_cases e9 : x = a ∧ y = b; (obtain ⟨ex, ey⟩ := e9; subst ex; subst ey; first | exact absurd rfl (by omega) | (exfalso; exact c_59 (by rw [wE]; exact hg9)) | (rw [q79_h]; by_cases cc : oLen (wr σ) army y < σ3 37 (5 * y + oLen (wr σ) army x); (rw [if_pos cc, fu_at]; omega); (rw [if_neg cc]; omega)) | (exfalso; omega)); (have o := h03 x y (by omega) hn hg9; first | exact o | (rw [q79_h]; by_cases cc : oLen (wr σ) army b < σ3 37 (5 * b + oLen (wr σ) army a); (rw [if_pos cc]; have := (lsH_fu (h := σ3 37) (k := 5 * b + oLen (wr σ) army a) (v := oLen (wr σ) army b) (by omega) cc).1 (5 * y + oLen (wr σ) army x) (by have := hL y (by omega) (by omega); have := hL x (by omega) (by omega); omega) (by have := hL y (by omega) (by omega); have := hL x (by omega) (by omega); omega); omega); (rw [if_neg cc]; exact o)))) (by omega) hW (lv_sub hl [0, 1, 2, 3] rfl)
                    ·
                      have lb := hL b (by omega) (by omega)
                      have olb : oLen (wr σ3) army b = oLen (wr σ) army b := by rw [wE]
                      have ola : oLen (wr σ3) army a = oLen (wr σ) army a := by rw [wE]
                      refine lv_aload_n S.1 S.2.1 dX5_twofold_50 rfl (lv_at hl 2 rfl) ?_
                      refine lv_iload_n S.1 S.2.1 dX5_twofold_51 rfl (lv_at hl 3 rfl) ?_
                      refine lv_iload_n S.1 S.2.1 dX5_twofold_52 rfl (lv_at hl 1 rfl) ?_
                      refine r_iconst S dX5_twofold_53 ?_
                      refine lv_iload_n S.1 S.2.1 dX5_twofold_54 rfl (lv_at hl 0 rfl) ?_
                      refine r_iconst S dX5_twofold_55 ?_
                      refine c_VP S hW (tX5_goesInto l G ad σ3 army a 0 b 0 (by omega) (hx) (by rw [wE]; exact hA) (by rw [wE]; omega) (by rw [wE]; omega) (by omega) (by rw [wE]; omega)) (cw_X5_378 S.2.2.2.2 ⟨Nat.le_of_ble_eq_true rfl, Nat.le_of_ble_eq_true rfl⟩) eBlind_T (fun _ _ _ => trivial) (w_recv hW (q0 := 0) rfl rfl) rfl hl.1 (rest := []) rfl (Nat.le_of_ble_eq_true rfl) dX5_twofold_56 ⟨Nat.le_of_ble_eq_true rfl, Nat.le_of_ble_eq_true rfl⟩ (fun locs hW => ?_)
                      refine r_ifeq_p S (tgt := 83) dX5_twofold_59 rfl (fun c_59 => ?_) (fun c_59 => ?_)
                      ·
                        refine lv_iinc (v := iI (b + 1)) (lv' := [(3, .int (iI (b + 1))), (2, .int (iI a)), (0, .ref (ad 0)), (1, .int (iI army))]) S.1 S.2.1 dX5_twofold_83 hl (k := 0) rfl (iI_add _ _) (by decide) rfl (fun ls hl => ?_)
                        refine lv_goto (tgt := 36) S.1 S.2.1 dX5_twofold_86 rfl ?_
                        exact ih_36 (b + 1) σ3 H _ _ (by omega) (by first | exact hs3 | exact same_tr hs3 q79_sm (by decide)) (by first | exact hI3 | (rw [q79_h]; by_cases cc : oLen (wr σ) army b < σ3 37 (5 * b + oLen (wr σ) army a); (rw [if_pos cc]; exact Tw_0 hA hI3 (by omega) (by omega) (by omega) hg cc); (rw [if_neg cc]; exact hI3))) (fun x y z hn hg9 => by by_cases e9 : x = a ∧ y = b; (obtain ⟨ex, ey⟩ := e9; subst ex; subst ey; first | exact absurd rfl (by omega) | (exfalso; exact c_59 (by rw [wE]; exact hg9)) | (rw [q79_h]; by_cases cc : oLen (wr σ) army y < σ3 37 (5 * y + oLen (wr σ) army x); (rw [if_pos cc, fu_at]; omega); (rw [if_neg cc]; omega)) | (exfalso; omega)); (have o := h03 x y (by omega) hn hg9; first | exact o | (rw [q79_h]; by_cases cc : oLen (wr σ) army b < σ3 37 (5 * b + oLen (wr σ) army a); (rw [if_pos cc]; have := (lsH_fu (h := σ3 37) (k := 5 * b + oLen (wr σ) army a) (v := oLen (wr σ) army b) (by omega) cc).1 (5 * y + oLen (wr σ) army x) (by have := hL y (by omega) (by omega); have := hL x (by omega) (by omega); omega) (by have := hL y (by omega) (by omega); have := hL x (by omega) (by omega); omega); omega); (rw [if_neg cc]; exact o)))) (by omega) hW (lv_sub hl [0, 1, 2, 3] rfl)
                      ·
                        have hg : giP (wr σ) army a 0 b 0 := by rw [← wE]; exact c_59
                        have hg1 := hg.1
                        have hv := hI3.1 (5 * b + oLen (wr σ) army a) (by omega) (by omega)
                        refine lv_aload_n S.1 S.2.1 dX5_twofold_62 rfl (lv_at hl 2 rfl) ?_
                        refine r_iconst S dX5_twofold_63 ?_
                        refine lv_iload_n S.1 S.2.1 dX5_twofold_64 rfl (lv_at hl 0 rfl) ?_
                        refine r_imul S dX5_twofold_65 ?_
                        refine lv_aload_n S.1 S.2.1 dX5_twofold_66 rfl (lv_at hl 2 rfl) ?_
                        refine lv_iload_n S.1 S.2.1 dX5_twofold_67 rfl (lv_at hl 3 rfl) ?_
                        refine lv_iload_n S.1 S.2.1 dX5_twofold_68 rfl (lv_at hl 1 rfl) ?_
                        refine c_VP S hW (tX5_lengthOf l G ad σ3 army a (by omega) (by omega)) (cw_X5_230 S.2.2.2.2 ⟨Nat.le_of_ble_eq_true rfl, Nat.le_of_ble_eq_true rfl⟩) eBlind_T (fun _ _ _ => trivial) (w_recv hW (q0 := 0) rfl rfl) rfl hl.1 (rest := [.int (iI (5 * b)), .ref (ad 0)]) rfl (Nat.le_of_ble_eq_true rfl) dX5_twofold_69 ⟨Nat.le_of_ble_eq_true rfl, Nat.le_of_ble_eq_true rfl⟩ (fun locs hW => ?_)
                        refine r_as (oLen (wr σ) army a) (ola) ?_
                        refine r_iadd S dX5_twofold_72 ?_
                        refine lv_aload_n S.1 S.2.1 dX5_twofold_73 rfl (lv_at hl 2 rfl) ?_
                        refine lv_iload_n S.1 S.2.1 dX5_twofold_74 rfl (lv_at hl 3 rfl) ?_
                        refine lv_iload_n S.1 S.2.1 dX5_twofold_75 rfl (lv_at hl 0 rfl) ?_
                        refine c_VP S hW (tX5_lengthOf l G ad σ3 army b (by omega) (by omega)) (cw_X5_230 S.2.2.2.2 ⟨Nat.le_of_ble_eq_true rfl, Nat.le_of_ble_eq_true rfl⟩) eBlind_T (fun _ _ _ => trivial) (w_recv hW (q0 := 0) rfl rfl) rfl hl.1 (rest := [.int (iI ((5 * b) + (oLen (wr σ) army a))), .ref (ad 0)]) rfl (Nat.le_of_ble_eq_true rfl) dX5_twofold_76 ⟨Nat.le_of_ble_eq_true rfl, Nat.le_of_ble_eq_true rfl⟩ (fun locs hW => ?_)
                        refine r_as (oLen (wr σ) army b) (olb) ?_
                        refine c_VSz S hW (tX5_hangsLess l G ad σ3 ((5 * b) + (oLen (wr σ) army a)) (oLen (wr σ) army b) (by omega) (by omega) (by omega)) (cw_X5_382 S.2.2.2.2 ⟨Nat.le_of_ble_eq_true rfl, Nat.le_of_ble_eq_true rfl⟩) eBlind_T (fun _ _ _ => trivial) (w_recv hW (q0 := 0) rfl rfl) rfl hl.1 (rest := []) rfl (Nat.le_of_ble_eq_true rfl) dX5_twofold_79 ⟨Nat.le_of_ble_eq_true rfl, Nat.le_of_ble_eq_true rfl⟩ (fun r79 σ79 H locs q79 hW => ?_)
                        obtain ⟨rfl, q79_h, q79_sm⟩ := q79
                        refine lv_pop S.1 S.2.1 dX5_twofold_82 rfl ?_
                        refine lv_iinc (v := iI (b + 1)) (lv' := [(3, .int (iI (b + 1))), (2, .int (iI a)), (0, .ref (ad 0)), (1, .int (iI army))]) S.1 S.2.1 dX5_twofold_83 hl (k := 0) rfl (iI_add _ _) (by decide) rfl (fun ls hl => ?_)
                        refine lv_goto (tgt := 36) S.1 S.2.1 dX5_twofold_86 rfl ?_
                        exact ih_36 (b + 1) σ79 H _ _ (by omega) (by first | exact hs3 | exact same_tr hs3 q79_sm (by decide)) (by first | exact hI3 | (rw [q79_h]; by_cases cc : oLen (wr σ) army b < σ3 37 (5 * b + oLen (wr σ) army a); (rw [if_pos cc]; exact Tw_0 hA hI3 (by omega) (by omega) (by omega) hg cc); (rw [if_neg cc]; exact hI3))) (fun x y z hn hg9 => by by_cases e9 : x = a ∧ y = b; (obtain ⟨ex, ey⟩ := e9; subst ex; subst ey; first | exact absurd rfl (by omega) | (exfalso; exact c_59 (by rw [wE]; exact hg9)) | (rw [q79_h]; by_cases cc : oLen (wr σ) army y < σ3 37 (5 * y + oLen (wr σ) army x); (rw [if_pos cc, fu_at]; omega); (rw [if_neg cc]; omega)) | (exfalso; omega)); (have o := h03 x y (by omega) hn hg9; first | exact o | (rw [q79_h]; by_cases cc : oLen (wr σ) army b < σ3 37 (5 * b + oLen (wr σ) army a); (rw [if_pos cc]; have := (lsH_fu (h := σ3 37) (k := 5 * b + oLen (wr σ) army a) (v := oLen (wr σ) army b) (by omega) cc).1 (5 * y + oLen (wr σ) army x) (by have := hL y (by omega) (by omega); have := hL x (by omega) (by omega); omega) (by have := hL y (by omega) (by omega); have := hL x (by omega) (by omega); omega); omega); (rw [if_neg cc]; exact o)))) (by omega) hW (lv_sub hl [0, 1, 2, 3] rfl)
              exact cut_36 _ 0 σ2 H _ _ (by omega) (hs2) (hI2) (fun x y z => h02 x y (by omega) (by omega) (by omega) (by omega)) (Nat.lt_succ_self _) hW (lv_sub hl [0, 1, 2, 3] rfl)
        exact cut_25 _ 0 σ1 H _ _ (by omega) (hs) (TwI_9 (fun j x y => hz j x (by omega))) (fun x y x0 x1 => absurd x1 (by omega)) (Nat.lt_succ_self _) hW (lv_sub hl [0, 1, 2] rfl)
      ·
        refine lv_aload_n S.1 S.2.1 dX5_twofold_8 rfl (lv_at hl 1 rfl) ?_
        refine w_getr S hW in_X5 0 rfl rfl 37 (by decide) q1688 rfl rfl dX5_twofold_9 ?_
        refine lv_iload_n S.1 S.2.1 dX5_twofold_12 rfl (lv_at hl 0 rfl) ?_
        refine r_sipush S dX5_twofold_13 (by decide) ?_
        refine w_ast S hW 25 0 rfl rfl rfl (z := 9999) (by omega) dX5_twofold_16 (fun H locs hW => ?_)
        refine lv_iinc (v := iI (k + 1)) (lv' := [(2, .int (iI (k + 1))), (0, .ref (ad 0)), (1, .int (iI army))]) S.1 S.2.1 dX5_twofold_17 hl (k := 0) rfl (iI_add _ _) (by decide) rfl (fun ls hl => ?_)
        refine lv_goto (tgt := 2) S.1 S.2.1 dX5_twofold_20 rfl ?_
        exact ih_2 (k + 1) (up σ1 37 k 9999) H _ _ (by omega) (same_up hs (by decide)) (fun j x y => by by_cases h9 : j = k; (rw [h9, up_self]); (rw [up_nei h9]; exact hz j x (by omega))) (by omega) hW (lv_sub hl [0, 1, 2] rfl)
  exact cut_2 _ 0 σ s.heap _ _ (by omega) (same_rf) (fun j x y => absurd y (by omega)) (Nat.lt_succ_self _) hW (lv_sub hl [0, 1, 2] rfl)
