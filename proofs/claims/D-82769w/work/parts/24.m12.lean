/-! Model: what days leave alone; missed -/
section M12
variable {μ μ' : Mem} {Q : Res → Mem → Prop} {σ : Sg} {Λ : Lws}
/-- askings behind the last one, and old booklets, are as they were -/
def Kp (n b0 : Nat) (σ0 σ : Sg) : Prop := (∀ c i, c < 7 → n ≤ i → σ c i = σ0 c i) ∧ (∀ c i, (c = 8 ∨ c = 9 ∨ c = 11) → i < b0 → σ c i = σ0 c i) ∧ ∃ nb, σ 7 4 = nI nb ∧ b0 ≤ nb ∧ nb ≤ 150
theorem Kp.up {n b0 : Nat} {σ0 σ : Sg} (h : Kp n b0 σ0 σ) {c i : Nat} {v : Int32} (hc : (c < 7 ∧ i < n) ∨ (c = 7 ∧ i ≠ 4) ∨ c = 10) : Kp n b0 σ0 (up2 σ c i v) := by
  refine ⟨fun c' i' q1 q2 => ?_, fun c' i' q1 q2 => ?_, ?_⟩
  · rw [up2_eq, if_neg (fun z => by omega)]; exact h.1 c' i' q1 q2
  · rw [up2_eq, if_neg (fun z => by omega)]; exact h.2.1 c' i' q1 q2
  · rw [up2_eq, if_neg (fun z => by omega)]; exact h.2.2
theorem kp_gets {n b0 : Nat} {σ0 σ : Sg} (m : Bool) (h : Kp n b0 σ0 σ) {a : Nat} (ha : a < n) : Kp n b0 σ0 (getsF m σ a) := by
  unfold getsF
  split
  · exact (h.up (Or.inl ⟨by omega, ha⟩)).up (Or.inl ⟨by omega, ha⟩)
  · exact (((h.up (Or.inl ⟨by omega, ha⟩)).up (Or.inl ⟨by omega, ha⟩)).up (Or.inl ⟨by omega, ha⟩)).up (Or.inr (Or.inl ⟨rfl, by decide⟩))
theorem kp_endS {n b0 : Nat} {σ0 σ : Sg} (h : Kp n b0 σ0 σ) (a : Nat) : ∀ k, Kp n b0 σ0 (endS σ a k)
  | 0 => h
  | k + 1 => by
    rw [endS]
    split
    · exact (kp_endS h a k).up (Or.inr (Or.inr rfl))
    · exact kp_endS h a k
theorem kp_prin {n b0 : Nat} {σ0 σ : Sg} (m : Bool) (h : Kp n b0 σ0 σ) {a : Nat} (ha : a < n) (hb : ∀ nb, σ 7 4 = nI nb → nb ≤ 150 → nb < 150) : Kp n b0 σ0 (prinF m σ a) := by
  obtain ⟨nb, h74, hb0, hb1⟩ := h.2.2
  have hlt := hb nb h74 hb1
  have et : tn (σ 7 4) = nb := by rw [h74, tn_nI (by omega)]
  have hend : Kp n b0 σ0 (if σ 13 a = 3 then σ else endS σ a (tn (σ 7 4))) := by
    split
    · exact h
    · exact kp_endS h a _
  have push : ∀ {τ : Sg} {c : Nat} {v : Int32}, (c = 8 ∨ c = 9 ∨ c = 11) → Kp n b0 σ0 τ → Kp n b0 σ0 (up2 τ c nb v) := fun hc q => by
    refine ⟨fun c' i' q1 q2 => ?_, fun c' i' q1 q2 => ?_, ?_⟩
    · rw [up2_eq, if_neg (fun z => by omega)]; exact q.1 c' i' q1 q2
    · rw [up2_eq, if_neg (fun z => by omega)]; exact q.2.1 c' i' q1 q2
    · rw [up2_eq, if_neg (fun z => by omega)]; exact q.2.2
  have hbook : Kp n b0 σ0 (bookF m σ a) := by
    unfold bookF
    split
    · rw [et] at hend ⊢
      exact push (Or.inr (Or.inr rfl)) ((push (Or.inr (Or.inl rfl)) (push (Or.inl rfl) hend)).up (Or.inr (Or.inr rfl)))
    · exact h
  have h2 : Kp n b0 σ0 (up2 (up2 (bookF m σ a) 1 a (σ 7 4)) 7 4 (σ 7 4 + 1)) := by
    have q := hbook.up (c := 1) (i := a) (v := σ 7 4) (Or.inl ⟨by omega, ha⟩)
    refine ⟨fun c' i' q1 q2 => ?_, fun c' i' q1 q2 => ?_, nb + 1, ?_, by omega, by omega⟩
    · rw [up2_eq, if_neg (fun z => by omega)]; exact q.1 c' i' q1 q2
    · rw [up2_eq, if_neg (fun z => by omega)]; exact q.2.1 c' i' q1 q2
    · rw [up2_eq, if_pos ⟨rfl, rfl⟩, h74, nI_1]
  have h3 := (h2.up (c := 7) (i := 1) (v := σ 7 1 - 1) (Or.inr (Or.inl ⟨rfl, by decide⟩))).up (c := 4) (i := a) (v := σ 7 0 + postF σ a) (Or.inl ⟨by omega, ha⟩)
  unfold prinF
  dsimp only
  split
  · exact kp_gets m h3 ha
  · exact h3.up (Or.inl ⟨by omega, ha⟩)
theorem canP_lt {σ : Sg} {nb : Nat} (h : canP σ = true) (h1 : σ 7 4 = nI nb) (h2 : nb ≤ 150) : nb < 150 := by
  have : σ 7 4 < 150 := by
    unfold canP at h
    simp only [Bool.and_eq_true, decide_eq_true_eq] at h
    exact h.2
  rw [h1] at this
  exact (nI_ltI (a := nb) (b := 150) (by omega) (by decide)).mp this
theorem kp_wk {n b0 : Nat} {σ0 : Sg} (m : Bool) (d : Int32) : ∀ (t : List Nat) (σ : Sg) (u : Int32), (∀ a ∈ t, a < n) → (d = 0 ∨ d = 1 ∨ d = 2 ∨ d = 3) → Kp n b0 σ0 σ → Kp n b0 σ0 (wkS m d σ u t).1
  | [], _, _, _, _, h => h
  | a :: t, σ, u, ht, hd, h => by
    rw [wkS]
    split
    · exact h
    · rename_i hc
      refine kp_wk m d t _ _ (fun b hb => ht b (List.mem_cons_of_mem _ hb)) hd ?_
      have ha := ht a List.mem_cons_self
      unfold doesF
      split
      · exact ((h.up (Or.inl ⟨by omega, ha⟩)).up (Or.inl ⟨by omega, ha⟩)).up (Or.inl ⟨by omega, ha⟩)
      · split
        · exact h.up (Or.inl ⟨by omega, ha⟩)
        · split
          · exact h.up (Or.inl ⟨by omega, ha⟩)
          · rename_i q0 q1 q2
            refine kp_prin m h ha fun nb e1 e2 => canP_lt ?_ e1 e2
            have hd3 : d = 3 := by
              rcases hd with w | w | w | w
              · exact absurd w q0
              · exact absurd w q1
              · exact absurd w q2
              · exact w
            cases hz : canP σ with
            | true => rfl
            | false => exact absurd (Or.inr ⟨hd3, hz⟩) hc
theorem kp_works {n b0 : Nat} {σ0 σ : Sg} (m : Bool) (h : Kp n b0 σ0 σ) (hn : tn (σ 34 2) = n) {d : Nat} (hd : d < 4) (r : Int32) : Kp n b0 σ0 (worksF m σ d r) := by
  unfold worksF
  exact (kp_wk m (nI d) _ σ _ (fun a ha => by have := lineF_lt ha; omega) (nI_d4 hd) h).up (Or.inr (Or.inl ⟨rfl, by decide⟩))
theorem kp_worksL {n b0 : Nat} {σ0 σ : Sg} (m : Bool) (h : Kp n b0 σ0 σ) (hn : tn (σ 34 2) = n) (r : Int32) : ∀ k, k ≤ 4 → Kp n b0 σ0 (worksL m σ r k)
  | 0, _ => h
  | k + 1, hk => kp_works m (kp_worksL m h hn r k (by omega)) (by rw [th_worksL m σ r k 34 2 (by omega)]; exact hn) (by omega) r
theorem kp_getL {n b0 : Nat} {σ0 σ : Sg} (m : Bool) (h : Kp n b0 σ0 σ) : ∀ k, k ≤ n → Kp n b0 σ0 (getL m σ k)
  | 0, _ => h
  | k + 1, hk => by
    rw [getL]
    split
    · exact kp_gets m (kp_getL m h k (by omega)) (by omega)
    · exact kp_getL m h k (by omega)
theorem kp_day {n b0 : Nat} {σ0 σ : Sg} (m : Bool) (h : Kp n b0 σ0 σ) (hn : tn (σ 34 2) = n) (r : Int32) : Kp n b0 σ0 (dayF m σ r) := by
  have h1 : Kp n b0 σ0 (up2 σ 7 0 (σ 7 0 + 1)) := h.up (Or.inr (Or.inl ⟨rfl, by decide⟩))
  have h2 : Kp n b0 σ0 (dawnF m σ) := by rw [dawnF, hn]; exact kp_getL m h1 n (Nat.le_refl _)
  have e : dawnF m σ 34 2 = σ 34 2 := ((SameTh.rf.up (c := 7) (i := 0) (v := σ 7 0 + 1) (by omega)).tr (th_getL m _ _)) 34 2 (by omega)
  unfold dayF
  refine kp_worksL m ((h2.up (Or.inr (Or.inl ⟨rfl, by decide⟩))).up (Or.inr (Or.inl ⟨rfl, by decide⟩))) ?_ r 4 (Nat.le_refl _)
  rw [up2_eq, if_neg (by simp), up2_eq, if_neg (by simp), e]
  exact hn
theorem th_dayN (m : Bool) (σ : Sg) (r : Int32) : ∀ k, SameTh σ (dayN m σ r k)
  | 0 => SameTh.rf
  | k + 1 => (th_dayN m σ r k).tr (th_day m _ r)
theorem kp_dayN {n b0 : Nat} {σ0 σ : Sg} (m : Bool) (h : Kp n b0 σ0 σ) (hn : tn (σ 34 2) = n) (r : Int32) : ∀ k, Kp n b0 σ0 (dayN m σ r k)
  | 0 => h
  | k + 1 => kp_day m (kp_dayN m h hn r k) (by rw [th_dayN m σ r k 34 2 (by omega)]; exact hn) r
/-- the Model's rows where all that goes on is kept -/
def SK : Nat → Nat → Nat → Prop := fun p _ _ => p = 130 ∨ p = 131
def SDK : Nat → Nat → Nat → Prop := fun p i k => SD p i k ∨ SK p i k
theorem SK_SD {p i k : Nat} (h : SD p i k) : ¬ SK p i k := by
  rintro (q | q)
  · rcases h with (⟨-, c, j, hs, h1, -⟩ | h1) | h1
    · have : ∀ c, c < 40 → mp c ≠ 130 := by decide +kernel
      exact this c (sM_lt hs) (h1.symm.trans q)
    · rcases h1 with h1 | h1 <;> omega
    · omega
  · rcases h with (⟨-, c, j, hs, h1, -⟩ | h1) | h1
    · have : ∀ c, c < 40 → mp c ≠ 131 := by decide +kernel
      exact this c (sM_lt hs) (h1.symm.trans q)
    · rcases h1 with h1 | h1 <;> omega
    · omega
theorem i7n (n : Nat) : (7 : Int32) * nI n = nI (7 * n) := by rw [show (7 : Int32) = nI 7 from rfl, pk_mul]
set_option maxRecDepth 8000 in
set_option maxHeartbeats 1000000 in
theorem P_missed {r x : Int32} (hI : TM σ Λ μ) {n np nl : Nat} (hP : PD σ n np nl) (hB : BR σ) {nb : Nat} (hb : σ 7 4 = nI nb) (hb2 : nb ≤ 150) (h : ∀ μ', TM (pMissed true σ r x).1 Λ μ' → Fm μ μ' → gI μ' 50 0 0 = (pMissed true σ r x).2.1 → Q (rI (pMissed true σ r x).2.2) μ') : Ct RX5 cX5_missed (12, some .int, [], false, rmm 7 0 0) [vr 50 0, vi r, vi x] μ Q := by
  refine Ct.of (ls := [some (vr 50 0), some (vi r), some (vi x), none, none, none, none, none, none, none, none, none]) rfl fun Γ C ad => ?_
  have hT := hI.th (v := 0)
  have hR := hT.2.1
  have hM := hT.1
  have n120 := hP.1.2
  have en : tn (σ 34 2) = n := by rw [hP.1.1, tn_nI (by omega)]
  have eb : tn (σ 7 4) = nb := by rw [hb, tn_nI (by omega)]
  unfold pMissed at h
  have no : ¬ ((0 ≤ r ∧ r ≤ 2) ∧ (0 ≤ x ∧ x ≤ 60)) → Z RX5 cX5_missed (12, some .int, [], false, rmm 7 0 0) (Γ, C, μ, ad, Q) (0) (0) (sI μ 50 0 0 0) 25 [some (vr 50 0), some (vi r), some (vi x), none, none, none, none, none, none, none, none, none] [vr 50 0] := by
    intro q
    rw [if_pos q] at h
    refine z_iconst (v := 1) dX5_missed_25 (by decide) (z_goto 30 dX5_missed_26 (by decide) (z_iconst (v := 1) dX5_missed_30 (by decide) (z_invV2 (md_X5_throwsIf _) cv_X5_321 rfl dX5_missed_31 rfl (by decide) (Rm.ofB rfl) (M_thrT (z_if_eq 39 dX5_missed_34 (by decide) (fun c => absurd c (n10)) (fun _ => z_iconst (v := 0) dX5_missed_37 (by decide) (z_ireturn dX5_missed_38 rfl (by decide) (by decide) ?_)))))))
    exact h _ hT.th (Fm.rf.sI.sI) (by simp [gI_sI])
  by_cases h1 : 0 ≤ r ∧ r ≤ 2
  · by_cases h2 : 0 ≤ x ∧ x ≤ 60
    · rw [if_neg (nn ⟨h1, h2⟩), en] at h
      obtain ⟨N, hN, eN⟩ := in_nI (n := 60) h2 rfl
      rw [eN, tn_nI (by omega)] at h
      generalize hμ0 : sI μ 50 0 0 0 = μ0 at *
      have hF0 : Fm μ μ0 := by rw [← hμ0]; exact Fm.rf.sI
      have h00 : gI μ0 50 0 0 = 0 := by rw [← hμ0]; simp [gI_sI]
      refine z_aload0 dX5_missed_0 (z_iconst (v := 0) dX5_missed_1 (by decide) (z_putI fl_X5_178 dX5_missed_2 rfl rfl ⟨rfl, rfl⟩ (z_aload0 dX5_missed_5 (z_iload1 dX5_missed_6 (z_iconst (v := 0) dX5_missed_7 (by decide) (z_iconst (v := 2) dX5_missed_8 (by decide) (z_invS3 (md_X5_in _) cs_X5_317 dX5_missed_9 rfl (by decide) (Rm.ofB rfl) (M_inT h1 (z_if_eq 25 dX5_missed_12 (by decide) (fun c => absurd c (n10)) (fun _ => z_iload2 dX5_missed_15 (z_iconst (v := 0) dX5_missed_16 (by decide) (z_bipush (v := 60) dX5_missed_17 (by decide) (z_invS3 (md_X5_in _) cs_X5_317 dX5_missed_19 rfl (by decide) (Rm.ofB rfl) (M_inT h2 (z_if_ne 29 dX5_missed_22 (by decide) (fun _ => z_iconst (v := 0) dX5_missed_29 (by decide) (z_iconst (v := 1) dX5_missed_30 (by decide) (z_invV2 (md_X5_throwsIf _) cv_X5_321 rfl dX5_missed_31 rfl (by decide) (Rm.ofB rfl) (M_thrF (z_if_eq 39 dX5_missed_34 (by decide) (fun _ => z_iconst (v := 0) dX5_missed_39 (by decide) (z_istore3 dX5_missed_40 ?_)) (fun c => absurd (rfl) c)))))) (fun c => absurd c (n10)))))))))))))))))
      rw [hμ0]
      have n50 : ∀ c, c < 40 → c ≠ 7 → c ≠ 34 → mp c ≠ 50 := by decide +kernel
      have n116 : ∀ c, c < 40 → 7 ≤ c → mp c ≠ 116 := by decide +kernel
      have n120' : ∀ c, c < 40 → c ≠ 10 → mp c ≠ 120 := by decide +kernel
      have nK : ∀ c, c < 40 → mp c ≠ 130 ∧ mp c ≠ 131 := by decide +kernel
      have e66 : ∀ {μ' : Mem}, (∀ c i, vM σ c i → c ≠ 7 → c ≠ 10 → 7 ≤ c → gI μ' (mp c) 0 (ms c i) = σ c i) → gI μ' 50 0 66 = nI n := fun q => (q 34 2 ⟨by show (2 : Nat) < 18 ∧ _; decide, fun z => by omega⟩ (by decide) (by decide) (by decide)).trans hP.1.1
      -- the end: the numbers are had back
      have stF : ∀ (μ5 : Mem) (v : Int32) (o : Option AV), v = cntB (missB σ (dayN true σ r N)) n → Dif SDK μ0 μ5 → (∀ c i, vM σ c i → c ≠ 7 → gI μ5 (mp c) 0 (ms c i) = σ c i) →
          Z RX5 cX5_missed (12, some .int, [], false, rmm 7 0 0) (Γ, C, μ, ad, Q) 0 0 μ5 316 [some (vr 50 0), some (vi r), some (vi x), some (vi (σ 7 0)), some (vi (σ 7 4)), some (vi (σ 7 1)), some (vi (σ 7 5)), some (vi (σ 7 2)), some (vi (σ 34 13)), some (vi (σ 7 3)), some (vi v), o] [] := by
        intro μ5 v o hv hD hB5
        refine z_aload0 dX5_missed_316 (z_iload3 dX5_missed_317 (z_putI fl_X5_314 dX5_missed_318 rfl rfl ⟨rfl, rfl⟩ (z_aload0 dX5_missed_321 (z_iload4 dX5_missed_322 (z_putI fl_X5_415 dX5_missed_324 rfl rfl ⟨rfl, rfl⟩ (z_aload0 dX5_missed_327 (z_iload5 dX5_missed_328 (z_putI fl_X5_406 dX5_missed_330 rfl rfl ⟨rfl, rfl⟩ (z_aload0 dX5_missed_333 (z_iload6 dX5_missed_334 (z_putI fl_X5_456 dX5_missed_336 rfl rfl ⟨rfl, rfl⟩ (z_aload0 dX5_missed_339 (z_iload7 dX5_missed_340 (z_putI fl_X5_465 dX5_missed_342 rfl rfl ⟨rfl, rfl⟩ (z_aload0 dX5_missed_345 (z_iload8 dX5_missed_346 (z_putI fl_X5_484 dX5_missed_348 rfl rfl ⟨rfl, rfl⟩ (z_aload0 dX5_missed_351 (z_iload9 dX5_missed_352 (z_putI fl_X5_481 dX5_missed_354 rfl rfl ⟨rfl, rfl⟩ (z_iload10 dX5_missed_357 (z_ireturn dX5_missed_359 rfl (by decide) (by decide) ?_))))))))))))))))))))))
        subst hv
        have hDf : Dif SDK μ0 (sI (sI (sI (sI (sI (sI (sI μ5 50 0 1 (σ 7 0)) 50 0 71 (σ 7 4)) 50 0 43 (σ 7 1)) 50 0 73 (σ 7 5)) 50 0 74 (σ 7 2)) 50 0 75 (σ 34 13)) 50 0 76 (σ 7 3)) := by
          have s7 : ∀ i, i < 6 → SDK 50 0 (tS.getD i 0) := fun i hi => Or.inl (Or.inl (Or.inl (SM.of (c := 7) (j := i) hi)))
          exact ((((((hD.tr (Dif.sI (s7 0 (by decide)))).tr (Dif.sI (s7 4 (by decide)))).tr (Dif.sI (s7 1 (by decide)))).tr (Dif.sI (s7 5 (by decide)))).tr (Dif.sI (s7 2 (by decide)))).tr (Dif.sI (Or.inl (Or.inr ⟨rfl, rfl, rfl⟩)))).tr (Dif.sI (s7 3 (by decide)))
        have hge : ∀ p i k, SDK p i k → 50 ≤ p ∧ (p < 63 ∨ 69 < p) := fun p i k q => by
          rcases q with q | q
          · exact SD_ge q
          · rcases q with q | q <;> omega
        refine h _ (hT.go (σ' := σ) ?_ hDf hge ?_ rfl (fun _ => rfl)) (hF0.tr (hDf.fm hge)) ?_
        · intro c i hv
          by_cases c7 : c = 7
          · subst c7
            have hi : i < 6 := hv.1
            have : i = 0 ∨ i = 1 ∨ i = 2 ∨ i = 3 ∨ i = 4 ∨ i = 5 := by omega
            rcases this with rfl | rfl | rfl | rfl | rfl | rfl <;> simp [gI_sI, mp, mpL, ms, tS]
          · by_cases c34 : c = 34
            · subst c34
              have hh : ∀ i, i < 18 → i ≠ 13 → tT.getD i 0 ≠ 1 ∧ tT.getD i 0 ≠ 71 ∧ tT.getD i 0 ≠ 43 ∧ tT.getD i 0 ≠ 73 ∧ tT.getD i 0 ≠ 74 ∧ tT.getD i 0 ≠ 75 ∧ tT.getD i 0 ≠ 76 := by decide +kernel
              obtain ⟨a1, a2, a3, a4, a5, a6, a7⟩ := hh i hv.1.1 hv.1.2.2.2
              show gI _ 50 0 (tT.getD i 0) = _
              rw [gI_sI, if_neg (fun q => a7 q.2.2), gI_sI, if_neg (fun q => a6 q.2.2), gI_sI, if_neg (fun q => a5 q.2.2), gI_sI, if_neg (fun q => a4 q.2.2), gI_sI, if_neg (fun q => a3 q.2.2), gI_sI, if_neg (fun q => a2 q.2.2), gI_sI, if_neg (fun q => a1 q.2.2)]
              exact hB5 34 i hv (by decide)
            · have hne := n50 c (sM_lt hv.1) c7 c34
              rw [gI_sI, if_neg (fun q => hne q.1), gI_sI, if_neg (fun q => hne q.1), gI_sI, if_neg (fun q => hne q.1), gI_sI, if_neg (fun q => hne q.1), gI_sI, if_neg (fun q => hne q.1), gI_sI, if_neg (fun q => hne q.1), gI_sI, if_neg (fun q => hne q.1)]
              exact hB5 c i hv c7
        · simp [gI_sI]
        · have : gI μ5 50 0 0 = gI μ0 50 0 0 := hD.2 _ _ _ (fun q => by
            rcases q with q | q
            · rcases q with (⟨-, c, j, hs, z1, z2⟩ | z1) | z1
              · have h7 : ∀ c, c < 40 → 50 = mp c → c = 7 ∨ c = 34 := by decide +kernel
                have h8 : ∀ j, j < 6 → 0 ≠ tS.getD j 0 := by decide +kernel
                have h9 : ∀ j, j < 18 → 0 ≠ tT.getD j 0 := by decide +kernel
                rcases h7 c (sM_lt hs) z1 with rfl | rfl
                · exact h8 j (sM_7 hs) z2
                · exact h9 j (sM_34 hs) z2
              · rcases z1 with z1 | ⟨-, -, z1⟩ <;> cases z1
              · have := z1.2.2; omega
            · rcases q with q | q <;> omega)
          simp [gI_sI, this, h00]
      -- booklets' ends are had back
      have stE : ∀ (v : Int32), v = cntB (missB σ (dayN true σ r N)) n → ∀ k, k ≤ nb → ∀ μ', Dif SDK μ0 μ' → (∀ j, j < k → gI μ' 120 0 j = σ 10 j) → (∀ j, j < nb → gI μ' 131 0 j = σ 10 j) → (∀ c i, vM σ c i → c ≠ 7 → c ≠ 10 → gI μ' (mp c) 0 (ms c i) = σ c i) →
          Z RX5 cX5_missed (12, some .int, [], false, rmm 7 0 0) (Γ, C, μ, ad, Q) (0) (0) (μ') 289 [some (vr 50 0), some (vi r), some (vi x), some (vi (σ 7 0)), some (vi (σ 7 4)), some (vi (σ 7 1)), some (vi (σ 7 5)), some (vi (σ 7 2)), some (vi (σ 34 13)), some (vi (σ 7 3)), some (vi v), some (vi (nI k))] [] := by
        intro v hv
        refine loopN (P := fun k => ∀ μ', Dif SDK μ0 μ' → (∀ j, j < k → gI μ' 120 0 j = σ 10 j) → (∀ j, j < nb → gI μ' 131 0 j = σ 10 j) → (∀ c i, vM σ c i → c ≠ 7 → c ≠ 10 → gI μ' (mp c) 0 (ms c i) = σ c i) →
          Z RX5 cX5_missed (12, some .int, [], false, rmm 7 0 0) (Γ, C, μ, ad, Q) (0) (0) (μ') 289 [some (vr 50 0), some (vi r), some (vi x), some (vi (σ 7 0)), some (vi (σ 7 4)), some (vi (σ 7 1)), some (vi (σ 7 5)), some (vi (σ 7 2)), some (vi (σ 34 13)), some (vi (σ 7 3)), some (vi v), some (vi (nI k))] []) nb ?_ ?_
        · intro μ' hD h120 h131 hrest
          refine z_iload11 dX5_missed_289 (z_iload4 dX5_missed_291 (z_icmp_ge 316 dX5_missed_293 (by decide) (fun _ => ?_) (fun c => absurd (lpt hb) c)))
          refine stF μ' v _ hv hD fun c i hc c7 => ?_
          by_cases c10 : c = 10
          · subst c10
            have := hc.2 (by omega)
            rw [eb] at this
            exact h120 i this
          · exact hrest c i hc c7 c10
        · intro k hk ih μ' hD h120 h131 hrest
          have hM' : MOK μ' := hM.of hD.1
          refine z_iload11 dX5_missed_289 (z_iload4 dX5_missed_291 (z_icmp_ge 316 dX5_missed_293 (by decide) (fun c => absurd c (lpf hb hk (by omega))) (fun _ => z_aload0 dX5_missed_296 (z_getP (v := some (120, 0)) fl_X5_157 dX5_missed_297 rfl rfl (hM' 69 rfl) (z_iload11 dX5_missed_300 (z_aload0 dX5_missed_302 (z_getP (v := some (131, 0)) fl_X5_169 dX5_missed_303 rfl rfl (hM' 80 rfl) (z_iload11 dX5_missed_306 (z_ialdv dX5_missed_308 rfl ⟨rfl, (show k < 150 by omega), Nat.le_of_ble_eq_true rfl⟩ (h131 k hk) (z_iast dX5_missed_309 rfl ⟨rfl, (show k < 150 by omega), Nat.le_of_ble_eq_true rfl⟩ (z_iinc11 dX5_missed_310 (inc1 k) (z_goto 289 dX5_missed_313 (by decide) ?_))))))))))))
          refine ih _ (hD.tr (Dif.sI (Or.inl (Or.inl (Or.inl (SM.of (c := 10) (j := k) (sM_col (by decide)))))))) (fun j hj => ?_) (fun j hj => by rw [gI_sI, if_neg (by simp)]; exact h131 j hj) (fun c i hc c7 c10 => ?_)
          · rw [gI_sI]
            split
            · rename_i q; rw [q.2.2]
            · rename_i q; exact h120 j (by have : j ≠ k := fun z => q ⟨rfl, rfl, z⟩; omega)
          · rw [gI_sI, if_neg (fun q => n120' c (sM_lt hc.1) c10 q.1)]; exact hrest c i hc c7 c10
      -- what goes on is had back
      have stD : ∀ (v : Int32), v = cntB (missB σ (dayN true σ r N)) n → ∀ k, k ≤ 7 * n → ∀ μ', Dif SDK μ0 μ' → (∀ j, j < k ∨ 7 * n ≤ j → gI μ' 116 0 j = gI μ0 116 0 j) → (∀ j, j < 7 * n → gI μ' 130 0 j = gI μ0 116 0 j) → (∀ j, j < nb → gI μ' 131 0 j = σ 10 j) → (∀ c i, vM σ c i → c ≠ 7 → c ≠ 10 → 7 ≤ c → gI μ' (mp c) 0 (ms c i) = σ c i) →
          Z RX5 cX5_missed (12, some .int, [], false, rmm 7 0 0) (Γ, C, μ, ad, Q) (0) (0) (μ') 254 [some (vr 50 0), some (vi r), some (vi x), some (vi (σ 7 0)), some (vi (σ 7 4)), some (vi (σ 7 1)), some (vi (σ 7 5)), some (vi (σ 7 2)), some (vi (σ 34 13)), some (vi (σ 7 3)), some (vi v), some (vi (nI k))] [] := by
        intro v hv
        refine loopN (P := fun k => ∀ μ', Dif SDK μ0 μ' → (∀ j, j < k ∨ 7 * n ≤ j → gI μ' 116 0 j = gI μ0 116 0 j) → (∀ j, j < 7 * n → gI μ' 130 0 j = gI μ0 116 0 j) → (∀ j, j < nb → gI μ' 131 0 j = σ 10 j) → (∀ c i, vM σ c i → c ≠ 7 → c ≠ 10 → 7 ≤ c → gI μ' (mp c) 0 (ms c i) = σ c i) →
          Z RX5 cX5_missed (12, some .int, [], false, rmm 7 0 0) (Γ, C, μ, ad, Q) (0) (0) (μ') 254 [some (vr 50 0), some (vi r), some (vi x), some (vi (σ 7 0)), some (vi (σ 7 4)), some (vi (σ 7 1)), some (vi (σ 7 5)), some (vi (σ 7 2)), some (vi (σ 34 13)), some (vi (σ 7 3)), some (vi v), some (vi (nI k))] []) (7 * n) ?_ ?_
        · intro μ' hD h116 h130 h131 hrest
          refine z_iload11 dX5_missed_254 (z_bipush (v := 7) dX5_missed_256 (by decide) (z_aload0 dX5_missed_258 (z_getI fl_X5_412 dX5_missed_259 rfl rfl (z_imul dX5_missed_262 (z_icmp_ge 286 dX5_missed_263 (by decide) (fun _ => z_iconst (v := 0) dX5_missed_286 (by decide) (z_istore11 dX5_missed_287 ?_)) (fun c => absurd ((by rw [e66 hrest, i7n]; exact Int32.le_refl _)) c))))))
          refine stE v hv 0 (Nat.zero_le _) μ' hD (fun j hj => absurd hj (Nat.not_lt_zero _)) h131 fun c i hc c7 c10 => ?_
          rcases Nat.lt_or_ge c 7 with q | q
          · have e : mp c = 116 ∧ ms c i = 7 * i + c := by
              have : c = 0 ∨ c = 1 ∨ c = 2 ∨ c = 3 ∨ c = 4 ∨ c = 5 ∨ c = 6 := by omega
              rcases this with rfl | rfl | rfl | rfl | rfl | rfl | rfl <;> exact ⟨rfl, rfl⟩
            rw [e.1, e.2, h116 _ (by omega), ← e.1, ← e.2]
            exact hR c i hc
          · exact hrest c i hc c7 c10 q
        · intro k hk ih μ' hD h116 h130 h131 hrest
          have hM' : MOK μ' := hM.of hD.1
          refine z_iload11 dX5_missed_254 (z_bipush (v := 7) dX5_missed_256 (by decide) (z_aload0 dX5_missed_258 (z_getI fl_X5_412 dX5_missed_259 rfl rfl (z_imul dX5_missed_262 (z_icmp_ge 286 dX5_missed_263 (by decide) (fun c => absurd c ((by rw [e66 hrest, i7n]; exact nI_ge hk (by omega)))) (fun _ => z_aload0 dX5_missed_266 (z_getP (v := some (116, 0)) fl_X5_148 dX5_missed_267 rfl rfl (hM' 65 rfl) (z_iload11 dX5_missed_270 (z_aload0 dX5_missed_272 (z_getP (v := some (130, 0)) fl_X5_166 dX5_missed_273 rfl rfl (hM' 79 rfl) (z_iload11 dX5_missed_276 (z_ialdv dX5_missed_278 rfl ⟨rfl, (show k < 840 by omega), Nat.le_of_ble_eq_true rfl⟩ (h130 k hk) (z_iast dX5_missed_279 rfl ⟨rfl, (show k < 840 by omega), Nat.le_of_ble_eq_true rfl⟩ (z_iinc11 dX5_missed_280 (inc1 k) (z_goto 254 dX5_missed_283 (by decide) ?_)))))))))))))))
          have hs : SDK 116 0 k := by
            refine Or.inl (Or.inl (Or.inl ⟨rfl, k % 7, k / 7, ?_, ?_, ?_⟩))
            · exact sM_col (by omega)
            · have : k % 7 = 0 ∨ k % 7 = 1 ∨ k % 7 = 2 ∨ k % 7 = 3 ∨ k % 7 = 4 ∨ k % 7 = 5 ∨ k % 7 = 6 := by omega
              rcases this with q | q | q | q | q | q | q <;> rw [q] <;> rfl
            · unfold ms
              rw [if_pos (by omega)]
              omega
          refine ih _ (hD.tr (Dif.sI hs)) (fun j hj => ?_) (fun j hj => by rw [gI_sI, if_neg (by simp)]; exact h130 j hj) (fun j hj => by rw [gI_sI, if_neg (by simp)]; exact h131 j hj) (fun c i hc c7 c10 c77 => ?_)
          · rw [gI_sI]
            split
            · rename_i q; rw [q.2.2]
            · rename_i q; exact h116 j (by have : j ≠ k := fun z => q ⟨rfl, rfl, z⟩; omega)
          · rw [gI_sI, if_neg (fun q => n116 c (sM_lt hc.1) c77 q.1)]; exact hrest c i hc c7 c10 c77
      -- after the days
      have kp0 : Kp n nb σ σ := ⟨fun _ _ _ _ => rfl, fun _ _ _ _ => rfl, nb, hb, Nat.le_refl _, hb2⟩
      have stC : ∀ μ3, RepM (dayN true σ r N) μ3 → Dif SDK μ0 μ3 → (∀ j, j < 7 * n → gI μ3 130 0 j = gI μ0 116 0 j) → (∀ j, j < nb → gI μ3 131 0 j = σ 10 j) →
          ∀ k, k ≤ n → Z RX5 cX5_missed (12, some .int, [], false, rmm 7 0 0) (Γ, C, μ, ad, Q) (0) (0) (μ3) 165 [some (vr 50 0), some (vi r), some (vi x), some (vi (σ 7 0)), some (vi (σ 7 4)), some (vi (σ 7 1)), some (vi (σ 7 5)), some (vi (σ 7 2)), some (vi (σ 34 13)), some (vi (σ 7 3)), some (vi (cntB (missB σ (dayN true σ r N)) k)), some (vi (nI k))] [] := by
        intro μ3 hR3 hD3 h130 h131
        have hM3 : MOK μ3 := hM.of hD3.1
        have th := th_dayN true σ r N
        have kp := kp_dayN true kp0 en r N
        have hP3 := hP.th th
        refine loopN (P := fun k => Z RX5 cX5_missed (12, some .int, [], false, rmm 7 0 0) (Γ, C, μ, ad, Q) (0) (0) (μ3) 165 [some (vr 50 0), some (vi r), some (vi x), some (vi (σ 7 0)), some (vi (σ 7 4)), some (vi (σ 7 1)), some (vi (σ 7 5)), some (vi (σ 7 2)), some (vi (σ 34 13)), some (vi (σ 7 3)), some (vi (cntB (missB σ (dayN true σ r N)) k)), some (vi (nI k))] []) n ?_ ?_
        · refine z_iload11 dX5_missed_165 (z_aload0 dX5_missed_167 (z_getIv fl_X5_412 dX5_missed_168 rfl rfl (hR3.s34 2 (by decide)) (z_icmp_ge 251 dX5_missed_171 (by decide) (fun _ => z_iconst (v := 0) dX5_missed_251 (by decide) (z_istore11 dX5_missed_252 ?_)) (fun c => absurd (lpt hP3.1.1) c))))
          refine stD _ rfl 0 (Nat.zero_le _) μ3 hD3 (fun j hj => ?_) h130 h131 (fun c i hc c7 c10 c77 => ?_)
          · have hj : 7 * n ≤ j := by omega
            have e1 : ∀ c, c = j % 7 → mp c = 116 ∧ ms c (j / 7) = j ∧ c < 7 := fun c hc => by
              have : c = 0 ∨ c = 1 ∨ c = 2 ∨ c = 3 ∨ c = 4 ∨ c = 5 ∨ c = 6 := by omega
              refine ⟨?_, ?_, by omega⟩
              · rcases this with rfl | rfl | rfl | rfl | rfl | rfl | rfl <;> rfl
              · unfold ms
                rw [if_pos (by omega)]
                omega
            obtain ⟨q1, q2, q3⟩ := e1 _ rfl
            have w1 := hR3 (j % 7) (j / 7) ⟨sM_col (by omega), fun z => by omega⟩
            have w2 := hR (j % 7) (j / 7) ⟨sM_col (by omega), fun z => by omega⟩
            rw [q1, q2] at w1 w2
            rw [w1, w2]
            exact kp.1 _ _ q3 (by omega)
          · obtain ⟨nb3, k1, k2, k3⟩ := kp.2.2
            have hc3 : vM (dayN true σ r N) c i := ⟨hc.1, fun q => by have := hc.2 q; rw [eb] at this; rw [k1, tn_nI (by omega)]; omega⟩
            rw [hR3 c i hc3]
            by_cases q : 12 ≤ c
            · exact th c i q
            · have hlt := hc.2 (by omega)
              rw [eb] at hlt
              exact kp.2.1 c i (by omega) hlt
        · intro k hk ih
          rw [cntB, missB] at ih
          have k0 : gI μ3 130 0 (7 * k + 0) = σ 0 k := (h130 _ (by omega)).trans (hR.col 0 k (by decide))
          have ew : dayN true σ r N 15 k = σ 15 k := th 15 k (by omega)
          have skip : (!(decide (6 < σ 0 k) || decide (dayN true σ r N 7 0 < σ 15 k)) && !(decide (0 ≤ dayN true σ r N 3 k) && decide (dayN true σ r N 3 k ≤ σ 15 k))) = false → Z RX5 cX5_missed (12, some .int, [], false, rmm 7 0 0) (Γ, C, μ, ad, Q) (0) (0) (μ3) 245 [some (vr 50 0), some (vi r), some (vi x), some (vi (σ 7 0)), some (vi (σ 7 4)), some (vi (σ 7 1)), some (vi (σ 7 5)), some (vi (σ 7 2)), some (vi (σ 34 13)), some (vi (σ 7 3)), some (vi (cntB (missB σ (dayN true σ r N)) k)), some (vi (nI k))] [] := by
            intro q
            rw [q, if_neg (by decide), Int32.add_zero] at ih
            refine z_iinc11 dX5_missed_245 (inc1 k) (z_goto 165 dX5_missed_248 (by decide) ?_)
            exact ih
          by_cases q1 : 6 < σ 0 k
          · refine z_iload11 dX5_missed_165 (z_aload0 dX5_missed_167 (z_getIv fl_X5_412 dX5_missed_168 rfl rfl (hR3.s34 2 (by decide)) (z_icmp_ge 251 dX5_missed_171 (by decide) (fun c => absurd c (lpf hP3.1.1 hk (by omega))) (fun _ => z_aload0 dX5_missed_174 (z_getP (v := some (130, 0)) fl_X5_166 dX5_missed_175 rfl rfl (hM3 79 rfl) (z_bipush (v := 7) dX5_missed_178 (by decide) (z_iload11 dX5_missed_180 (z_imul dX5_missed_182 (z_iconst (v := 0) dX5_missed_183 (by decide) (z_iadd dX5_missed_184 (z_ialdv dX5_missed_185 rfl ⟨i7 k 0, (show 7 * k + 0 < 840 by omega), Nat.le_of_ble_eq_true rfl⟩ (k0) (z_bipush (v := 6) dX5_missed_186 (by decide) (z_icmp_gt 245 dX5_missed_188 (by decide) (fun _ => ?_) (fun c => absurd (q1) c))))))))))))))
            exact skip (by simp [q1])
          · by_cases q2 : dayN true σ r N 7 0 < σ 15 k
            · refine z_iload11 dX5_missed_165 (z_aload0 dX5_missed_167 (z_getIv fl_X5_412 dX5_missed_168 rfl rfl (hR3.s34 2 (by decide)) (z_icmp_ge 251 dX5_missed_171 (by decide) (fun c => absurd c (lpf hP3.1.1 hk (by omega))) (fun _ => z_aload0 dX5_missed_174 (z_getP (v := some (130, 0)) fl_X5_166 dX5_missed_175 rfl rfl (hM3 79 rfl) (z_bipush (v := 7) dX5_missed_178 (by decide) (z_iload11 dX5_missed_180 (z_imul dX5_missed_182 (z_iconst (v := 0) dX5_missed_183 (by decide) (z_iadd dX5_missed_184 (z_ialdv dX5_missed_185 rfl ⟨i7 k 0, (show 7 * k + 0 < 840 by omega), Nat.le_of_ble_eq_true rfl⟩ (k0) (z_bipush (v := 6) dX5_missed_186 (by decide) (z_icmp_gt 245 dX5_missed_188 (by decide) (fun c => absurd c (q1)) (fun _ => z_aload0 dX5_missed_191 (z_getP (v := some (107, 0)) fl_X5_121 dX5_missed_192 rfl rfl (hM3 56 rfl) (z_iload11 dX5_missed_195 (z_ialdv dX5_missed_197 rfl ⟨rfl, (show k < 120 by omega), Nat.le_of_ble_eq_true rfl⟩ (hR3.col 15 _ (by decide)) (z_aload0 dX5_missed_198 (z_getIv fl_X5_314 dX5_missed_199 rfl rfl (hR3.s7 0 (by decide)) (z_icmp_le 208 dX5_missed_202 (by decide) (fun c => absurd c ((by rw [ew]; exact Int32.not_le.mpr q2))) (fun _ => z_goto 245 dX5_missed_205 (by decide) ?_)))))))))))))))))))))
              exact skip (by simp [q2])
            · have q2' : dayN true σ r N 15 k ≤ dayN true σ r N 7 0 := by rw [ew]; exact Int32.not_lt.mp q2
              by_cases q3 : dayN true σ r N 3 k < 0
              · rw [if_pos (by simp [q1, q2, Int32.not_le.mpr q3])] at ih
                refine z_iload11 dX5_missed_165 (z_aload0 dX5_missed_167 (z_getIv fl_X5_412 dX5_missed_168 rfl rfl (hR3.s34 2 (by decide)) (z_icmp_ge 251 dX5_missed_171 (by decide) (fun c => absurd c (lpf hP3.1.1 hk (by omega))) (fun _ => z_aload0 dX5_missed_174 (z_getP (v := some (130, 0)) fl_X5_166 dX5_missed_175 rfl rfl (hM3 79 rfl) (z_bipush (v := 7) dX5_missed_178 (by decide) (z_iload11 dX5_missed_180 (z_imul dX5_missed_182 (z_iconst (v := 0) dX5_missed_183 (by decide) (z_iadd dX5_missed_184 (z_ialdv dX5_missed_185 rfl ⟨i7 k 0, (show 7 * k + 0 < 840 by omega), Nat.le_of_ble_eq_true rfl⟩ (k0) (z_bipush (v := 6) dX5_missed_186 (by decide) (z_icmp_gt 245 dX5_missed_188 (by decide) (fun c => absurd c (q1)) (fun _ => z_aload0 dX5_missed_191 (z_getP (v := some (107, 0)) fl_X5_121 dX5_missed_192 rfl rfl (hM3 56 rfl) (z_iload11 dX5_missed_195 (z_ialdv dX5_missed_197 rfl ⟨rfl, (show k < 120 by omega), Nat.le_of_ble_eq_true rfl⟩ (hR3.col 15 _ (by decide)) (z_aload0 dX5_missed_198 (z_getIv fl_X5_314 dX5_missed_199 rfl rfl (hR3.s7 0 (by decide)) (z_icmp_le 208 dX5_missed_202 (by decide) (fun _ => z_iload10 dX5_missed_208 (z_aload0 dX5_missed_210 (z_iload11 dX5_missed_211 (z_iconst (v := 3) dX5_missed_213 (by decide) (z_invV2 (md_X5_now _) cv_X5_434 rfl dX5_missed_214 rfl (by decide) (Rm.ofB rfl) (M_nowv (w := 3) hM3 rfl rfl (by omega) (hR3.col 3 k (by decide)) (z_if_lt 241 dX5_missed_217 (by decide) (fun _ => z_iconst (v := 1) dX5_missed_241 (by decide) (z_iadd dX5_missed_242 (z_istore10 dX5_missed_243 (z_iinc11 dX5_missed_245 (inc1 k) (z_goto 165 dX5_missed_248 (by decide) ?_))))) (fun c => absurd (q3) c)))))))) (fun c => absurd (q2') c)))))))))))))))))))))
                exact ih
              · by_cases q4 : σ 15 k < dayN true σ r N 3 k
                · rw [if_pos (by simp [q1, q2, Int32.not_le.mpr q4])] at ih
                  refine z_iload11 dX5_missed_165 (z_aload0 dX5_missed_167 (z_getIv fl_X5_412 dX5_missed_168 rfl rfl (hR3.s34 2 (by decide)) (z_icmp_ge 251 dX5_missed_171 (by decide) (fun c => absurd c (lpf hP3.1.1 hk (by omega))) (fun _ => z_aload0 dX5_missed_174 (z_getP (v := some (130, 0)) fl_X5_166 dX5_missed_175 rfl rfl (hM3 79 rfl) (z_bipush (v := 7) dX5_missed_178 (by decide) (z_iload11 dX5_missed_180 (z_imul dX5_missed_182 (z_iconst (v := 0) dX5_missed_183 (by decide) (z_iadd dX5_missed_184 (z_ialdv dX5_missed_185 rfl ⟨i7 k 0, (show 7 * k + 0 < 840 by omega), Nat.le_of_ble_eq_true rfl⟩ (k0) (z_bipush (v := 6) dX5_missed_186 (by decide) (z_icmp_gt 245 dX5_missed_188 (by decide) (fun c => absurd c (q1)) (fun _ => z_aload0 dX5_missed_191 (z_getP (v := some (107, 0)) fl_X5_121 dX5_missed_192 rfl rfl (hM3 56 rfl) (z_iload11 dX5_missed_195 (z_ialdv dX5_missed_197 rfl ⟨rfl, (show k < 120 by omega), Nat.le_of_ble_eq_true rfl⟩ (hR3.col 15 _ (by decide)) (z_aload0 dX5_missed_198 (z_getIv fl_X5_314 dX5_missed_199 rfl rfl (hR3.s7 0 (by decide)) (z_icmp_le 208 dX5_missed_202 (by decide) (fun _ => z_iload10 dX5_missed_208 (z_aload0 dX5_missed_210 (z_iload11 dX5_missed_211 (z_iconst (v := 3) dX5_missed_213 (by decide) (z_invV2 (md_X5_now _) cv_X5_434 rfl dX5_missed_214 rfl (by decide) (Rm.ofB rfl) (M_nowv (w := 3) hM3 rfl rfl (by omega) (hR3.col 3 k (by decide)) (z_if_lt 241 dX5_missed_217 (by decide) (fun c => absurd c (q3)) (fun _ => z_aload0 dX5_missed_220 (z_iload11 dX5_missed_221 (z_iconst (v := 3) dX5_missed_223 (by decide) (z_invV2 (md_X5_now _) cv_X5_434 rfl dX5_missed_224 rfl (by decide) (Rm.ofB rfl) (M_nowv (w := 3) hM3 rfl rfl (by omega) (hR3.col 3 k (by decide)) (z_aload0 dX5_missed_227 (z_getP (v := some (107, 0)) fl_X5_121 dX5_missed_228 rfl rfl (hM3 56 rfl) (z_iload11 dX5_missed_231 (z_ialdv dX5_missed_233 rfl ⟨rfl, (show k < 120 by omega), Nat.le_of_ble_eq_true rfl⟩ (hR3.col 15 _ (by decide)) (z_icmp_gt 241 dX5_missed_234 (by decide) (fun _ => z_iconst (v := 1) dX5_missed_241 (by decide) (z_iadd dX5_missed_242 (z_istore10 dX5_missed_243 (z_iinc11 dX5_missed_245 (inc1 k) (z_goto 165 dX5_missed_248 (by decide) ?_))))) (fun c => absurd ((by rw [ew]; exact q4)) c)))))))))))))))))) (fun c => absurd (q2') c)))))))))))))))))))))
                  exact ih
                · rw [if_neg (by simp [Int32.not_lt.mp q3, Int32.not_lt.mp q4])] at ih
                  refine z_iload11 dX5_missed_165 (z_aload0 dX5_missed_167 (z_getIv fl_X5_412 dX5_missed_168 rfl rfl (hR3.s34 2 (by decide)) (z_icmp_ge 251 dX5_missed_171 (by decide) (fun c => absurd c (lpf hP3.1.1 hk (by omega))) (fun _ => z_aload0 dX5_missed_174 (z_getP (v := some (130, 0)) fl_X5_166 dX5_missed_175 rfl rfl (hM3 79 rfl) (z_bipush (v := 7) dX5_missed_178 (by decide) (z_iload11 dX5_missed_180 (z_imul dX5_missed_182 (z_iconst (v := 0) dX5_missed_183 (by decide) (z_iadd dX5_missed_184 (z_ialdv dX5_missed_185 rfl ⟨i7 k 0, (show 7 * k + 0 < 840 by omega), Nat.le_of_ble_eq_true rfl⟩ (k0) (z_bipush (v := 6) dX5_missed_186 (by decide) (z_icmp_gt 245 dX5_missed_188 (by decide) (fun c => absurd c (q1)) (fun _ => z_aload0 dX5_missed_191 (z_getP (v := some (107, 0)) fl_X5_121 dX5_missed_192 rfl rfl (hM3 56 rfl) (z_iload11 dX5_missed_195 (z_ialdv dX5_missed_197 rfl ⟨rfl, (show k < 120 by omega), Nat.le_of_ble_eq_true rfl⟩ (hR3.col 15 _ (by decide)) (z_aload0 dX5_missed_198 (z_getIv fl_X5_314 dX5_missed_199 rfl rfl (hR3.s7 0 (by decide)) (z_icmp_le 208 dX5_missed_202 (by decide) (fun _ => z_iload10 dX5_missed_208 (z_aload0 dX5_missed_210 (z_iload11 dX5_missed_211 (z_iconst (v := 3) dX5_missed_213 (by decide) (z_invV2 (md_X5_now _) cv_X5_434 rfl dX5_missed_214 rfl (by decide) (Rm.ofB rfl) (M_nowv (w := 3) hM3 rfl rfl (by omega) (hR3.col 3 k (by decide)) (z_if_lt 241 dX5_missed_217 (by decide) (fun c => absurd c (q3)) (fun _ => z_aload0 dX5_missed_220 (z_iload11 dX5_missed_221 (z_iconst (v := 3) dX5_missed_223 (by decide) (z_invV2 (md_X5_now _) cv_X5_434 rfl dX5_missed_224 rfl (by decide) (Rm.ofB rfl) (M_nowv (w := 3) hM3 rfl rfl (by omega) (hR3.col 3 k (by decide)) (z_aload0 dX5_missed_227 (z_getP (v := some (107, 0)) fl_X5_121 dX5_missed_228 rfl rfl (hM3 56 rfl) (z_iload11 dX5_missed_231 (z_ialdv dX5_missed_233 rfl ⟨rfl, (show k < 120 by omega), Nat.le_of_ble_eq_true rfl⟩ (hR3.col 15 _ (by decide)) (z_icmp_gt 241 dX5_missed_234 (by decide) (fun c => absurd c ((by rw [ew]; exact q4))) (fun _ => z_iconst (v := 0) dX5_missed_237 (by decide) (z_goto 242 dX5_missed_238 (by decide) (z_iadd dX5_missed_242 (z_istore10 dX5_missed_243 (z_iinc11 dX5_missed_245 (inc1 k) (z_goto 165 dX5_missed_248 (by decide) ?_))))))))))))))))))))))) (fun c => absurd (q2') c)))))))))))))))))))))
                  exact ih
      -- the days
      have stB : ∀ k, k ≤ N → ∀ μ', RepM (dayN true σ r k) μ' → Dif SDK μ0 μ' → (∀ j, j < 7 * n → gI μ' 130 0 j = gI μ0 116 0 j) → (∀ j, j < nb → gI μ' 131 0 j = σ 10 j) →
          Z RX5 cX5_missed (12, some .int, [], false, rmm 7 0 0) (Γ, C, μ, ad, Q) (0) (0) (μ') 142 [some (vr 50 0), some (vi r), some (vi x), some (vi (σ 7 0)), some (vi (σ 7 4)), some (vi (σ 7 1)), some (vi (σ 7 5)), some (vi (σ 7 2)), some (vi (σ 34 13)), some (vi (σ 7 3)), some (vi (nI k)), none] [] := by
        refine loopN (P := fun k => ∀ μ', RepM (dayN true σ r k) μ' → Dif SDK μ0 μ' → (∀ j, j < 7 * n → gI μ' 130 0 j = gI μ0 116 0 j) → (∀ j, j < nb → gI μ' 131 0 j = σ 10 j) →
          Z RX5 cX5_missed (12, some .int, [], false, rmm 7 0 0) (Γ, C, μ, ad, Q) (0) (0) (μ') 142 [some (vr 50 0), some (vi r), some (vi x), some (vi (σ 7 0)), some (vi (σ 7 4)), some (vi (σ 7 1)), some (vi (σ 7 5)), some (vi (σ 7 2)), some (vi (σ 34 13)), some (vi (σ 7 3)), some (vi (nI k)), none] []) N ?_ ?_
        · intro μ' hR' hD' h130 h131
          refine z_iload10 dX5_missed_142 (z_iload2 dX5_missed_144 (z_icmp_ge 159 dX5_missed_145 (by decide) (fun _ => z_iconst (v := 0) dX5_missed_159 (by decide) (z_istore10 dX5_missed_160 (z_iconst (v := 0) dX5_missed_162 (by decide) (z_istore11 dX5_missed_163 ?_)))) (fun c => absurd (lpt eN) c)))
          exact stC μ' hR' hD' h130 h131 0 (Nat.zero_le _)
        · intro k hk ih μ' hR' hD' h130 h131
          have th := th_dayN true σ r k
          obtain ⟨nbk, k1, k2, k3⟩ := (kp_dayN true kp0 en r k).2.2
          refine z_iload10 dX5_missed_142 (z_iload2 dX5_missed_144 (z_icmp_ge 159 dX5_missed_145 (by decide) (fun c => absurd c (lpf eN hk (by omega))) (fun _ => z_aload0 dX5_missed_148 (z_iload1 dX5_missed_149 (z_invV1 (md_X5_day _) cv_X5_490 rfl dX5_missed_150 rfl (by decide) (Rm.ofB rfl) (M_day (hM.of hD'.1) hR' (hP.th th) (hB.th th) k1 k3 (fun μ2 hR2 _ hD2 => ?_)))))))
          refine z_iinc10 dX5_missed_153 (inc1 k) (z_goto 142 dX5_missed_156 (by decide) ?_)
          exact ih μ2 hR2 (hD'.tr (hD2.mono fun _ _ _ q => Or.inl q)) (fun j hj => (hD2.2 _ _ _ (fun q => SK_SD q (Or.inl rfl))).trans (h130 j hj)) (fun j hj => (hD2.2 _ _ _ (fun q => SK_SD q (Or.inr rfl))).trans (h131 j hj))
      -- ends are kept
      have keepR : ∀ {μ' : Mem}, Dif SK μ0 μ' → RepM σ μ' := fun hD => hR.dif hD fun p k q z => by
        obtain ⟨-, c, j, hs, e, -⟩ := q
        rcases z with z | z
        · exact (nK c (sM_lt hs)).1 (e.symm.trans z)
        · exact (nK c (sM_lt hs)).2 (e.symm.trans z)
      have stA2 : ∀ k, k ≤ nb → ∀ μ', Dif SK μ0 μ' → (∀ j, j < 7 * n → gI μ' 130 0 j = gI μ0 116 0 j) → (∀ j, j < k → gI μ' 131 0 j = σ 10 j) → Z RX5 cX5_missed (12, some .int, [], false, rmm 7 0 0) (Γ, C, μ, ad, Q) (0) (0) (μ') 72 [some (vr 50 0), some (vi r), some (vi x), some (vi (nI k)), none, none, none, none, none, none, none, none] [] := by
        refine loopN (P := fun k => ∀ μ', Dif SK μ0 μ' → (∀ j, j < 7 * n → gI μ' 130 0 j = gI μ0 116 0 j) → (∀ j, j < k → gI μ' 131 0 j = σ 10 j) → Z RX5 cX5_missed (12, some .int, [], false, rmm 7 0 0) (Γ, C, μ, ad, Q) (0) (0) (μ') 72 [some (vr 50 0), some (vi r), some (vi x), some (vi (nI k)), none, none, none, none, none, none, none, none] []) nb ?_ ?_
        · intro μ' hD h130 h131
          have hR' := keepR hD
          have e75 : gI μ' 50 0 75 = σ 34 13 := (hD.2 _ _ _ (by rintro (q | q) <;> omega)).trans hT.2.2.1
          refine z_iload3 dX5_missed_72 (z_aload0 dX5_missed_73 (z_getIv fl_X5_415 dX5_missed_74 rfl rfl (hR'.s7 4 (by decide)) (z_icmp_ge 98 dX5_missed_77 (by decide) (fun _ => ?_) (fun c => absurd (lpt hb) c))))
          refine z_aload0 dX5_missed_98 (z_getIv fl_X5_314 dX5_missed_99 rfl rfl (hR'.s7 0 (by decide)) (z_istore3 dX5_missed_102 (z_aload0 dX5_missed_103 (z_getIv fl_X5_415 dX5_missed_104 rfl rfl (hR'.s7 4 (by decide)) (z_istore4 dX5_missed_107 (z_aload0 dX5_missed_109 (z_getIv fl_X5_406 dX5_missed_110 rfl rfl (hR'.s7 1 (by decide)) (z_istore5 dX5_missed_113 (z_aload0 dX5_missed_115 (z_getIv fl_X5_456 dX5_missed_116 rfl rfl (hR'.s7 5 (by decide)) (z_istore6 dX5_missed_119 (z_aload0 dX5_missed_121 (z_getIv fl_X5_465 dX5_missed_122 rfl rfl (hR'.s7 2 (by decide)) (z_istore7 dX5_missed_125 (z_aload0 dX5_missed_127 (z_getI fl_X5_484 dX5_missed_128 rfl rfl (z_istore8 dX5_missed_131 (z_aload0 dX5_missed_133 (z_getIv fl_X5_481 dX5_missed_134 rfl rfl (hR'.s7 3 (by decide)) (z_istore9 dX5_missed_137 (z_iconst (v := 0) dX5_missed_139 (by decide) (z_istore10 dX5_missed_140 ?_))))))))))))))))))))))
          rw [e75]
          exact stB 0 (Nat.zero_le _) μ' hR' (hD.mono fun _ _ _ q => Or.inr q) h130 h131
        · intro k hk ih μ' hD h130 h131
          have hR' := keepR hD
          have hM' : MOK μ' := hM.of hD.1
          refine z_iload3 dX5_missed_72 (z_aload0 dX5_missed_73 (z_getIv fl_X5_415 dX5_missed_74 rfl rfl (hR'.s7 4 (by decide)) (z_icmp_ge 98 dX5_missed_77 (by decide) (fun c => absurd c (lpf hb hk (by omega))) (fun _ => z_aload0 dX5_missed_80 (z_getP (v := some (131, 0)) fl_X5_169 dX5_missed_81 rfl rfl (hM' 80 rfl) (z_iload3 dX5_missed_84 (z_aload0 dX5_missed_85 (z_getP (v := some (120, 0)) fl_X5_157 dX5_missed_86 rfl rfl (hM' 69 rfl) (z_iload3 dX5_missed_89 (z_ialdv dX5_missed_90 rfl ⟨rfl, (show k < 150 by omega), Nat.le_of_ble_eq_true rfl⟩ (hR'.bk 10 _ (by decide) (by rw [eb]; exact hk)) (z_iast dX5_missed_91 rfl ⟨rfl, (show k < 150 by omega), Nat.le_of_ble_eq_true rfl⟩ (z_iinc3 dX5_missed_92 (inc1 k) (z_goto 72 dX5_missed_95 (by decide) ?_)))))))))))))
          refine ih _ (hD.tr (Dif.sI (Or.inr rfl))) (fun j hj => by rw [gI_sI, if_neg (by simp)]; exact h130 j hj) (fun j hj => ?_)
          rw [gI_sI]
          split
          · rename_i q; rw [q.2.2]
          · rename_i q; exact h131 j (by have : j ≠ k := fun z => q ⟨rfl, rfl, z⟩; omega)
      have stA1 : ∀ k, k ≤ 7 * n → ∀ μ', Dif SK μ0 μ' → (∀ j, j < k → gI μ' 130 0 j = gI μ0 116 0 j) → Z RX5 cX5_missed (12, some .int, [], false, rmm 7 0 0) (Γ, C, μ, ad, Q) (0) (0) (μ') 41 [some (vr 50 0), some (vi r), some (vi x), some (vi (nI k)), none, none, none, none, none, none, none, none] [] := by
        refine loopN (P := fun k => ∀ μ', Dif SK μ0 μ' → (∀ j, j < k → gI μ' 130 0 j = gI μ0 116 0 j) → Z RX5 cX5_missed (12, some .int, [], false, rmm 7 0 0) (Γ, C, μ, ad, Q) (0) (0) (μ') 41 [some (vr 50 0), some (vi r), some (vi x), some (vi (nI k)), none, none, none, none, none, none, none, none] []) (7 * n) ?_ ?_
        · intro μ' hD h130
          have hR' := keepR hD
          refine z_iload3 dX5_missed_41 (z_bipush (v := 7) dX5_missed_42 (by decide) (z_aload0 dX5_missed_44 (z_getIv fl_X5_412 dX5_missed_45 rfl rfl (hR'.s34 2 (by decide)) (z_imul dX5_missed_48 (z_icmp_ge 70 dX5_missed_49 (by decide) (fun _ => z_iconst (v := 0) dX5_missed_70 (by decide) (z_istore3 dX5_missed_71 ?_)) (fun c => absurd ((by rw [hP.1.1, i7n]; exact Int32.le_refl _)) c))))))
          exact stA2 0 (Nat.zero_le _) μ' hD h130 (fun j hj => absurd hj (Nat.not_lt_zero _))
        · intro k hk ih μ' hD h130
          have hR' := keepR hD
          have hM' : MOK μ' := hM.of hD.1
          have e116 : gI μ' 116 0 k = gI μ0 116 0 k := hD.2 _ _ _ (by rintro (q | q) <;> omega)
          refine z_iload3 dX5_missed_41 (z_bipush (v := 7) dX5_missed_42 (by decide) (z_aload0 dX5_missed_44 (z_getIv fl_X5_412 dX5_missed_45 rfl rfl (hR'.s34 2 (by decide)) (z_imul dX5_missed_48 (z_icmp_ge 70 dX5_missed_49 (by decide) (fun c => absurd c ((by rw [hP.1.1, i7n]; exact nI_ge hk (by omega)))) (fun _ => z_aload0 dX5_missed_52 (z_getP (v := some (130, 0)) fl_X5_166 dX5_missed_53 rfl rfl (hM' 79 rfl) (z_iload3 dX5_missed_56 (z_aload0 dX5_missed_57 (z_getP (v := some (116, 0)) fl_X5_148 dX5_missed_58 rfl rfl (hM' 65 rfl) (z_iload3 dX5_missed_61 (z_ialdv dX5_missed_62 rfl ⟨rfl, (show k < 840 by omega), Nat.le_of_ble_eq_true rfl⟩ (e116) (z_iast dX5_missed_63 rfl ⟨rfl, (show k < 840 by omega), Nat.le_of_ble_eq_true rfl⟩ (z_iinc3 dX5_missed_64 (inc1 k) (z_goto 41 dX5_missed_67 (by decide) ?_)))))))))))))))
          refine ih _ (hD.tr (Dif.sI (Or.inl rfl))) (fun j hj => ?_)
          rw [gI_sI]
          split
          · rename_i q; rw [q.2.2]
          · rename_i q; exact h130 j (by have : j ≠ k := fun z => q ⟨rfl, rfl, z⟩; omega)
      exact stA1 0 (Nat.zero_le _) μ0 Dif.rf (fun j hj => absurd hj (Nat.not_lt_zero _))
    · refine z_aload0 dX5_missed_0 (z_iconst (v := 0) dX5_missed_1 (by decide) (z_putI fl_X5_178 dX5_missed_2 rfl rfl ⟨rfl, rfl⟩ (z_aload0 dX5_missed_5 (z_iload1 dX5_missed_6 (z_iconst (v := 0) dX5_missed_7 (by decide) (z_iconst (v := 2) dX5_missed_8 (by decide) (z_invS3 (md_X5_in _) cs_X5_317 dX5_missed_9 rfl (by decide) (Rm.ofB rfl) (M_inT h1 (z_if_eq 25 dX5_missed_12 (by decide) (fun c => absurd c (n10)) (fun _ => z_iload2 dX5_missed_15 (z_iconst (v := 0) dX5_missed_16 (by decide) (z_bipush (v := 60) dX5_missed_17 (by decide) (z_invS3 (md_X5_in _) cs_X5_317 dX5_missed_19 rfl (by decide) (Rm.ofB rfl) (M_inF h2 (z_if_ne 29 dX5_missed_22 (by decide) (fun c => absurd (rfl) c) (fun _ => ?_))))))))))))))))
      exact no fun q => h2 q.2
  · refine z_aload0 dX5_missed_0 (z_iconst (v := 0) dX5_missed_1 (by decide) (z_putI fl_X5_178 dX5_missed_2 rfl rfl ⟨rfl, rfl⟩ (z_aload0 dX5_missed_5 (z_iload1 dX5_missed_6 (z_iconst (v := 0) dX5_missed_7 (by decide) (z_iconst (v := 2) dX5_missed_8 (by decide) (z_invS3 (md_X5_in _) cs_X5_317 dX5_missed_9 rfl (by decide) (Rm.ofB rfl) (M_inF h1 (z_if_eq 25 dX5_missed_12 (by decide) (fun _ => ?_) (fun c => absurd (rfl) c))))))))))
    exact no fun q => h1 q.1
end M12
