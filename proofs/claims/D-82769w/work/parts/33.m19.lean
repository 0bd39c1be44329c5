/-! Model: the call 'law' -/
def pLaw (σ : Sg) (fr : Int32) : Op1 :=
  if ¬ (σ 7 0 ≤ fr ∧ fr ≤ 1000) then (up2 σ 34 15 0, 1, 0)
  else match lawP (σ 35) (tn (σ 34 15)) with
    | .inl x => (up2 (up2 σ 34 15 0) 34 14 (nI x), 1, 0)
    | .inr l => if σ 34 0 = 12 then (up2 (up2 σ 34 15 0) 34 14 (-1), 2, 0)
      else (up2 (up2 (up2 (up2 (up2 σ 34 15 0) 34 14 (-1)) 38 (tn (σ 34 0)) fr) 39 (tn (σ 34 0)) (nI l.length)) 34 0 (σ 34 0 + 1), 0, nI l.length)
def pLawL (σ : Sg) (Λ : Lws) (fr : Int32) : Lws :=
  if ¬ (σ 7 0 ≤ fr ∧ fr ≤ 1000) then Λ
  else match lawP (σ 35) (tn (σ 34 15)) with
    | .inl _ => Λ
    | .inr l => if σ 34 0 = 12 then Λ else fun k => if k = tn (σ 34 0) then l else Λ k
section M19
variable {μ μ' : Mem} {Q : Res → Mem → Prop} {σ : Sg} {Λ : Lws}
theorem M_uses {μ1 : Mem} (hm : sI (sI (sI (sI μ 50 0 0 0) 50 0 5 (gI (sI μ 50 0 0 0) 50 0 3)) 50 0 3 0) 50 0 4 0 = μ1) (h : Q rV μ1) : Ct RX5 cX5_uses (1, none, [], false, rmm 1 0 0) [vr 50 0] μ Q := by
  refine Ct.of (ls := [some (vr 50 0)]) rfl fun Γ C ad => ?_
  subst hm
  refine z_aload0 dX5_uses_0 (z_iconst (v := 0) dX5_uses_1 (by decide) (z_putI fl_X5_178 dX5_uses_2 rfl rfl ⟨rfl, rfl⟩ (z_aload0 dX5_uses_5 (z_aload0 dX5_uses_6 (z_getI fl_X5_181 dX5_uses_7 rfl rfl (z_putI fl_X5_184 dX5_uses_10 rfl rfl ⟨rfl, rfl⟩ (z_aload0 dX5_uses_13 (z_iconst (v := 0) dX5_uses_14 (by decide) (z_putI fl_X5_181 dX5_uses_15 rfl rfl ⟨rfl, rfl⟩ (z_aload0 dX5_uses_18 (z_iconst (v := 0) dX5_uses_19 (by decide) (z_putI fl_X5_187 dX5_uses_20 rfl rfl ⟨rfl, rfl⟩ (z_return dX5_uses_23 rfl (Nat.le_of_ble_eq_true rfl) (Nat.le_of_ble_eq_true rfl) ?_)))))))))))))
  exact h
/-- the draft may change -/
theorem TM.dr (h : TM σ Λ μ) (hD : Dif SLw μ μ') {L : Nat} (hL : σ 34 0 = nI L) (hL2 : L ≤ 12) : TM σ Λ μ' := by
  have n1 : ∀ c, c < 40 → mp c < 63 ∨ 69 < mp c := mp_nl
  have h7 : ∀ c, c < 40 → mp c = 50 → c = 7 ∨ c = 34 := by decide +kernel
  have h8 : ∀ j, j < 6 → tS.getD j 0 ≠ 4 ∧ tS.getD j 0 ≠ 6 ∧ tS.getD j 0 ≠ 7 ∧ tS.getD j 0 ≠ 20 := by decide +kernel
  have h9 : ∀ j, j < 18 → tT.getD j 0 ≠ 4 ∧ tT.getD j 0 ≠ 6 ∧ tT.getD j 0 ≠ 7 ∧ tT.getD j 0 ≠ 20 := by decide +kernel
  refine ⟨h.1.of hD.1, h.2.1.dif hD ?_, (hD.2 _ _ _ fun q => by have := q.2; omega).trans h.2.2.1, ?_⟩
  · rintro p k ⟨-, c, j, hs, rfl, rfl⟩ ⟨-, q⟩
    have := n1 c (sM_lt hs)
    rcases q with ⟨q, q2⟩ | q | q
    · rcases h7 c (sM_lt hs) q with rfl | rfl
      · have := h8 j (sM_7 hs)
        have e : ms 7 j = tS.getD j 0 := rfl
        rw [e] at q2; omega
      · have := h9 j (sM_34 hs)
        have e : ms 34 j = tT.getD j 0 := rfl
        rw [e] at q2; omega
    · omega
    · omega
  · intro l hl
    rw [hL, tn_nI (by omega)] at hl
    obtain ⟨a1, a2, a3⟩ := h.2.2.2 l (by rw [hL, tn_nI (by omega)]; exact hl)
    refine ⟨a1, a2, fun c hc => ?_⟩
    have h4 := a3 c hc
    have kp : ∀ p k, (p = 63 ∨ p = 64 ∨ p = 65 ∨ p = 66) → k < 192 → gI μ' p 0 k = gI μ p 0 k := fun p k hp hk => hD.2 _ _ _ fun q => by have := q.2; omega
    have kq : ∀ p k, (p = 67 ∨ p = 68 ∨ p = 69) → k < 4800 → gI μ' p 0 k = gI μ p 0 k := fun p k hp hk => hD.2 _ _ _ fun q => by have := q.2; omega
    have hk : 16 * l + c < 192 := by omega
    unfold clM at h4 ⊢
    rw [kp 63 _ (by omega) hk, kp 64 _ (by omega) hk, kp 65 _ (by omega) hk, kp 66 _ (by omega) hk]
    obtain ⟨b1, b2, bg, c1, c2, c3, c4⟩ := h4
    refine ⟨b1, b2, bg, c1, c2, c3, fun j hj => ?_⟩
    have hk2 : 400 * l + (bg + j) < 4800 := by omega
    rw [kq 67 _ (by omega) hk2, kq 68 _ (by omega) hk2, kq 69 _ (by omega) hk2]
    exact c4 j hj
theorem LRES.l {x : Nat} {r : Nat ⊕ List Cl3} (hc : r = .inl x) (k : ∀ μ', Dif SLw μ μ' → gI μ' 50 0 6 = nI x → Q (rI (-1)) μ') : LRES μ Q r := by subst hc; exact k
theorem LRES.r {l : List Cl3} {r : Nat ⊕ List Cl3} (hc : r = .inr l) (k : ∀ μ' S, Dif SLw μ μ' → gI μ' 50 0 20 = nI S → S ≤ 400 → DR μ' S l → l.length ≤ 16 → Q (rI (nI l.length)) μ') : LRES μ Q r := by subst hc; exact k
theorem i16 (a w : Nat) : (16 : Int32) * nI a + nI w = nI (16 * a + w) := by rw [show (16 : Int32) = nI 16 from rfl, pk_mul, nI_add]
theorem i400 (a w : Nat) : (400 : Int32) * nI a + nI w = nI (400 * a + w) := by rw [show (400 : Int32) = nI 400 from rfl, pk_mul, nI_add]
set_option maxRecDepth 8000 in
set_option maxHeartbeats 1000000 in
theorem P_law {fr : Int32} (hI : TM σ Λ μ) {s : Nat} (hs : σ 34 15 = nI s) (hs2 : s ≤ 400) {L : Nat} (hL : σ 34 0 = nI L) (hL2 : L ≤ 12) (h : ∀ μ', TM (pLaw σ fr).1 (pLawL σ Λ fr) μ' → Fm μ μ' → gI μ' 50 0 0 = (pLaw σ fr).2.1 → Q (rI (pLaw σ fr).2.2) μ') : Ct RX5 cX5_law (4, some .int, [], false, rmm 38 0 0) [vr 50 0, vi fr] μ Q := by
  refine Ct.of (ls := [some (vr 50 0), some (vi fr), none, none]) rfl fun Γ C ad => ?_
  have es : tn (σ 34 15) = s := by rw [hs, tn_nI (by omega)]
  have eL : tn (σ 34 0) = L := by rw [hL, tn_nI (by omega)]
  unfold pLaw pLawL at h
  rw [es, eL] at h
  -- the text is used up
  have e3 : gI (sI μ 50 0 0 0) 50 0 3 = nI s := ((hI.th (v := 0)).2.1.s34 15 (by decide)).trans hs
  generalize hμ1 : sI (sI (sI (sI μ 50 0 0 0) 50 0 5 (gI (sI μ 50 0 0 0) 50 0 3)) 50 0 3 0) 50 0 4 0 = μ1
  have T1 : TM (up2 σ 34 15 0) Λ μ1 := by rw [← hμ1]; exact (((hI.th (v := 0)).sF (k := 5) (by decide)).s34 15 0 (by decide)).sF (k := 4) (by decide)
  have F1 : Fm μ μ1 := by rw [← hμ1]; exact Fm.rf.sI.sI.sI.sI
  have z1 : gI μ1 50 0 0 = 0 := by rw [← hμ1]; simp [gI_sI]
  have r1 : RD (σ 35) s 0 μ1 := by
    refine ⟨T1.1, ⟨?_, hs2⟩, ⟨?_, Nat.zero_le _⟩, fun j => ?_⟩
    · rw [← hμ1, e3]; simp [gI_sI]
    · rw [← hμ1]; simp [gI_sI]; rfl
    · exact (T1.2.1.col 35 j (by decide)).trans (by rw [up2_eq, if_neg (by simp)])
  have hR1 := T1.2.1
  by_cases h1 : σ 7 0 ≤ fr ∧ fr ≤ 1000
  · rw [if_neg (nn h1), if_neg (nn h1)] at h
    have LT : ∀ {v : Int32}, gI (sI μ1 50 0 8 v) 50 0 0 = 0 := fun {v} => by rw [gI_sI, if_neg (by simp)]; exact z1
    cases hp : lawP (σ 35) s with
    | inl x =>
      rw [hp] at h
      refine z_aload0 dX5_law_0 (z_invV0 (md_X5_uses _) cv_X5_311 rfl dX5_law_1 rfl (Nat.le_of_ble_eq_true rfl) (Rm.ofB rfl) (M_uses hμ1 (z_aload0 dX5_law_4 (z_iload1 dX5_law_5 (z_aload0 dX5_law_6 (z_getIv fl_X5_314 dX5_law_7 rfl rfl (hR1.s7 0 (by decide)) (z_sipush (v := 1000) dX5_law_10 (by decide) (z_invS3 (md_X5_in _) cs_X5_317 dX5_law_13 rfl (Nat.le_of_ble_eq_true rfl) (Rm.ofB rfl) (M_inT h1 (z_if_ne 23 dX5_law_16 (by decide) (fun _ => z_iconst (v := 0) dX5_law_23 (by decide) (z_iconst (v := 1) dX5_law_24 (by decide) (z_invV2 (md_X5_throwsIf _) cv_X5_321 rfl dX5_law_25 rfl (Nat.le_of_ble_eq_true rfl) (Rm.ofB rfl) (M_thrF (z_if_eq 33 dX5_law_28 (by decide) (fun _ => z_aload0 dX5_law_33 (z_invV0 (md_X5_readLaw _) cv_X5_325 rfl dX5_law_34 rfl (Nat.le_of_ble_eq_true rfl) (Rm.ofB rfl) (M_readLaw r1 (LRES.l hp fun μ2 hD2 hx2 => ?_)))) (fun c => absurd (rfl) c)))))) (fun c => absurd c (n10))))))))))))
      have T2 := T1.dr hD2 (L := L) (by rw [up2_eq, if_neg (by simp)]; exact hL) hL2
      have T3 := T2.s34 14 (nI x) (by decide)
      have F2 : Fm μ μ2 := F1.tr (hD2.mono fun _ _ _ q => by have := q.2; omega)
      refine z_istore2 dX5_law_37 (z_aload0 dX5_law_38 (z_iload2 dX5_law_39 (z_if_ge 50 dX5_law_40 (by decide) (fun c => absurd c ((by decide))) (fun _ => z_aload0 dX5_law_43 (z_getI fl_X5_194 dX5_law_44 rfl rfl (z_goto 51 dX5_law_47 (by decide) (z_putI fl_X5_13 dX5_law_51 rfl rfl ⟨rfl, rfl⟩ (z_aload0 dX5_law_54 (z_iload2 dX5_law_55 (z_if_ge 63 dX5_law_56 (by decide) (fun c => absurd c ((by decide))) (fun _ => z_iconst (v := 1) dX5_law_59 (by decide) (z_goto 64 dX5_law_60 (by decide) (z_iconst (v := 1) dX5_law_64 (by decide) (z_invV2 (md_X5_throwsIf _) cv_X5_321 rfl dX5_law_65 rfl (Nat.le_of_ble_eq_true rfl) (Rm.ofB rfl) (M_thrT (z_if_ne 93 dX5_law_68 (by decide) (fun _ => z_iconst (v := 0) dX5_law_93 (by decide) (z_ireturn dX5_law_94 rfl (Nat.le_of_ble_eq_true rfl) (Nat.le_of_ble_eq_true rfl) ?_)) (fun c => absurd c (n10))))))))))))))))))
      rw [hx2]
      exact h _ (T3.th) (F2.sI.sI) (by simp [gI_sI])
    | inr l =>
      rw [hp] at h
      dsimp only at h
      by_cases h12 : σ 34 0 = 12
      · rw [if_pos h12, if_pos h12] at h
        refine z_aload0 dX5_law_0 (z_invV0 (md_X5_uses _) cv_X5_311 rfl dX5_law_1 rfl (Nat.le_of_ble_eq_true rfl) (Rm.ofB rfl) (M_uses hμ1 (z_aload0 dX5_law_4 (z_iload1 dX5_law_5 (z_aload0 dX5_law_6 (z_getIv fl_X5_314 dX5_law_7 rfl rfl (hR1.s7 0 (by decide)) (z_sipush (v := 1000) dX5_law_10 (by decide) (z_invS3 (md_X5_in _) cs_X5_317 dX5_law_13 rfl (Nat.le_of_ble_eq_true rfl) (Rm.ofB rfl) (M_inT h1 (z_if_ne 23 dX5_law_16 (by decide) (fun _ => z_iconst (v := 0) dX5_law_23 (by decide) (z_iconst (v := 1) dX5_law_24 (by decide) (z_invV2 (md_X5_throwsIf _) cv_X5_321 rfl dX5_law_25 rfl (Nat.le_of_ble_eq_true rfl) (Rm.ofB rfl) (M_thrF (z_if_eq 33 dX5_law_28 (by decide) (fun _ => z_aload0 dX5_law_33 (z_invV0 (md_X5_readLaw _) cv_X5_325 rfl dX5_law_34 rfl (Nat.le_of_ble_eq_true rfl) (Rm.ofB rfl) (M_readLaw r1 (LRES.r hp fun μ2 S hD2 h2S hS2 hdr2 hl16 => ?_)))) (fun c => absurd (rfl) c)))))) (fun c => absurd c (n10))))))))))))
        have T2 := T1.dr hD2 (L := L) (by rw [up2_eq, if_neg (by simp)]; exact hL) hL2
        have T3 := T2.s34 14 (-1) (by decide)
        have hR3 := T3.2.1
        have F2 : Fm μ μ2 := F1.tr (hD2.mono fun _ _ _ q => by have := q.2; omega)
        refine z_istore2 dX5_law_37 (z_aload0 dX5_law_38 (z_iload2 dX5_law_39 (z_if_ge 50 dX5_law_40 (by decide) (fun _ => z_iconst (v := (-1)) dX5_law_50 (by decide) (z_putI fl_X5_13 dX5_law_51 rfl rfl ⟨rfl, rfl⟩ (z_aload0 dX5_law_54 (z_iload2 dX5_law_55 (z_if_ge 63 dX5_law_56 (by decide) (fun _ => z_iconst (v := 0) dX5_law_63 (by decide) (z_iconst (v := 1) dX5_law_64 (by decide) (z_invV2 (md_X5_throwsIf _) cv_X5_321 rfl dX5_law_65 rfl (Nat.le_of_ble_eq_true rfl) (Rm.ofB rfl) (M_thrF (z_if_ne 93 dX5_law_68 (by decide) (fun c => absurd (rfl) c) (fun _ => z_aload0 dX5_law_71 (z_aload0 dX5_law_72 (z_getIv fl_X5_328 dX5_law_73 rfl rfl (hR3.s34 0 (by decide)) (z_bipush (v := 12) dX5_law_76 (by decide) (z_icmp_ne 85 dX5_law_78 (by decide) (fun c => absurd (h12) c) (fun _ => z_iconst (v := 1) dX5_law_81 (by decide) (z_goto 86 dX5_law_82 (by decide) (z_iconst (v := 2) dX5_law_86 (by decide) (z_invV2 (md_X5_throwsIf _) cv_X5_321 rfl dX5_law_87 rfl (Nat.le_of_ble_eq_true rfl) (Rm.ofB rfl) (M_thrT (z_if_eq 95 dX5_law_90 (by decide) (fun c => absurd c (n10)) (fun _ => z_iconst (v := 0) dX5_law_93 (by decide) (z_ireturn dX5_law_94 rfl (Nat.le_of_ble_eq_true rfl) (Nat.le_of_ble_eq_true rfl) ?_)))))))))))))))))) (fun c => absurd (nI_pos' (by omega)) c)))))) (fun c => absurd (nI_pos' (by omega)) c))))
        exact h _ (T3.th) (F2.sI.sI) (by simp [gI_sI])
      · rw [if_neg h12, if_neg h12] at h
        dsimp only at h
        have hLt : L < 12 := by
          rcases Nat.lt_or_ge L 12 with q | q
          · exact q
          · exact absurd (by rw [hL, show L = 12 by omega]; rfl) h12
        refine z_aload0 dX5_law_0 (z_invV0 (md_X5_uses _) cv_X5_311 rfl dX5_law_1 rfl (Nat.le_of_ble_eq_true rfl) (Rm.ofB rfl) (M_uses hμ1 (z_aload0 dX5_law_4 (z_iload1 dX5_law_5 (z_aload0 dX5_law_6 (z_getIv fl_X5_314 dX5_law_7 rfl rfl (hR1.s7 0 (by decide)) (z_sipush (v := 1000) dX5_law_10 (by decide) (z_invS3 (md_X5_in _) cs_X5_317 dX5_law_13 rfl (Nat.le_of_ble_eq_true rfl) (Rm.ofB rfl) (M_inT h1 (z_if_ne 23 dX5_law_16 (by decide) (fun _ => z_iconst (v := 0) dX5_law_23 (by decide) (z_iconst (v := 1) dX5_law_24 (by decide) (z_invV2 (md_X5_throwsIf _) cv_X5_321 rfl dX5_law_25 rfl (Nat.le_of_ble_eq_true rfl) (Rm.ofB rfl) (M_thrF (z_if_eq 33 dX5_law_28 (by decide) (fun _ => z_aload0 dX5_law_33 (z_invV0 (md_X5_readLaw _) cv_X5_325 rfl dX5_law_34 rfl (Nat.le_of_ble_eq_true rfl) (Rm.ofB rfl) (M_readLaw r1 (LRES.r hp fun μ2 S hD2 h2S hS2 hdr2 hl16 => ?_)))) (fun c => absurd (rfl) c)))))) (fun c => absurd c (n10))))))))))))
        have T2 := T1.dr hD2 (L := L) (by rw [up2_eq, if_neg (by simp)]; exact hL) hL2
        have T3 := T2.s34 14 (-1) (by decide)
        have hR3 := T3.2.1
        have hM3 := T3.1
        have F2 : Fm μ μ2 := F1.tr (hD2.mono fun _ _ _ q => by have := q.2; omega)
        have z2 : gI μ2 50 0 0 = 0 := (hD2.2 _ _ _ fun q => by have := q.2; omega).trans z1
        have eL3 : up2 (up2 σ 34 15 0) 34 14 (-1) 34 0 = nI L := by rw [up2_eq, if_neg (by simp), up2_eq, if_neg (by simp)]; exact hL
        have ixL : Ix (up2 (up2 σ 34 15 0) 34 14 (-1) 34 0) L 13 := ⟨eL3, by omega, by decide⟩
        refine z_istore2 dX5_law_37 (z_aload0 dX5_law_38 (z_iload2 dX5_law_39 (z_if_ge 50 dX5_law_40 (by decide) (fun _ => z_iconst (v := (-1)) dX5_law_50 (by decide) (z_putI fl_X5_13 dX5_law_51 rfl rfl ⟨rfl, rfl⟩ (z_aload0 dX5_law_54 (z_iload2 dX5_law_55 (z_if_ge 63 dX5_law_56 (by decide) (fun _ => z_iconst (v := 0) dX5_law_63 (by decide) (z_iconst (v := 1) dX5_law_64 (by decide) (z_invV2 (md_X5_throwsIf _) cv_X5_321 rfl dX5_law_65 rfl (Nat.le_of_ble_eq_true rfl) (Rm.ofB rfl) (M_thrF (z_if_ne 93 dX5_law_68 (by decide) (fun c => absurd (rfl) c) (fun _ => z_aload0 dX5_law_71 (z_aload0 dX5_law_72 (z_getIv fl_X5_328 dX5_law_73 rfl rfl (hR3.s34 0 (by decide)) (z_bipush (v := 12) dX5_law_76 (by decide) (z_icmp_ne 85 dX5_law_78 (by decide) (fun _ => z_iconst (v := 0) dX5_law_85 (by decide) (z_iconst (v := 2) dX5_law_86 (by decide) (z_invV2 (md_X5_throwsIf _) cv_X5_321 rfl dX5_law_87 rfl (Nat.le_of_ble_eq_true rfl) (Rm.ofB rfl) (M_thrF (z_if_eq 95 dX5_law_90 (by decide) (fun _ => ?_) (fun c => absurd (rfl) c)))))) (fun c => absurd c (h12)))))))))))) (fun c => absurd (nI_pos' (by omega)) c)))))) (fun c => absurd (nI_pos' (by omega)) c))))
        refine z_aload0 dX5_law_95 (z_getP (v := some (61, 0)) fl_X5_21 dX5_law_96 rfl rfl (hM3 10 rfl) (z_aload0 dX5_law_99 (z_getIv fl_X5_328 dX5_law_100 rfl rfl (hR3.s34 0 (by decide)) (z_iload1 dX5_law_103 (z_iast dX5_law_104 rfl ixL (z_aload0 dX5_law_105 (z_getP (v := some (62, 0)) fl_X5_24 dX5_law_106 rfl rfl (hM3 11 rfl) (z_aload0 dX5_law_109 (z_getIv fl_X5_328 dX5_law_110 rfl rfl (hR3.s34 0 (by decide)) (z_iload2 dX5_law_113 (z_iast dX5_law_114 rfl ixL (z_iconst (v := 0) dX5_law_115 (by decide) (z_istore3 dX5_law_116 ?_)))))))))))))
        generalize hμ4 : sI (sI (sI μ2 50 0 8 (-1)) 61 0 L fr) 62 0 L (nI l.length) = μ4
        -- what is known of the memory now
        have R4 : RepM (up2 (up2 (up2 (up2 σ 34 15 0) 34 14 (-1)) 38 L fr) 39 L (nI l.length)) μ4 := by
          rw [← hμ4]; exact (hR3.set 38 L fr (sM_col (by decide)) (by omega)).set 39 L (nI l.length) (sM_col (by decide)) (by omega)
        have F4 : Fm μ μ4 := by rw [← hμ4]; exact F2.sI.sI.sI
        have z4 : gI μ4 50 0 0 = 0 := by rw [← hμ4]; simp [gI_sI, z2]
        have M4 : MOK μ4 := by rw [← hμ4]; exact hM3
        have k4 : ∀ p k, 63 ≤ p → p ≤ 69 → gI μ4 p 0 k = gI μ2 p 0 k := fun p k a b => by
          rw [← hμ4, gI_sI, if_neg (fun q => by have := q.1; omega), gI_sI, if_neg (fun q => by have := q.1; omega), gI_sI, if_neg (fun q => by have := q.1; omega)]
        have S4 : gI μ4 50 0 20 = nI S := by rw [← hμ4]; simp [gI_sI, h2S]
        have L4 : gI μ4 50 0 19 = nI L := (R4.s34 0 (by decide)).trans (by rw [up2_eq, if_neg (by simp), up2_eq, if_neg (by simp)]; exact eL3)
        -- places of the new law
        let SN : Nat → Nat → Nat → Prop := fun p i k => i = 0 ∧ (((p = 63 ∨ p = 64 ∨ p = 65 ∨ p = 66) ∧ 16 * L ≤ k ∧ k < 16 * L + 16) ∨ ((p = 67 ∨ p = 68 ∨ p = 69) ∧ 400 * L ≤ k ∧ k < 400 * L + 400))
        have fin : ∀ (μ6 : Mem) (o : Int32), Dif SN μ4 μ6 → (∀ c, c < l.length → ∀ p, (p = 63 ∨ p = 64 ∨ p = 65 ∨ p = 66) → gI μ6 p 0 (16 * L + c) = gI μ4 p 0 (192 + c)) → (∀ j, j < S → ∀ p, (p = 67 ∨ p = 68 ∨ p = 69) → gI μ6 p 0 (400 * L + j) = gI μ4 p 0 (4800 + j)) → Z RX5 cX5_law (4, some .int, [], false, rmm 38 0 0) (Γ, C, μ, ad, Q) (0) (0) (μ6) 315 [some (vr 50 0), some (vi fr), some (vi (nI l.length)), some (vi o)] [] := by
          intro μ6 o hD6 h6a h6b
          have nS50 : ∀ k, ¬ SN 50 0 k := fun k q => by have := q.2; omega
          have L6 : gI μ6 50 0 19 = nI L := (hD6.2 _ _ _ (nS50 _)).trans L4
          refine z_aload0 dX5_law_315 (z_dupa dX5_law_316 (z_getI fl_X5_328 dX5_law_317 rfl rfl (z_iconst (v := 1) dX5_law_320 (by decide) (z_iadd dX5_law_321 (z_putI fl_X5_328 dX5_law_322 rfl rfl ⟨rfl, rfl⟩ (z_iload2 dX5_law_325 (z_ireturn dX5_law_326 rfl (Nat.le_of_ble_eq_true rfl) (Nat.le_of_ble_eq_true rfl) ?_)))))))
          have e1 : gI μ6 50 0 19 + 1 = σ 34 0 + 1 := by rw [L6, hL]
          rw [e1]
          have R6 : RepM (up2 (up2 (up2 (up2 σ 34 15 0) 34 14 (-1)) 38 L fr) 39 L (nI l.length)) μ6 := R4.dif hD6 (fun p k q z => by
            have q2 := (SM_ge q).2
            have := z.2
            omega)
          have R7 := R6.set 34 0 (σ 34 0 + 1) (show (0 : Nat) < 18 ∧ _ by decide) (by decide)
          refine h _ ⟨M4.of (show (sI μ6 50 0 19 (σ 34 0 + 1)).2 = μ4.2 from hD6.1), R7, ?_, ?_⟩ ((F4.tr (hD6.mono fun _ _ _ q => by have := q.2; omega)).sI) (by rw [gI_sI, if_neg (by simp), hD6.2 _ _ _ (nS50 _)]; exact z4)
          · rw [gI_sI, if_neg (by simp), hD6.2 _ _ _ (nS50 _)]
            have a75 : gI μ4 50 0 75 = gI μ2 50 0 75 := by rw [← hμ4]; simp [gI_sI]
            rw [a75]
            simp only [up2_eq]
            simp
            exact (T2.2.2.1).trans (by rw [up2_eq, if_neg (by simp)])
          · have e0 : up2 (up2 (up2 (up2 (up2 σ 34 15 0) 34 14 (-1)) 38 L fr) 39 L (nI l.length)) 34 0 (σ 34 0 + 1) 34 0 = nI (L + 1) := by rw [up2_eq, if_pos ⟨rfl, rfl⟩, hL, nI_1]
            have e39 : ∀ k, up2 (up2 (up2 (up2 (up2 σ 34 15 0) 34 14 (-1)) 38 L fr) 39 L (nI l.length)) 34 0 (σ 34 0 + 1) 39 k = if k = L then nI l.length else σ 39 k := fun k => by
              simp only [up2_eq]
              simp
            intro k hk
            rw [e0, tn_nI (by omega)] at hk
            rw [e39]
            dsimp only
            by_cases ek : k = L
            · rw [if_pos ek, if_pos ek]
              refine ⟨rfl, hl16, fun c hc => ?_⟩
              subst ek
              obtain ⟨d1, d2, b, d3, d4, d5, d6⟩ := hdr2 c hc
              have w : ∀ p, (p = 63 ∨ p = 64 ∨ p = 65 ∨ p = 66) → gI (sI μ6 50 0 19 (σ 34 0 + 1)) p 0 (16 * k + c) = gI μ2 p 0 (192 + c) := fun p hp => by
                rw [gI_sI, if_neg (fun q => by have := q.1; omega), h6a c hc p hp, k4 p _ (by omega) (by omega)]
              refine ⟨(w 63 (by omega)).trans d1, fun q => (w 64 (by omega)).trans (d2 q), b, (w 65 (by omega)).trans d3, (w 66 (by omega)).trans d4, by omega, fun j hj => ?_⟩
              have w2 : ∀ p, (p = 67 ∨ p = 68 ∨ p = 69) → gI (sI μ6 50 0 19 (σ 34 0 + 1)) p 0 (400 * k + (b + j)) = gI μ2 p 0 (4800 + (b + j)) := fun p hp => by
                rw [gI_sI, if_neg (fun q => by have := q.1; omega), h6b (b + j) (by omega) p hp, k4 p _ (by omega) (by omega)]
              rw [w2 67 (by omega), w2 68 (by omega), w2 69 (by omega)]
              exact d6 j hj
            · rw [if_neg ek, if_neg ek]
              obtain ⟨a1, a2, a3⟩ := T2.2.2.2 k (by rw [up2_eq, if_neg (by simp), hL, tn_nI (by omega)]; omega)
              rw [up2_eq, if_neg (by simp)] at a1
              refine ⟨a1, a2, fun c hc => ?_⟩
              have kp : ∀ p q, (p = 63 ∨ p = 64 ∨ p = 65 ∨ p = 66) → q = 16 * k + c → gI (sI μ6 50 0 19 (σ 34 0 + 1)) p 0 q = gI μ2 p 0 q := fun p q hp hq => by
                rw [gI_sI, if_neg (fun z => by have := z.1; omega), hD6.2 _ _ _ (fun z => by have := z.2; omega), k4 p _ (by omega) (by omega)]
              have h4 := a3 c hc
              unfold clM at h4 ⊢
              rw [kp 63 _ (by omega) rfl, kp 64 _ (by omega) rfl, kp 65 _ (by omega) rfl, kp 66 _ (by omega) rfl]
              obtain ⟨b1, b2, bg, c1, c2, c3, c4⟩ := h4
              refine ⟨b1, b2, bg, c1, c2, c3, fun j hj => ?_⟩
              have kq : ∀ p, (p = 67 ∨ p = 68 ∨ p = 69) → gI (sI μ6 50 0 19 (σ 34 0 + 1)) p 0 (400 * k + (bg + j)) = gI μ2 p 0 (400 * k + (bg + j)) := fun p hp => by
                rw [gI_sI, if_neg (fun z => by have := z.1; omega), hD6.2 _ _ _ (fun z => by have := z.2; omega), k4 p _ (by omega) (by omega)]
              rw [kq 67 (by omega), kq 68 (by omega), kq 69 (by omega)]
              exact c4 j hj
        -- the steps
        have stS : ∀ k, k ≤ S → ∀ μ5, Dif SN μ4 μ5 → (∀ c, c < l.length → ∀ p, (p = 63 ∨ p = 64 ∨ p = 65 ∨ p = 66) → gI μ5 p 0 (16 * L + c) = gI μ4 p 0 (192 + c)) → (∀ j, j < k → ∀ p, (p = 67 ∨ p = 68 ∨ p = 69) → gI μ5 p 0 (400 * L + j) = gI μ4 p 0 (4800 + j)) → Z RX5 cX5_law (4, some .int, [], false, rmm 38 0 0) (Γ, C, μ, ad, Q) (0) (0) (μ5) 226 [some (vr 50 0), some (vi fr), some (vi (nI l.length)), some (vi (nI k))] [] := by
          refine loopN (P := fun k => ∀ μ5, Dif SN μ4 μ5 → (∀ c, c < l.length → ∀ p, (p = 63 ∨ p = 64 ∨ p = 65 ∨ p = 66) → gI μ5 p 0 (16 * L + c) = gI μ4 p 0 (192 + c)) → (∀ j, j < k → ∀ p, (p = 67 ∨ p = 68 ∨ p = 69) → gI μ5 p 0 (400 * L + j) = gI μ4 p 0 (4800 + j)) → Z RX5 cX5_law (4, some .int, [], false, rmm 38 0 0) (Γ, C, μ, ad, Q) (0) (0) (μ5) 226 [some (vr 50 0), some (vi fr), some (vi (nI l.length)), some (vi (nI k))] []) S ?_ ?_
          · intro μ5 hD5 h5a h5b
            have S5 : gI μ5 50 0 20 = nI S := (hD5.2 _ _ _ (fun q => by have := q.2; omega)).trans S4
            refine z_iload3 dX5_law_226 (z_aload0 dX5_law_227 (z_getI fl_X5_217 dX5_law_228 rfl rfl (z_icmp_ge 315 dX5_law_231 (by decide) (fun _ => ?_) (fun c => absurd (lpt S5) c))))
            exact fin μ5 _ hD5 h5a h5b
          · intro k hk ih μ5 hD5 h5a h5b
            have S5 : gI μ5 50 0 20 = nI S := (hD5.2 _ _ _ (fun q => by have := q.2; omega)).trans S4
            have L5 : gI μ5 50 0 19 = nI L := (hD5.2 _ _ _ (fun q => by have := q.2; omega)).trans L4
            have M5 : MOK μ5 := M4.of hD5.1
            have it : (400 : Int32) * gI μ5 50 0 19 + nI k = nI (400 * L + k) := by rw [L5, i400]
            have is : (4800 : Int32) + nI k = nI (4800 + k) := by rw [show (4800 : Int32) = nI 4800 from rfl, nI_add]
            have src : ∀ p, (p = 67 ∨ p = 68 ∨ p = 69) → gI μ5 p 0 (4800 + k) = gI μ4 p 0 (4800 + k) := fun p hp => hD5.2 _ _ _ fun q => by have := q.2; omega
            refine z_iload3 dX5_law_226 (z_aload0 dX5_law_227 (z_getI fl_X5_217 dX5_law_228 rfl rfl (z_icmp_ge 315 dX5_law_231 (by decide) (fun c => absurd c (lpf S5 hk (by omega))) (fun _ => z_aload0 dX5_law_234 (z_getP (v := some (67, 0)) fl_X5_39 dX5_law_235 rfl rfl (M5 16 rfl) (z_sipush (v := 400) dX5_law_238 (by decide) (z_aload0 dX5_law_241 (z_getI fl_X5_328 dX5_law_242 rfl rfl (z_imul dX5_law_245 (z_iload3 dX5_law_246 (z_iadd dX5_law_247 (z_aload0 dX5_law_248 (z_getP (v := some (67, 0)) fl_X5_39 dX5_law_249 rfl rfl (M5 16 rfl) (z_sipush (v := 4800) dX5_law_252 (by decide) (z_iload3 dX5_law_255 (z_iadd dX5_law_256 (z_ialdv dX5_law_257 rfl ⟨is, (show 4800 + k < 5200 by omega), Nat.le_of_ble_eq_true rfl⟩ (src 67 (by omega)) (z_iast dX5_law_258 rfl ⟨it, (show 400 * L + k < 5200 by omega), Nat.le_of_ble_eq_true rfl⟩ (z_aload0 dX5_law_259 (z_getP (v := some (68, 0)) fl_X5_42 dX5_law_260 rfl rfl (M5 17 rfl) (z_sipush (v := 400) dX5_law_263 (by decide) (z_aload0 dX5_law_266 (z_getI fl_X5_328 dX5_law_267 rfl rfl (z_imul dX5_law_270 (z_iload3 dX5_law_271 (z_iadd dX5_law_272 (z_aload0 dX5_law_273 (z_getP (v := some (68, 0)) fl_X5_42 dX5_law_274 rfl rfl (M5 17 rfl) (z_sipush (v := 4800) dX5_law_277 (by decide) (z_iload3 dX5_law_280 (z_iadd dX5_law_281 (z_ialdv dX5_law_282 rfl ⟨is, (show 4800 + k < 5200 by omega), Nat.le_of_ble_eq_true rfl⟩ (src 68 (by omega)) (z_iast dX5_law_283 rfl ⟨it, (show 400 * L + k < 5200 by omega), Nat.le_of_ble_eq_true rfl⟩ (z_aload0 dX5_law_284 (z_getP (v := some (69, 0)) fl_X5_45 dX5_law_285 rfl rfl (M5 18 rfl) (z_sipush (v := 400) dX5_law_288 (by decide) (z_aload0 dX5_law_291 (z_getI fl_X5_328 dX5_law_292 rfl rfl (z_imul dX5_law_295 (z_iload3 dX5_law_296 (z_iadd dX5_law_297 (z_aload0 dX5_law_298 (z_getP (v := some (69, 0)) fl_X5_45 dX5_law_299 rfl rfl (M5 18 rfl) (z_sipush (v := 4800) dX5_law_302 (by decide) (z_iload3 dX5_law_305 (z_iadd dX5_law_306 (z_ialdv dX5_law_307 rfl ⟨is, (show 4800 + k < 5200 by omega), Nat.le_of_ble_eq_true rfl⟩ (src 69 (by omega)) (z_iast dX5_law_308 rfl ⟨it, (show 400 * L + k < 5200 by omega), Nat.le_of_ble_eq_true rfl⟩ (z_iinc3 dX5_law_309 (inc1 k) (z_goto 226 dX5_law_312 (by decide) ?_))))))))))))))))))))))))))))))))))))))))))))))))))
            have sn : ∀ p, (p = 67 ∨ p = 68 ∨ p = 69) → SN p 0 (400 * L + k) := fun p hp => ⟨rfl, Or.inr ⟨hp, by omega, by omega⟩⟩
            refine ih _ (((hD5.tr (Dif.sI (sn 67 (by omega)))).tr (Dif.sI (sn 68 (by omega)))).tr (Dif.sI (sn 69 (by omega)))) (fun c hc p hp => ?_) (fun j hj p hp => ?_)
            · rw [gI_sI, if_neg (fun q => by have := q.1; omega), gI_sI, if_neg (fun q => by have := q.1; omega), gI_sI, if_neg (fun q => by have := q.1; omega)]
              exact h5a c hc p hp
            · by_cases ej : j = k
              · subst ej
                rcases hp with rfl | rfl | rfl <;> simp [gI_sI]
              · rw [gI_sI, if_neg (fun q => by have := q.2.2; omega), gI_sI, if_neg (fun q => by have := q.2.2; omega), gI_sI, if_neg (fun q => by have := q.2.2; omega)]
                exact h5b j (by omega) p hp
        -- the clauses
        have stC : ∀ k, k ≤ l.length → ∀ μ5, Dif SN μ4 μ5 → (∀ c, c < k → ∀ p, (p = 63 ∨ p = 64 ∨ p = 65 ∨ p = 66) → gI μ5 p 0 (16 * L + c) = gI μ4 p 0 (192 + c)) → Z RX5 cX5_law (4, some .int, [], false, rmm 38 0 0) (Γ, C, μ, ad, Q) (0) (0) (μ5) 117 [some (vr 50 0), some (vi fr), some (vi (nI l.length)), some (vi (nI k))] [] := by
          refine loopN (P := fun k => ∀ μ5, Dif SN μ4 μ5 → (∀ c, c < k → ∀ p, (p = 63 ∨ p = 64 ∨ p = 65 ∨ p = 66) → gI μ5 p 0 (16 * L + c) = gI μ4 p 0 (192 + c)) → Z RX5 cX5_law (4, some .int, [], false, rmm 38 0 0) (Γ, C, μ, ad, Q) (0) (0) (μ5) 117 [some (vr 50 0), some (vi fr), some (vi (nI l.length)), some (vi (nI k))] []) l.length ?_ ?_
          · intro μ5 hD5 h5a
            refine z_iload3 dX5_law_117 (z_iload2 dX5_law_118 (z_icmp_ge 224 dX5_law_119 (by decide) (fun _ => z_iconst (v := 0) dX5_law_224 (by decide) (z_istore3 dX5_law_225 ?_)) (fun c => absurd (Int32.le_refl _) c)))
            exact stS 0 (Nat.zero_le _) μ5 hD5 h5a (fun j hj => absurd hj (Nat.not_lt_zero _))
          · intro k hk ih μ5 hD5 h5a
            have L5 : gI μ5 50 0 19 = nI L := (hD5.2 _ _ _ (fun q => by have := q.2; omega)).trans L4
            have M5 : MOK μ5 := M4.of hD5.1
            have it : (16 : Int32) * gI μ5 50 0 19 + nI k = nI (16 * L + k) := by rw [L5, i16]
            have is : (192 : Int32) + nI k = nI (192 + k) := by rw [show (192 : Int32) = nI 192 from rfl, nI_add]
            have src : ∀ p, (p = 63 ∨ p = 64 ∨ p = 65 ∨ p = 66) → gI μ5 p 0 (192 + k) = gI μ4 p 0 (192 + k) := fun p hp => hD5.2 _ _ _ fun q => by have := q.2; omega
            refine z_iload3 dX5_law_117 (z_iload2 dX5_law_118 (z_icmp_ge 224 dX5_law_119 (by decide) (fun c => absurd c (nI_ge hk (by omega))) (fun _ => z_aload0 dX5_law_122 (z_getP (v := some (63, 0)) fl_X5_27 dX5_law_123 rfl rfl (M5 12 rfl) (z_bipush (v := 16) dX5_law_126 (by decide) (z_aload0 dX5_law_128 (z_getI fl_X5_328 dX5_law_129 rfl rfl (z_imul dX5_law_132 (z_iload3 dX5_law_133 (z_iadd dX5_law_134 (z_aload0 dX5_law_135 (z_getP (v := some (63, 0)) fl_X5_27 dX5_law_136 rfl rfl (M5 12 rfl) (z_sipush (v := 192) dX5_law_139 (by decide) (z_iload3 dX5_law_142 (z_iadd dX5_law_143 (z_ialdv dX5_law_144 rfl ⟨is, (show 192 + k < 208 by omega), Nat.le_of_ble_eq_true rfl⟩ (src 63 (by omega)) (z_iast dX5_law_145 rfl ⟨it, (show 16 * L + k < 208 by omega), Nat.le_of_ble_eq_true rfl⟩ (z_aload0 dX5_law_146 (z_getP (v := some (64, 0)) fl_X5_30 dX5_law_147 rfl rfl (M5 13 rfl) (z_bipush (v := 16) dX5_law_150 (by decide) (z_aload0 dX5_law_152 (z_getI fl_X5_328 dX5_law_153 rfl rfl (z_imul dX5_law_156 (z_iload3 dX5_law_157 (z_iadd dX5_law_158 (z_aload0 dX5_law_159 (z_getP (v := some (64, 0)) fl_X5_30 dX5_law_160 rfl rfl (M5 13 rfl) (z_sipush (v := 192) dX5_law_163 (by decide) (z_iload3 dX5_law_166 (z_iadd dX5_law_167 (z_ialdv dX5_law_168 rfl ⟨is, (show 192 + k < 208 by omega), Nat.le_of_ble_eq_true rfl⟩ (src 64 (by omega)) (z_iast dX5_law_169 rfl ⟨it, (show 16 * L + k < 208 by omega), Nat.le_of_ble_eq_true rfl⟩ (z_aload0 dX5_law_170 (z_getP (v := some (65, 0)) fl_X5_33 dX5_law_171 rfl rfl (M5 14 rfl) (z_bipush (v := 16) dX5_law_174 (by decide) (z_aload0 dX5_law_176 (z_getI fl_X5_328 dX5_law_177 rfl rfl (z_imul dX5_law_180 (z_iload3 dX5_law_181 (z_iadd dX5_law_182 (z_aload0 dX5_law_183 (z_getP (v := some (65, 0)) fl_X5_33 dX5_law_184 rfl rfl (M5 14 rfl) (z_sipush (v := 192) dX5_law_187 (by decide) (z_iload3 dX5_law_190 (z_iadd dX5_law_191 (z_ialdv dX5_law_192 rfl ⟨is, (show 192 + k < 208 by omega), Nat.le_of_ble_eq_true rfl⟩ (src 65 (by omega)) (z_iast dX5_law_193 rfl ⟨it, (show 16 * L + k < 208 by omega), Nat.le_of_ble_eq_true rfl⟩ (z_aload0 dX5_law_194 (z_getP (v := some (66, 0)) fl_X5_36 dX5_law_195 rfl rfl (M5 15 rfl) (z_bipush (v := 16) dX5_law_198 (by decide) (z_aload0 dX5_law_200 (z_getI fl_X5_328 dX5_law_201 rfl rfl (z_imul dX5_law_204 (z_iload3 dX5_law_205 (z_iadd dX5_law_206 (z_aload0 dX5_law_207 (z_getP (v := some (66, 0)) fl_X5_36 dX5_law_208 rfl rfl (M5 15 rfl) (z_sipush (v := 192) dX5_law_211 (by decide) (z_iload3 dX5_law_214 (z_iadd dX5_law_215 (z_ialdv dX5_law_216 rfl ⟨is, (show 192 + k < 208 by omega), Nat.le_of_ble_eq_true rfl⟩ (src 66 (by omega)) (z_iast dX5_law_217 rfl ⟨it, (show 16 * L + k < 208 by omega), Nat.le_of_ble_eq_true rfl⟩ (z_iinc3 dX5_law_218 (inc1 k) (z_goto 117 dX5_law_221 (by decide) ?_))))))))))))))))))))))))))))))))))))))))))))))))))))))))))))))))
            have sn : ∀ p, (p = 63 ∨ p = 64 ∨ p = 65 ∨ p = 66) → SN p 0 (16 * L + k) := fun p hp => ⟨rfl, Or.inl ⟨hp, by omega, by omega⟩⟩
            refine ih _ ((((hD5.tr (Dif.sI (sn 63 (by omega)))).tr (Dif.sI (sn 64 (by omega)))).tr (Dif.sI (sn 65 (by omega)))).tr (Dif.sI (sn 66 (by omega)))) (fun c hc p hp => ?_)
            by_cases ec : c = k
            · subst ec
              rcases hp with rfl | rfl | rfl | rfl <;> simp [gI_sI]
            · rw [gI_sI, if_neg (fun q => by have := q.2.2; omega), gI_sI, if_neg (fun q => by have := q.2.2; omega), gI_sI, if_neg (fun q => by have := q.2.2; omega), gI_sI, if_neg (fun q => by have := q.2.2; omega)]
              exact h5a c (by omega) p hp
        exact stC 0 (Nat.zero_le _) μ4 Dif.rf (fun c hc => absurd hc (Nat.not_lt_zero _))
  · rw [if_pos h1, if_pos h1] at h
    refine z_aload0 dX5_law_0 (z_invV0 (md_X5_uses _) cv_X5_311 rfl dX5_law_1 rfl (Nat.le_of_ble_eq_true rfl) (Rm.ofB rfl) (M_uses hμ1 (z_aload0 dX5_law_4 (z_iload1 dX5_law_5 (z_aload0 dX5_law_6 (z_getIv fl_X5_314 dX5_law_7 rfl rfl (hR1.s7 0 (by decide)) (z_sipush (v := 1000) dX5_law_10 (by decide) (z_invS3 (md_X5_in _) cs_X5_317 dX5_law_13 rfl (Nat.le_of_ble_eq_true rfl) (Rm.ofB rfl) (M_inF h1 (z_if_ne 23 dX5_law_16 (by decide) (fun c => absurd (rfl) c) (fun _ => z_iconst (v := 1) dX5_law_19 (by decide) (z_goto 24 dX5_law_20 (by decide) (z_iconst (v := 1) dX5_law_24 (by decide) (z_invV2 (md_X5_throwsIf _) cv_X5_321 rfl dX5_law_25 rfl (Nat.le_of_ble_eq_true rfl) (Rm.ofB rfl) (M_thrT (z_if_eq 33 dX5_law_28 (by decide) (fun c => absurd c (n10)) (fun _ => z_iconst (v := 0) dX5_law_31 (by decide) (z_ireturn dX5_law_32 rfl (Nat.le_of_ble_eq_true rfl) (Nat.le_of_ble_eq_true rfl) ?_))))))))))))))))))
    exact h _ T1.th F1.sI (by rw [gI_sI, if_pos ⟨rfl, rfl, rfl⟩])
end M19
