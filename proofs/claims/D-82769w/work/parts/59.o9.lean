/-! the Office: the trial world -/
section O9
variable {μ μ' : Mem} {σ σ' : Sg} {Λ : Lws} {Q : Res → Mem → Prop} {np na nl nb ng w : Nat}
theorem X_mvInit {j : Nat} (hw : w < 2) (h : Q rV (sI (sI (sI (sI μ (34 + w) j 2 (-1)) (34 + w) j 3 (-1)) (34 + w) j 4 (-1)) (34 + w) j 5 (-1))) : Ct RX15 cX15_init (1, none, [], true, rmm 1 0 0) [vr (34 + w) j] μ Q := by
  refine Ct.of (ls := [some (vr (34 + w) j)]) rfl fun Γ C ad => ?_
  refine z_aload0 dX15_init_0 (z_objInit co_X15_3 dX15_init_1 (by decide) (by decide) (z_aload0 dX15_init_4 (z_iconst (v := (-1)) dX15_init_5 (by decide) (z_putI fl_X15_9 dX15_init_6 (kdW hw) rfl ⟨rfl, rfl⟩ (z_aload0 dX15_init_9 (z_iconst (v := (-1)) dX15_init_10 (by decide) (z_putI fl_X15_15 dX15_init_11 (kdW hw) rfl ⟨rfl, rfl⟩ (z_aload0 dX15_init_14 (z_iconst (v := (-1)) dX15_init_15 (by decide) (z_putI fl_X15_18 dX15_init_16 (kdW hw) rfl ⟨rfl, rfl⟩ (z_aload0 dX15_init_19 (z_iconst (v := (-1)) dX15_init_20 (by decide) (z_putI fl_X15_21 dX15_init_21 (kdW hw) rfl ⟨rfl, rfl⟩ (z_return dX15_init_24 rfl (Nat.le_of_ble_eq_true rfl) (Nat.le_of_ble_eq_true rfl) ?_))))))))))))))
  exact h
def mvB (μ : Mem) (j : Nat) (σ : Sg) : Mem := sI (sI (sI (sI (sI (sI (sI (sI μ 35 j 0 (σ 0 j)) 35 j 1 (σ 23 j)) 35 j 2 (σ 1 j)) 35 j 3 (σ 2 j)) 35 j 4 (σ 3 j)) 35 j 5 (σ 4 j)) 35 j 6 (σ 5 j)) 35 j 7 (σ 6 j)
theorem b01_put {x : Int32} (h : x = 0 ∨ x = 1) : narrow .boolean (.int x) = .int x ∧ fits .boolean (.int x) = true := by rcases h with rfl | rfl <;> exact ⟨rfl, rfl⟩
theorem X_mvBe {j : Nat} (hR : RepX 0 σ μ) (h6 : σ 6 j = 0 ∨ σ 6 j = 1) (h : Q rV (mvB μ j σ)) : Ct RX15 cX15_be (2, none, [], false, rmm 1 0 0) [vr 35 j, vr 34 j] μ Q := by
  refine Ct.of (ls := [some (vr 35 j), some (vr 34 j)]) rfl fun Γ C ad => ?_
  have g : ∀ {k : Nat} {v : Int32}, (k = k) → gI μ 34 j k = v → ∀ {μ1 : Mem}, (∀ q, gI μ1 34 j q = gI μ 34 j q) → gI μ1 34 j k = v := fun _ h1 _ h2 => (h2 _).trans h1
  have s : ∀ {μ1 : Mem} {k : Nat} {v : Int32}, (∀ q, gI μ1 34 j q = gI μ 34 j q) → (∀ q, gI (sI μ1 35 j k v) 34 j q = gI μ 34 j q) := fun h1 q => by rw [gI_sI, if_neg (by simp)]; exact h1 q
  have s0 : ∀ q, gI μ 34 j q = gI μ 34 j q := fun _ => rfl
  refine z_aload0 dX15_be_0 (z_aload1 dX15_be_1 (z_getIv fl_X15_24 dX15_be_2 rfl rfl (hR.q 0 j (by decide)) (z_putI fl_X15_24 dX15_be_5 rfl rfl ⟨rfl, rfl⟩ (z_aload0 dX15_be_8 (z_aload1 dX15_be_9 (z_getIv fl_X15_27 dX15_be_10 rfl rfl (g rfl (hR.q 23 j (by decide)) (s s0)) (z_putI fl_X15_27 dX15_be_13 rfl rfl ⟨rfl, rfl⟩ (z_aload0 dX15_be_16 (z_aload1 dX15_be_17 (z_getIv fl_X15_9 dX15_be_18 rfl rfl (g rfl (hR.q 1 j (by decide)) (s (s s0))) (z_putI fl_X15_9 dX15_be_21 rfl rfl ⟨rfl, rfl⟩ (z_aload0 dX15_be_24 (z_aload1 dX15_be_25 (z_getIv fl_X15_15 dX15_be_26 rfl rfl (g rfl (hR.q 2 j (by decide)) (s (s (s s0)))) (z_putI fl_X15_15 dX15_be_29 rfl rfl ⟨rfl, rfl⟩ (z_aload0 dX15_be_32 (z_aload1 dX15_be_33 (z_getIv fl_X15_18 dX15_be_34 rfl rfl (g rfl (hR.q 3 j (by decide)) (s (s (s (s s0))))) (z_putI fl_X15_18 dX15_be_37 rfl rfl ⟨rfl, rfl⟩ (z_aload0 dX15_be_40 (z_aload1 dX15_be_41 (z_getIv fl_X15_21 dX15_be_42 rfl rfl (g rfl (hR.q 4 j (by decide)) (s (s (s (s (s s0)))))) (z_putI fl_X15_21 dX15_be_45 rfl rfl ⟨rfl, rfl⟩ (z_aload0 dX15_be_48 (z_aload1 dX15_be_49 (z_getIv fl_X15_30 dX15_be_50 rfl rfl (g rfl (hR.q 5 j (by decide)) (s (s (s (s (s (s s0))))))) (z_putI fl_X15_30 dX15_be_53 rfl rfl ⟨rfl, rfl⟩ (z_aload0 dX15_be_56 (z_aload1 dX15_be_57 (z_getIv fl_X15_33 dX15_be_58 rfl rfl (g rfl (hR.q 6 j (by decide)) (s (s (s (s (s (s (s s0)))))))) (z_putI fl_X15_33 dX15_be_61 rfl rfl (b01_put h6) (z_return dX15_be_64 rfl (Nat.le_of_ble_eq_true rfl) (Nat.le_of_ble_eq_true rfl) ?_))))))))))))))))))))))))))))))))
  exact h
theorem mvB_at {j : Nat} {c : Nat} (hc : c < 7 ∨ c = 23) : gI (mvB μ j σ) 35 j (xsL.getD c 0) = σ c j := by
  unfold mvB
  simp only [gI_sI]
  have : c = 0 ∨ c = 1 ∨ c = 2 ∨ c = 3 ∨ c = 4 ∨ c = 5 ∨ c = 6 ∨ c = 23 := by omega
  rcases this with rfl | rfl | rfl | rfl | rfl | rfl | rfl | rfl <;> simp [xsL]
theorem mvB_ne {j p i k : Nat} (h : ¬ (p = 35 ∧ i = j)) : gI (mvB μ j σ) p i k = gI μ p i k := by
  unfold mvB
  simp only [gI_sI]
  rw [if_neg (fun q => h ⟨q.1, q.2.1⟩), if_neg (fun q => h ⟨q.1, q.2.1⟩), if_neg (fun q => h ⟨q.1, q.2.1⟩), if_neg (fun q => h ⟨q.1, q.2.1⟩), if_neg (fun q => h ⟨q.1, q.2.1⟩), if_neg (fun q => h ⟨q.1, q.2.1⟩), if_neg (fun q => h ⟨q.1, q.2.1⟩), if_neg (fun q => h ⟨q.1, q.2.1⟩)]
/-- what the trial's making changes -/
def SV : Nat → Nat → Nat → Prop := fun p i _ => p = 35 ∨ (p = 4 ∧ i = 1)
def TV : Nat → Prop := fun p => p = 35 ∨ p = 16
theorem RepX.j (h : RepX 0 σ μ) (hF : FX SV TV μ μ') : RepX 0 σ μ' := h.sc hF fun p i k q => by unfold SV at q; unfold SC; omega
theorem xl_1 {c i : Nat} (h : ¬ (c < 7 ∨ c = 23) ∧ ¬ (c = 7 ∧ i ≠ 5)) : xl 1 c i = xl 0 c i := by
  unfold xl
  by_cases h7 : c = 7
  · have : i = 5 := by omega
    rw [if_pos h7, if_pos h7, if_pos this, if_pos this]
  · rw [if_neg h7, if_neg h7]
    split
    · rfl
    · split
      · rfl
      · split
        · rfl
        · split
          · rfl
          · split
            · rfl
            · rw [if_neg h.1, if_neg h.1]
theorem X_wBe {x : Int32} (hX : XP np na nl nb ng μ) (hR : RepX 0 σ μ) (hx : x = nI na) (hn : na ≤ 120) (h6 : ∀ a, σ 6 a = 0 ∨ σ 6 a = 1) (h : ∀ μ', RepX 1 σ μ' → XP np na nl nb ng μ' → XMv 1 na μ' → FX SV TV μ μ' → Q rV μ') : Ct RX4 cX4_be (4, none, [], false, rmm 2 120 960) [vr 4 1, vr 4 0, vi x] μ Q := by
  refine Ct.of (ls := [some (vr 4 1), some (vr 4 0), some (vi x), none]) rfl fun Γ C ad => ?_
  refine z_clean fun cl0 => ?_
  have z0 : ∀ c i, (c < 7 ∨ c = 23) → na ≤ i → σ c i = 0 := by
    intro c i hc hi
    have e := hR.q c i (by omega)
    have ex : xl 0 c i = (34, i, xsL.getD c 0) := by
      unfold xl
      rw [if_neg (by omega), if_neg (by omega), if_neg (by omega), if_neg (by omega), if_neg (by omega), if_neg (by omega), if_pos hc]
    rw [ex] at e
    have e34 : gC μ 34 = na := hX.2.2.2.2.2.2.1.2.2.1
    rw [← e]
    exact (cl0 34 i _ (by omega)).1
  have lp : ∀ k, k ≤ na → ∀ μ', XP np na nl nb ng μ' → FX SV TV μ μ' → k ≤ gC μ' 35 → (∀ j, j < k → ∀ c, (c < 7 ∨ c = 23) → gI μ' 35 j (xsL.getD c 0) = σ c j) → Z RX4 cX4_be (4, none, [], false, rmm 2 120 960) (Γ, C, μ, ad, Q) (k) (8 * k) (μ') 2 [some (vr 4 1), some (vr 4 0), some (vi x), some (vi (nI k))] [] := by
    refine loopN (P := fun k => ∀ μ', XP np na nl nb ng μ' → FX SV TV μ μ' → k ≤ gC μ' 35 → (∀ j, j < k → ∀ c, (c < 7 ∨ c = 23) → gI μ' 35 j (xsL.getD c 0) = σ c j) → Z RX4 cX4_be (4, none, [], false, rmm 2 120 960) (Γ, C, μ, ad, Q) (k) (8 * k) (μ') 2 [some (vr 4 1), some (vr 4 0), some (vi x), some (vi (nI k))] []) na ?_ ?_
    · intro μ' hX' hF hk hv
      refine z_widen (show na ≤ 120 by omega) (show 8 * na ≤ 960 by omega) (z_clean fun cl1 => ?_)
      have hR' := hR.j hF
      have g : ∀ {k : Nat} {v : Int32}, gI μ' 4 0 k = v → ∀ {μ1 : Mem}, (∀ q, gI μ1 4 0 q = gI μ' 4 0 q) → gI μ1 4 0 k = v := fun h1 _ h2 => (h2 _).trans h1
      have s : ∀ {μ1 : Mem} {k : Nat} {v : Int32}, (∀ q, gI μ1 4 0 q = gI μ' 4 0 q) → (∀ q, gI (sI μ1 4 1 k v) 4 0 q = gI μ' 4 0 q) := fun h1 q => by rw [gI_sI, if_neg (by simp)]; exact h1 q
      have s0 : ∀ q, gI μ' 4 0 q = gI μ' 4 0 q := fun _ => rfl
      refine z_iload3 dX4_be_2 (z_iload2 dX4_be_3 (z_icmp_ge 50 dX4_be_4 (by decide) (fun _ => z_aload0 dX4_be_50 (z_aload1 dX4_be_51 (z_getIv fl_X4_22 dX4_be_52 rfl rfl (hR'.wd 0 (by decide)) (z_putI fl_X4_22 dX4_be_55 rfl rfl ⟨rfl, rfl⟩ (z_aload0 dX4_be_58 (z_aload1 dX4_be_59 (z_getIv fl_X4_26 dX4_be_60 rfl rfl (g (hR'.wd 1 (by decide)) (s s0)) (z_putI fl_X4_26 dX4_be_63 rfl rfl ⟨rfl, rfl⟩ (z_aload0 dX4_be_66 (z_aload1 dX4_be_67 (z_getIv fl_X4_29 dX4_be_68 rfl rfl (g (hR'.wd 2 (by decide)) (s (s s0))) (z_putI fl_X4_29 dX4_be_71 rfl rfl ⟨rfl, rfl⟩ (z_aload0 dX4_be_74 (z_aload1 dX4_be_75 (z_getIv fl_X4_32 dX4_be_76 rfl rfl (g (hR'.wd 3 (by decide)) (s (s (s s0)))) (z_putI fl_X4_32 dX4_be_79 rfl rfl ⟨rfl, rfl⟩ (z_aload0 dX4_be_82 (z_aload1 dX4_be_83 (z_getIv fl_X4_35 dX4_be_84 rfl rfl (g (hR'.wd 4 (by decide)) (s (s (s (s s0))))) (z_putI fl_X4_35 dX4_be_87 rfl rfl ⟨rfl, rfl⟩ (z_return dX4_be_90 rfl (Nat.le_of_ble_eq_true rfl) (Nat.le_of_ble_eq_true rfl) ?_))))))))))))))))))))) (fun c => absurd ((by rw [hx]; exact Int32.le_refl _)) c)))
      have hF2 : FX SV TV μ (sI (sI (sI (sI (sI μ' 4 1 1 (σ 7 0)) 4 1 2 (σ 7 1)) 4 1 3 (σ 7 2)) 4 1 4 (σ 7 3)) 4 1 5 (σ 7 4)) := ((((hF.wI (Or.inr ⟨rfl, rfl⟩)).wI (Or.inr ⟨rfl, rfl⟩)).wI (Or.inr ⟨rfl, rfl⟩)).wI (Or.inr ⟨rfl, rfl⟩)).wI (Or.inr ⟨rfl, rfl⟩)
      refine h _ (fun c i hs => ?_) (hX'.of rfl) (fun k hk' => hX'.2.2.2.2.2.2.2.2.2.2.2.1 k (by omega)) hF2
      by_cases hc : c < 7 ∨ c = 23
      · have ex : xl 1 c i = (35, i, xsL.getD c 0) := by
          unfold xl
          rw [if_neg (by omega), if_neg (by omega), if_neg (by omega), if_neg (by omega), if_neg (by omega), if_neg (by omega), if_pos hc]
        have e27 : eX c (σ c i) = σ c i := if_neg (by omega)
        rw [ex, e27]
        show gI _ 35 i (xsL.getD c 0) = _
        simp only [gI_sI]
        rw [if_neg (by omega), if_neg (by omega), if_neg (by omega), if_neg (by omega), if_neg (by omega)]
        by_cases hi : i < na
        · exact hv i hi c hc
        · rw [z0 c i hc (by omega)]
          exact (cl1 35 i _ (by have := hX'.2.2.2.2.2.2.2.2.2.2.1; omega)).1
      · by_cases h7 : c = 7 ∧ i ≠ 5
        · obtain ⟨rfl, h5⟩ := h7
          have hi : i < 6 := hs
          have : i = 0 ∨ i = 1 ∨ i = 2 ∨ i = 3 ∨ i = 4 := by omega
          rcases this with rfl | rfl | rfl | rfl | rfl
          · show gI _ 4 1 1 = σ 7 0
            simp [gI_sI]
          · show gI _ 4 1 2 = σ 7 1
            simp [gI_sI]
          · show gI _ 4 1 3 = σ 7 2
            simp [gI_sI]
          · show gI _ 4 1 4 = σ 7 3
            simp [gI_sI]
          · show gI _ 4 1 5 = σ 7 4
            simp [gI_sI]
        · rw [xl_1 ⟨hc, h7⟩]
          exact hR.j hF2 c i hs
    · intro k hk ih μ' hX' hF hkc hv
      have k120 : k < 120 := by omega
      have hR' := hR.j hF
      have body : ∀ μ1, XP np na nl nb ng μ1 → FX SV TV μ μ1 → k < gC μ1 35 → (∀ j, j < k → ∀ c, (c < 7 ∨ c = 23) → gI μ1 35 j (xsL.getD c 0) = σ c j) → Z RX4 cX4_be (4, none, [], false, rmm 2 120 960) (Γ, C, μ, ad, Q) (k + 1) (8 * k + 8) (μ1) 29 [some (vr 4 1), some (vr 4 0), some (vi x), some (vi (nI k))] [] := by
        intro μ1 hX1 hF1 hk1 hv1
        have e16 : gP μ1 16 1 k = some (35, k) := hX1.2.2.2.2.2.2.2.2.2.2.2.1 k hk1
        refine z_aload0 dX4_be_29 (z_getP fl_X4_11 dX4_be_30 rfl rfl (hX1.f4 _ (by decide)) (z_iload3 dX4_be_33 (z_aald dX4_be_34 rfl (by decide) rfl ⟨rfl, k120, Nat.le_of_ble_eq_true rfl⟩ e16 (z_aload1 dX4_be_35 (z_getP fl_X4_11 dX4_be_36 rfl rfl (hX1.f4 _ (by decide)) (z_iload3 dX4_be_39 (z_aald dX4_be_40 rfl (by decide) rfl ⟨rfl, k120, Nat.le_of_ble_eq_true rfl⟩ (hX1.mo hk) (z_invV1 (md_X15_be _) cv_X4_18 rfl dX4_be_41 rfl (Nat.le_of_ble_eq_true rfl) (Rm.gn (by decide) (leB rfl) (show k + 1 + 0 ≤ 120 by omega) (show 8 * k + 8 + 0 ≤ 960 by omega)) (X_mvBe (hR.j hF1) (h6 k) (z_iinc3 dX4_be_44 (inc1 k) (z_goto 2 dX4_be_47 (by decide) ?_)))))))))))
        have := ih (mvB μ1 k σ) (hX1.of rfl) ((((((((hF1.wI (Or.inl rfl)).wI (Or.inl rfl)).wI (Or.inl rfl)).wI (Or.inl rfl)).wI (Or.inl rfl)).wI (Or.inl rfl)).wI (Or.inl rfl)).wI (Or.inl rfl)) hk1 (fun j hj c hc => ?_)
        · exact this
        · by_cases q : j = k
          · rw [q]; exact mvB_at hc
          · rw [mvB_ne (fun z => q z.2)]; exact hv1 j (by omega) c hc
      by_cases hkc2 : k < gC μ' 35
      · have e16 : gP μ' 16 1 k = some (35, k) := hX'.2.2.2.2.2.2.2.2.2.2.2.1 k hkc2
        refine z_iload3 dX4_be_2 (z_iload2 dX4_be_3 (z_icmp_ge 50 dX4_be_4 (by decide) (fun c => absurd c ((by rw [hx]; exact nI_ge hk (by omega)))) (fun _ => z_aload0 dX4_be_7 (z_getP fl_X4_11 dX4_be_8 rfl rfl (hX'.f4 _ (by decide)) (z_iload3 dX4_be_11 (z_aald dX4_be_12 rfl (by decide) rfl ⟨rfl, k120, Nat.le_of_ble_eq_true rfl⟩ e16 (z_ifnonnull 29 dX4_be_13 (by decide) (fun _ _ => ?_) (fun c => by cases c))))))))
        exact z_widen (Nat.le_succ _) (Nat.le_add_right _ _) (body μ' hX' hF hkc2 hv)
      · have e16 : gP μ' 16 1 k = none := hX'.2.2.2.2.2.2.2.2.2.2.2.2 k (by omega)
        have c35 : gC μ' 35 = k := by omega
        refine z_iload3 dX4_be_2 (z_iload2 dX4_be_3 (z_icmp_ge 50 dX4_be_4 (by decide) (fun c => absurd c ((by rw [hx]; exact nI_ge hk (by omega)))) (fun _ => z_aload0 dX4_be_7 (z_getP fl_X4_11 dX4_be_8 rfl rfl (hX'.f4 _ (by decide)) (z_iload3 dX4_be_11 (z_aald dX4_be_12 rfl (by decide) rfl ⟨rfl, k120, Nat.le_of_ble_eq_true rfl⟩ e16 (z_ifnonnull 29 dX4_be_13 (by decide) (fun _ c => by cases c) (fun _ => ?_))))))))
        refine z_aload0 dX4_be_16 (z_getP fl_X4_11 dX4_be_17 rfl rfl (hX'.f4 _ (by decide)) (z_iload3 dX4_be_20 (z_new 35 nw_X4_9 dX4_be_21 rfl (by decide) rfl (show k + 1 ≤ 120 by omega) (show 8 * k + 8 ≤ 960 by omega) (z_dupa dX4_be_24 (z_invI0 (md_X15_init _) ci_X4_17 dX4_be_25 rfl (Nat.le_of_ble_eq_true rfl) (Rm.gn (by decide) (leB rfl) (show k + 1 + 0 ≤ 120 by omega) (show 8 * k + 8 + 0 ≤ 960 by omega)) (X_mvInit (w := 1) (by decide) (z_aast dX4_be_28 rfl (by decide) rfl rfl rfl ⟨rfl, k120, Nat.le_of_ble_eq_true rfl⟩ ?_)))))))
        rw [c35]
        have hC : ∀ p, gC (sP (sI (sI (sI (sI (nw μ' 35 0) 35 k 2 (-1)) 35 k 3 (-1)) 35 k 4 (-1)) 35 k 5 (-1)) 16 1 k (some (35, k))) p = if p = 35 then k + 1 else gC μ' p := fun p => by
          show gC (nw μ' 35 0) p = _
          rw [gC_nw, c35]
        have hPp : ∀ p i q, gP (sP (sI (sI (sI (sI (nw μ' 35 0) 35 k 2 (-1)) 35 k 3 (-1)) 35 k 4 (-1)) 35 k 5 (-1)) 16 1 k (some (35, k))) p i q = if p = 16 ∧ i = 1 ∧ q = k then some (35, k) else if p = 35 ∧ i = k then none else gP μ' p i q := fun p i q => by
          rw [gP_sP]
          show (if p = 16 ∧ i = 1 ∧ q = k then _ else gP (nw μ' 35 0) p i q) = _
          rw [gP_nw, c35]
        have hX1 : XP np na nl nb ng (sP (sI (sI (sI (sI (nw μ' 35 0) 35 k 2 (-1)) 35 k 3 (-1)) 35 k 4 (-1)) 35 k 5 (-1)) 16 1 k (some (35, k))) := by
          refine hX'.tr (fun p i q _ h1 h2 => ?_) (fun p _ h1 h2 => ?_) ⟨?_, fun q hq => ?_, fun q hq => ?_⟩ (fun q => ?_)
          · rw [hPp, if_neg (by omega), if_neg (by omega)]
          · rw [hC, if_neg h1]
          · rw [hC, if_pos rfl]; omega
          · rw [hC, if_pos rfl] at hq
            rw [hPp]
            by_cases e : q = k
            · rw [if_pos ⟨rfl, rfl, e⟩, e]
            · rw [if_neg (by omega), if_neg (by omega)]
              exact hX'.2.2.2.2.2.2.2.2.2.2.2.1 q (by omega)
          · rw [hC, if_pos rfl] at hq
            rw [hPp, if_neg (by omega), if_neg (by omega)]
            exact hX'.2.2.2.2.2.2.2.2.2.2.2.2 q (by omega)
          · rw [hPp, if_neg (by omega), if_neg (by omega)]
        refine body _ hX1 ?_ (by rw [hC, if_pos rfl]; omega) (fun j hj c hc => ?_)
        · exact (((((hF.wN (Or.inl rfl) (fun _ => Or.inl rfl) (fun _ => rfl)).wI (Or.inl rfl)).wI (Or.inl rfl)).wI (Or.inl rfl)).wI (Or.inl rfl)).wP (Or.inr rfl)
        · rw [gI_sP]
          simp only [gI_sI]
          rw [if_neg (by omega), if_neg (by omega), if_neg (by omega), if_neg (by omega), gI_nw, if_neg (by omega)]
          exact hv j hj c hc
  refine z_iconst (v := 0) dX4_be_0 (by decide) (z_istore3 dX4_be_1 ?_)
  exact lp 0 (Nat.zero_le _) μ hX FX.rf (Nat.zero_le _) (fun j hj => absurd hj (Nat.not_lt_zero _))
end O9
