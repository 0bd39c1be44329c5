/-! the Reader: one of the words (printed by gen/one.py) -/
/-- what reading changes when it fails, too -/
def S3 : Nat → Nat → Nat → Prop := fun p i k => (p = 2 ∧ i = 0 ∧ k = 9) ∨ (p = 3 ∧ i = 0 ∧ k = 6)
theorem Dif.s3 {μ μ' : Mem} (h : Dif S29 μ μ') : Dif S3 μ μ' := h.mono fun _ _ _ q => Or.inl q
theorem fstW_at {T : Nat → Int32} {b p : Nat} : ∀ (ws : List (List Int32)) (k : Nat), k < ws.length → (∀ j, j < k → isW T b p (ws.getD j []) = false) → isW T b p (ws.getD k []) = true → fstW T b p ws = k
  | [], k, hk, _, _ => absurd hk (Nat.not_lt_zero _)
  | w :: t, 0, _, _, h => by rw [fstW, if_pos (show isW T b p w = true from h)]
  | w :: t, k + 1, hk, h1, h => by
    have h0 : isW T b p w = false := h1 0 (by omega)
    rw [fstW, if_neg (by rw [h0]; decide), fstW_at t k (by simpa using hk) (fun j hj => h1 (j + 1) (by omega)) h]
theorem fstW_nx {T : Nat → Int32} {b p : Nat} : ∀ (ws : List (List Int32)), (∀ j, j < ws.length → isW T b p (ws.getD j []) = false) → fstW T b p ws = ws.length
  | [], _ => rfl
  | w :: t, h => by
    have h0 : isW T b p w = false := h 0 (by simp)
    rw [fstW, if_neg (by rw [h0]; decide), fstW_nx t (fun j hj => h (j + 1) (by simpa using hj))]
    rfl
section R3
variable {μ μ' : Mem} {Q : Res → Mem → Prop} {T : Nat → Int32} {e a b : Nat}
theorem X_one6 {ws : List (List Int32)} (hw : ∀ k, k < 6 → strB[0 + k]? = some (ws.getD k [])) (hn : ws.length = 6) (hr : RX T e a μ) (h1 : ∀ j μ', j < 6 → fstW T (skB T e a) (wdE T e (skB T e a)) ws = j → RX T e (wdE T e (skB T e a)) μ' → Dif S29 μ μ' → Q (rI (nI j)) μ') (h2 : ∀ μ', fstW T (skB T e a) (wdE T e (skB T e a)) ws = 6 → Dif S3 μ μ' → gI μ' 3 0 6 = nI (skB T e a) → Q (rX 3 0) μ') : Ct RX2 cX2_one (3, some .int, [], false, rmm 6 0 0) [vr 2 0, vr 6 0] μ Q := by
  refine Ct.of (ls := [some (vr 2 0), some (vr 6 0), none]) rfl fun Γ C ad => ?_
  have lp : ∀ k, k ≤ 6 → ∀ a' μ', RX T e a' μ' → skB T e a' = skB T e a → (0 < k → a' = skB T e a) → (∀ j, j < k → isW T (skB T e a) (wdE T e (skB T e a)) (ws.getD j []) = false) → Dif S29 μ μ' → Z RX2 cX2_one (3, some .int, [], false, rmm 6 0 0) (Γ, C, μ, ad, Q) (0) (0) (μ') 2 [some (vr 2 0), some (vr 6 0), some (vi (nI k))] [] := by
    refine loopN (P := fun k => ∀ a' μ', RX T e a' μ' → skB T e a' = skB T e a → (0 < k → a' = skB T e a) → (∀ j, j < k → isW T (skB T e a) (wdE T e (skB T e a)) (ws.getD j []) = false) → Dif S29 μ μ' → Z RX2 cX2_one (3, some .int, [], false, rmm 6 0 0) (Γ, C, μ, ad, Q) (0) (0) (μ') 2 [some (vr 2 0), some (vr 6 0), some (vi (nI k))] []) 6 ?_ ?_
    · intro a' μ' hr' es hk hf hD
      have hX := hr'.1
      have h9 := hr'.2.2.1
      rw [hk (by decide)] at h9
      have hno : fstW T (skB T e a) (wdE T e (skB T e a)) ws = 6 := by rw [← hn]; exact fstW_nx ws fun j hj => hf j (by omega)
      refine z_iload2 dX2_one_2 (z_aload1 dX2_one_3 (z_alen dX2_one_4 rfl (by decide) (z_icmp_ge 26 dX2_one_5 (by decide) (fun _ => z_aload0 dX2_one_26 (z_aload0 dX2_one_27 (z_getIv fl_X2_93 dX2_one_28 rfl rfl (h9) (z_invV1 (md_X2_fail _) cv_X2_114 rfl dX2_one_31 rfl (Nat.le_of_ble_eq_true rfl) (Rm.ofB rfl) (X_fail hX ?_))))) (fun c => absurd (Int32.le_refl _) c))))
      exact ⟨rfl, h2 _ hno (hD.s3.tr (Dif.sI (Or.inr ⟨rfl, rfl, rfl⟩))) (by rw [gI_sI, if_pos ⟨rfl, rfl, rfl⟩])⟩
    · intro k hk ih a' μ' hr' es hk0 hf hD
      have hX := hr'.1
      have e6 : gP μ' 6 0 k = some (0, 0 + k) := by have := hX.2.1 k hk; first | exact this | (rw [Nat.zero_add]; exact this)
      have nge : ¬ nI 6 ≤ nI k := nI_ge hk (by decide)
      refine z_iload2 dX2_one_2 (z_aload1 dX2_one_3 (z_alen dX2_one_4 rfl (by decide) (z_icmp_ge 26 dX2_one_5 (by decide) (fun c => absurd c (nge)) (fun _ => z_aload0 dX2_one_8 (z_aload1 dX2_one_9 (z_iload2 dX2_one_10 (z_aald dX2_one_11 rfl (by decide) rfl ⟨rfl, hk, Nat.le_of_ble_eq_true rfl⟩ e6 (z_invV1 (md_X2_takes _) cv_X2_110 rfl dX2_one_12 rfl (Nat.le_of_ble_eq_true rfl) (Rm.ofB rfl) (X_takes (hw k hk) hr' (fun μ2 hr2 hD2 => ?_))))))))))
      rw [es] at hr2
      rw [es]
      cases hq : isW T (skB T e a) (wdE T e (skB T e a)) (ws.getD k []) with
      | true =>
        rw [hq, if_pos rfl] at hr2
        refine z_if_eq 20 dX2_one_15 (by decide) (fun c => absurd c (n10)) (fun _ => z_iload2 dX2_one_18 (z_ireturn dX2_one_19 rfl (Nat.le_of_ble_eq_true rfl) (Nat.le_of_ble_eq_true rfl) ?_))
        exact h1 k _ hk (fstW_at ws k (by omega) hf hq) hr2 (hD.tr hD2)
      | false =>
        rw [hq, if_neg (by decide)] at hr2
        refine z_if_eq 20 dX2_one_15 (by decide) (fun _ => z_iinc2 dX2_one_20 (inc1 k) (z_goto 2 dX2_one_23 (by decide) ?_)) (fun c => absurd (rfl) c)
        refine ih (skB T e a) _ hr2 (skE_id a) (fun _ => rfl) (fun j hj => ?_) (hD.tr hD2)
        by_cases z : j = k
        · rw [z]; exact hq
        · exact hf j (by omega)
  refine z_iconst (v := 0) dX2_one_0 (by decide) (z_istore2 dX2_one_1 ?_)
  exact lp 0 (Nat.zero_le _) a μ hr rfl (fun z => absurd z (Nat.lt_irrefl _)) (fun j hj => absurd hj (Nat.not_lt_zero _)) Dif.rf
theorem X_one7 {ws : List (List Int32)} (hw : ∀ k, k < 8 → strB[6 + k]? = some (ws.getD k [])) (hn : ws.length = 8) (hr : RX T e a μ) (h1 : ∀ j μ', j < 8 → fstW T (skB T e a) (wdE T e (skB T e a)) ws = j → RX T e (wdE T e (skB T e a)) μ' → Dif S29 μ μ' → Q (rI (nI j)) μ') (h2 : ∀ μ', fstW T (skB T e a) (wdE T e (skB T e a)) ws = 8 → Dif S3 μ μ' → gI μ' 3 0 6 = nI (skB T e a) → Q (rX 3 0) μ') : Ct RX2 cX2_one (3, some .int, [], false, rmm 6 0 0) [vr 2 0, vr 7 0] μ Q := by
  refine Ct.of (ls := [some (vr 2 0), some (vr 7 0), none]) rfl fun Γ C ad => ?_
  have lp : ∀ k, k ≤ 8 → ∀ a' μ', RX T e a' μ' → skB T e a' = skB T e a → (0 < k → a' = skB T e a) → (∀ j, j < k → isW T (skB T e a) (wdE T e (skB T e a)) (ws.getD j []) = false) → Dif S29 μ μ' → Z RX2 cX2_one (3, some .int, [], false, rmm 6 0 0) (Γ, C, μ, ad, Q) (0) (0) (μ') 2 [some (vr 2 0), some (vr 7 0), some (vi (nI k))] [] := by
    refine loopN (P := fun k => ∀ a' μ', RX T e a' μ' → skB T e a' = skB T e a → (0 < k → a' = skB T e a) → (∀ j, j < k → isW T (skB T e a) (wdE T e (skB T e a)) (ws.getD j []) = false) → Dif S29 μ μ' → Z RX2 cX2_one (3, some .int, [], false, rmm 6 0 0) (Γ, C, μ, ad, Q) (0) (0) (μ') 2 [some (vr 2 0), some (vr 7 0), some (vi (nI k))] []) 8 ?_ ?_
    · intro a' μ' hr' es hk hf hD
      have hX := hr'.1
      have h9 := hr'.2.2.1
      rw [hk (by decide)] at h9
      have hno : fstW T (skB T e a) (wdE T e (skB T e a)) ws = 8 := by rw [← hn]; exact fstW_nx ws fun j hj => hf j (by omega)
      refine z_iload2 dX2_one_2 (z_aload1 dX2_one_3 (z_alen dX2_one_4 rfl (by decide) (z_icmp_ge 26 dX2_one_5 (by decide) (fun _ => z_aload0 dX2_one_26 (z_aload0 dX2_one_27 (z_getIv fl_X2_93 dX2_one_28 rfl rfl (h9) (z_invV1 (md_X2_fail _) cv_X2_114 rfl dX2_one_31 rfl (Nat.le_of_ble_eq_true rfl) (Rm.ofB rfl) (X_fail hX ?_))))) (fun c => absurd (Int32.le_refl _) c))))
      exact ⟨rfl, h2 _ hno (hD.s3.tr (Dif.sI (Or.inr ⟨rfl, rfl, rfl⟩))) (by rw [gI_sI, if_pos ⟨rfl, rfl, rfl⟩])⟩
    · intro k hk ih a' μ' hr' es hk0 hf hD
      have hX := hr'.1
      have e6 : gP μ' 7 0 k = some (0, 6 + k) := by have := hX.2.2.1 k hk; first | exact this | (rw [Nat.zero_add]; exact this)
      have nge : ¬ nI 8 ≤ nI k := nI_ge hk (by decide)
      refine z_iload2 dX2_one_2 (z_aload1 dX2_one_3 (z_alen dX2_one_4 rfl (by decide) (z_icmp_ge 26 dX2_one_5 (by decide) (fun c => absurd c (nge)) (fun _ => z_aload0 dX2_one_8 (z_aload1 dX2_one_9 (z_iload2 dX2_one_10 (z_aald dX2_one_11 rfl (by decide) rfl ⟨rfl, hk, Nat.le_of_ble_eq_true rfl⟩ e6 (z_invV1 (md_X2_takes _) cv_X2_110 rfl dX2_one_12 rfl (Nat.le_of_ble_eq_true rfl) (Rm.ofB rfl) (X_takes (hw k hk) hr' (fun μ2 hr2 hD2 => ?_))))))))))
      rw [es] at hr2
      rw [es]
      cases hq : isW T (skB T e a) (wdE T e (skB T e a)) (ws.getD k []) with
      | true =>
        rw [hq, if_pos rfl] at hr2
        refine z_if_eq 20 dX2_one_15 (by decide) (fun c => absurd c (n10)) (fun _ => z_iload2 dX2_one_18 (z_ireturn dX2_one_19 rfl (Nat.le_of_ble_eq_true rfl) (Nat.le_of_ble_eq_true rfl) ?_))
        exact h1 k _ hk (fstW_at ws k (by omega) hf hq) hr2 (hD.tr hD2)
      | false =>
        rw [hq, if_neg (by decide)] at hr2
        refine z_if_eq 20 dX2_one_15 (by decide) (fun _ => z_iinc2 dX2_one_20 (inc1 k) (z_goto 2 dX2_one_23 (by decide) ?_)) (fun c => absurd (rfl) c)
        refine ih (skB T e a) _ hr2 (skE_id a) (fun _ => rfl) (fun j hj => ?_) (hD.tr hD2)
        by_cases z : j = k
        · rw [z]; exact hq
        · exact hf j (by omega)
  refine z_iconst (v := 0) dX2_one_0 (by decide) (z_istore2 dX2_one_1 ?_)
  exact lp 0 (Nat.zero_le _) a μ hr rfl (fun z => absurd z (Nat.lt_irrefl _)) (fun j hj => absurd hj (Nat.not_lt_zero _)) Dif.rf
theorem X_one8 {ws : List (List Int32)} (hw : ∀ k, k < 9 → strB[14 + k]? = some (ws.getD k [])) (hn : ws.length = 9) (hr : RX T e a μ) (h1 : ∀ j μ', j < 9 → fstW T (skB T e a) (wdE T e (skB T e a)) ws = j → RX T e (wdE T e (skB T e a)) μ' → Dif S29 μ μ' → Q (rI (nI j)) μ') (h2 : ∀ μ', fstW T (skB T e a) (wdE T e (skB T e a)) ws = 9 → Dif S3 μ μ' → gI μ' 3 0 6 = nI (skB T e a) → Q (rX 3 0) μ') : Ct RX2 cX2_one (3, some .int, [], false, rmm 6 0 0) [vr 2 0, vr 8 0] μ Q := by
  refine Ct.of (ls := [some (vr 2 0), some (vr 8 0), none]) rfl fun Γ C ad => ?_
  have lp : ∀ k, k ≤ 9 → ∀ a' μ', RX T e a' μ' → skB T e a' = skB T e a → (0 < k → a' = skB T e a) → (∀ j, j < k → isW T (skB T e a) (wdE T e (skB T e a)) (ws.getD j []) = false) → Dif S29 μ μ' → Z RX2 cX2_one (3, some .int, [], false, rmm 6 0 0) (Γ, C, μ, ad, Q) (0) (0) (μ') 2 [some (vr 2 0), some (vr 8 0), some (vi (nI k))] [] := by
    refine loopN (P := fun k => ∀ a' μ', RX T e a' μ' → skB T e a' = skB T e a → (0 < k → a' = skB T e a) → (∀ j, j < k → isW T (skB T e a) (wdE T e (skB T e a)) (ws.getD j []) = false) → Dif S29 μ μ' → Z RX2 cX2_one (3, some .int, [], false, rmm 6 0 0) (Γ, C, μ, ad, Q) (0) (0) (μ') 2 [some (vr 2 0), some (vr 8 0), some (vi (nI k))] []) 9 ?_ ?_
    · intro a' μ' hr' es hk hf hD
      have hX := hr'.1
      have h9 := hr'.2.2.1
      rw [hk (by decide)] at h9
      have hno : fstW T (skB T e a) (wdE T e (skB T e a)) ws = 9 := by rw [← hn]; exact fstW_nx ws fun j hj => hf j (by omega)
      refine z_iload2 dX2_one_2 (z_aload1 dX2_one_3 (z_alen dX2_one_4 rfl (by decide) (z_icmp_ge 26 dX2_one_5 (by decide) (fun _ => z_aload0 dX2_one_26 (z_aload0 dX2_one_27 (z_getIv fl_X2_93 dX2_one_28 rfl rfl (h9) (z_invV1 (md_X2_fail _) cv_X2_114 rfl dX2_one_31 rfl (Nat.le_of_ble_eq_true rfl) (Rm.ofB rfl) (X_fail hX ?_))))) (fun c => absurd (Int32.le_refl _) c))))
      exact ⟨rfl, h2 _ hno (hD.s3.tr (Dif.sI (Or.inr ⟨rfl, rfl, rfl⟩))) (by rw [gI_sI, if_pos ⟨rfl, rfl, rfl⟩])⟩
    · intro k hk ih a' μ' hr' es hk0 hf hD
      have hX := hr'.1
      have e6 : gP μ' 8 0 k = some (0, 14 + k) := by have := hX.2.2.2 k hk; first | exact this | (rw [Nat.zero_add]; exact this)
      have nge : ¬ nI 9 ≤ nI k := nI_ge hk (by decide)
      refine z_iload2 dX2_one_2 (z_aload1 dX2_one_3 (z_alen dX2_one_4 rfl (by decide) (z_icmp_ge 26 dX2_one_5 (by decide) (fun c => absurd c (nge)) (fun _ => z_aload0 dX2_one_8 (z_aload1 dX2_one_9 (z_iload2 dX2_one_10 (z_aald dX2_one_11 rfl (by decide) rfl ⟨rfl, hk, Nat.le_of_ble_eq_true rfl⟩ e6 (z_invV1 (md_X2_takes _) cv_X2_110 rfl dX2_one_12 rfl (Nat.le_of_ble_eq_true rfl) (Rm.ofB rfl) (X_takes (hw k hk) hr' (fun μ2 hr2 hD2 => ?_))))))))))
      rw [es] at hr2
      rw [es]
      cases hq : isW T (skB T e a) (wdE T e (skB T e a)) (ws.getD k []) with
      | true =>
        rw [hq, if_pos rfl] at hr2
        refine z_if_eq 20 dX2_one_15 (by decide) (fun c => absurd c (n10)) (fun _ => z_iload2 dX2_one_18 (z_ireturn dX2_one_19 rfl (Nat.le_of_ble_eq_true rfl) (Nat.le_of_ble_eq_true rfl) ?_))
        exact h1 k _ hk (fstW_at ws k (by omega) hf hq) hr2 (hD.tr hD2)
      | false =>
        rw [hq, if_neg (by decide)] at hr2
        refine z_if_eq 20 dX2_one_15 (by decide) (fun _ => z_iinc2 dX2_one_20 (inc1 k) (z_goto 2 dX2_one_23 (by decide) ?_)) (fun c => absurd (rfl) c)
        refine ih (skB T e a) _ hr2 (skE_id a) (fun _ => rfl) (fun j hj => ?_) (hD.tr hD2)
        by_cases z : j = k
        · rw [z]; exact hq
        · exact hf j (by omega)
  refine z_iconst (v := 0) dX2_one_0 (by decide) (z_istore2 dX2_one_1 ?_)
  exact lp 0 (Nat.zero_le _) a μ hr rfl (fun z => absurd z (Nat.lt_irrefl _)) (fun j hj => absurd hj (Nat.not_lt_zero _)) Dif.rf
end R3
