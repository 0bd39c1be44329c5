/-! the Office: a booklet is printed -/
section X5
variable {np na nl nb ng w : Nat} {μ μ' : Mem} {σ : Sg} {Q : Res → Mem → Prop} {m : Bool}
theorem RepX.cgs {σ' : Sg} (h : RepX w σ μ) (e : ∀ c i, sX c i → σ' c i = σ c i) : RepX w σ' μ := fun c i hs => by rw [e c i hs]; exact h c i hs
/-- a new cell: the table with its places zero -/
def zap (w p j : Nat) (σ : Sg) : Sg := fun c i => if (xl w c i).1 = p ∧ (xl w c i).2.1 = j then 0 else σ c i
theorem eX_0 (c : Nat) : eX c 0 = 0 := by
  unfold eX
  split
  · rfl
  · rfl
theorem RepX.wN (h : RepX w σ μ) (p n : Nat) : RepX w (zap w p (gC μ p) σ) (nw μ p n) := by
  intro c i hs
  unfold gX zap
  rw [gI_nw]
  split
  · rw [eX_0]
  · exact h c i hs
theorem X_bkInit {j : Nat} {a b c d : Int32} (h : Q rV (sI (sI (sI (sI μ 37 j 0 a) 37 j 1 b) 37 j 3 c) 37 j 2 d)) : Ct RX17 cX17_init (5, none, [], true, rmm 1 0 0) [vr 37 j, vi a, vi b, vi c, vi d] μ Q := by
  refine Ct.of (ls := [some (vr 37 j), some (vi a), some (vi b), some (vi c), some (vi d)]) rfl fun Γ C ad => ?_
  refine z_aload0 dX17_init_0 (z_objInit co_X17_1 dX17_init_1 (by decide) (by decide) (z_aload0 dX17_init_4 (z_iload1 dX17_init_5 (z_putFI ff_X17_7 rfl dX17_init_6 rfl rfl ⟨rfl, rfl⟩ (z_aload0 dX17_init_9 (z_iload2 dX17_init_10 (z_putFI ff_X17_13 rfl dX17_init_11 rfl rfl ⟨rfl, rfl⟩ (z_aload0 dX17_init_14 (z_iload3 dX17_init_15 (z_putI fl_X17_16 dX17_init_16 rfl rfl ⟨rfl, rfl⟩ (z_aload0 dX17_init_19 (z_iload4 dX17_init_20 (z_putFI ff_X17_19 rfl dX17_init_22 rfl rfl ⟨rfl, rfl⟩ (z_return dX17_init_25 rfl (Nat.le_of_ble_eq_true rfl) (Nat.le_of_ble_eq_true rfl) ?_))))))))))))))
  exact h
theorem book_ne {a c i : Nat} (hc : c < 8 ∨ 11 < c) : bookF m σ a c i = σ c i := by
  unfold bookF
  split
  · simp only [up2_eq]
    rw [if_neg (by omega), if_neg (by omega), if_neg (by omega), if_neg (by omega)]
    split
    · rfl
    · exact endS_ne _ c i (by omega)
  · rfl
theorem endS_71 {a : Nat} {v : Int32} : ∀ k c i, endS (up2 σ 7 1 v) a k c i = up2 (endS σ a k) 7 1 v c i
  | 0, c, i => rfl
  | k + 1, c, i => by
    have ih := fun c i => endS_71 (a := a) (v := v) k c i
    have e : validB (endS (up2 σ 7 1 v) a k) (up2 σ 7 1 v 12 a) (up2 σ 7 1 v 7 0) k = validB (endS σ a k) (σ 12 a) (σ 7 0) k := by
      unfold validB
      rw [ih, ih, ih]
      rfl
    rw [endS, endS, e]
    have e0 : up2 σ 7 1 v 7 0 = σ 7 0 := rfl
    split
    · simp only [up2_eq, ih]
      grind
    · exact ih c i
theorem gets_cg {a : Nat} {τ τ' : Sg} (h : ∀ c i, ¬ (c = 0 ∧ i = a) → τ' c i = τ c i) : ∀ c i, getsF m τ' a c i = getsF m τ a c i := by
  intro c i
  unfold getsF
  rw [h 22 a (by simp), h 7 0 (by simp), h 15 a (by simp), h 7 5 (by simp), h 18 a (by simp)]
  split
  · simp only [up2_eq]
    grind
  · simp only [up2_eq]
    grind
theorem xl_37 {c i : Nat} (e : (xl 0 c i).1 = 37) : (c = 8 ∨ c = 9 ∨ c = 10 ∨ c = 11) ∧ (xl 0 c i).2.1 = i := by
  unfold xl at e ⊢
  by_cases h7 : c = 7
  · rw [if_pos h7] at e
    split at e
    · exact absurd e (by decide)
    · exact absurd e (by show ¬ (4 : Nat) = 37; decide)
  · rw [if_neg h7] at e ⊢
    by_cases h34 : c = 34
    · rw [if_pos h34] at e
      split at e
      · exact absurd e (by decide)
      · exact absurd e (by show ¬ (1 : Nat) = 37; decide)
    · rw [if_neg h34] at e ⊢
      by_cases h26 : c = 26
      · rw [if_pos h26] at e; exact absurd e (by show ¬ (24 : Nat) = 37; decide)
      · rw [if_neg h26] at e ⊢
        by_cases h27 : c = 27
        · rw [if_pos h27] at e; exact absurd e (by show ¬ (14 : Nat) = 37; decide)
        · rw [if_neg h27] at e ⊢
          by_cases h33 : c = 33
          · rw [if_pos h33] at e; exact absurd e (by show ¬ (19 : Nat) = 37; decide)
          · rw [if_neg h33] at e ⊢
            by_cases h35 : c = 35
            · rw [if_pos h35] at e; exact absurd e (by show ¬ (5 : Nat) = 37; decide)
            · rw [if_neg h35] at e ⊢
              by_cases hm : c < 7 ∨ c = 23
              · rw [if_pos hm] at e; exact absurd e (by show ¬ (34 : Nat) = 37; decide)
              · rw [if_neg hm] at e ⊢
                refine ⟨?_, rfl⟩
                have hq : ∀ c, c < 40 → xpL.getD c 0 = 37 → c = 8 ∨ c = 9 ∨ c = 10 ∨ c = 11 := by decide
                by_cases hc : c < 40
                · exact hq c hc e
                · have e2 : xpL.getD c 0 = 37 := e
                  have hl : xpL.length ≤ c := by have : xpL.length = 40 := rfl; omega
                  rw [List.getD_eq_getElem?_getD, List.getElem?_eq_none hl] at e2
                  exact absurd e2 (by decide)
theorem zap_37 {β : Sg} {b c i : Nat} : zap 0 37 b β c i = if (c = 8 ∨ c = 9 ∨ c = 10 ∨ c = 11) ∧ i = b then 0 else β c i := by
  unfold zap
  by_cases h : (c = 8 ∨ c = 9 ∨ c = 10 ∨ c = 11) ∧ i = b
  · rw [if_pos h, if_pos]
    rcases h with ⟨rfl | rfl | rfl | rfl, rfl⟩ <;> exact ⟨rfl, rfl⟩
  · rw [if_neg h, if_neg]
    rintro ⟨q1, q2⟩
    have := xl_37 q1
    exact h ⟨this.1, this.2 ▸ q2⟩
theorem X_print {a p : Nat} {x : Int32} (hX : XP np na nl nb ng μ) (hv : XMv w na μ) (hR : RepX w σ μ) (hw : w < 2) (hm : m = decide (w = 0)) (hx : x = nI a) (ha : a < na) (hn : na ≤ 120) (hB : SB σ na) (hT : TB σ) (hp : σ 12 a = nI p) (hp2 : p < np) (hnp : np ≤ 80) {b : Nat} (hb : σ 7 4 = nI b) (hb2 : b < 150) (hb0 : w = 0 → b = nb) (h : ∀ μ', RepX w (prinF m σ a) μ' → XP np na nl (if w = 0 then nb + 1 else nb) ng μ' → XMv w na μ' → FX (SY w) (TY w) μ μ' → Q rV μ') : Ct RX1 cX1_print (6, none, [], false, rmm 2 1 4) [vr 1 0, vr 4 w, vi x] μ Q := by
  refine Ct.of (ls := [some (vr 1 0), some (vr 4 w), some (vi x), none, none, none]) rfl fun Γ C ad => ?_
  have ha2 : a < 120 := by omega
  have tail : ∀ (β : Sg) (μ2 : Mem) (nb2 : Nat) (o : Option AV), nb2 = (if w = 0 then nb + 1 else nb) → RepX w β μ2 → XP np na nl nb2 ng μ2 → XMv w na μ2 → FX (SY w) (TY w) μ μ2 → (∀ c i, β c i = if c = 7 ∧ i = 1 then σ 7 1 - 1 else bookF m σ a c i) → Z RX1 cX1_print (6, none, [], false, rmm 2 1 4) (Γ, C, μ, ad, Q) 1 4 μ2 148 [some (vr 1 0), some (vr 4 w), some (vi x), some (vr 33 a), some (vr (34 + w) a), o] [] := by
    intro β μ2 nb2 o e2 hR2 hX2 hv2 hF2 hβ
    have v74 : β 7 4 = σ 7 4 := by rw [hβ, if_neg (by simp), book_ne (by omega)]
    have v70 : β 7 0 = σ 7 0 := by rw [hβ, if_neg (by simp), book_ne (by omega)]
    have hT2 : ∀ c i, 11 < c → β c i = σ c i := fun c i hc => by rw [hβ, if_neg (by omega), book_ne (Or.inr hc)]
    have R3 : RepX w (up2 β 1 a (β 7 4)) (sI μ2 (34 + w) a 2 (β 7 4)) := hR2.set hw 1 a _ (sX_col (by decide))
    have R4 : RepX w (up2 (up2 β 1 a (β 7 4)) 7 4 (β 7 4 + 1)) (sI (sI μ2 (34 + w) a 2 (β 7 4)) 4 w 5 (β 7 4 + 1)) := R3.set hw 7 4 _ (show (4 : Nat) < 6 by decide)
    have R5 : RepX w (up2 (up2 (up2 β 1 a (β 7 4)) 7 4 (β 7 4 + 1)) 0 a 6) (sI (sI (sI μ2 (34 + w) a 2 (β 7 4)) 4 w 5 (β 7 4 + 1)) (34 + w) a 0 6) := R4.set hw 0 a _ (sX_col (by decide))
    have F5 : FX (SY w) (TY w) μ (sI (sI (sI μ2 (34 + w) a 2 (β 7 4)) 4 w 5 (β 7 4 + 1)) (34 + w) a 0 6) := ((hF2.wI (Or.inl rfl)).wI (Or.inr (Or.inl ⟨rfl, rfl⟩))).wI (Or.inl rfl)
    have hp3 : β 12 a = nI p := by rw [hT2 12 a (by decide)]; exact hp
    have fin : ∀ (ps : Int32), ps = postF σ a → Z RX1 cX1_print (6, none, [], false, rmm 2 1 4) (Γ, C, μ, ad, Q) 1 4 (sI (sI (sI μ2 (34 + w) a 2 (β 7 4)) 4 w 5 (β 7 4 + 1)) (34 + w) a 0 6) 206 [some (vr 1 0), some (vr 4 w), some (vi x), some (vr 33 a), some (vr (34 + w) a), o] [vi ps, vi (β 7 0), vr (34 + w) a] := by
      intro ps eps
      have R6 : RepX w (up2 (up2 (up2 (up2 β 1 a (β 7 4)) 7 4 (β 7 4 + 1)) 0 a 6) 4 a (β 7 0 + ps)) (sI (sI (sI (sI μ2 (34 + w) a 2 (β 7 4)) 4 w 5 (β 7 4 + 1)) (34 + w) a 0 6) (34 + w) a 5 (β 7 0 + ps)) := R5.set hw 4 a _ (sX_col (by decide))
      have F6 := F5.wI (p := 34 + w) (i := a) (k := 5) (x := β 7 0 + ps) (Or.inl rfl)
      have e6 : ∀ c i, ¬ (c = 0 ∧ i = a) → up2 (up2 (up2 (up2 β 1 a (β 7 4)) 7 4 (β 7 4 + 1)) 0 a 6) 4 a (β 7 0 + ps) c i = up2 (up2 (up2 (up2 (bookF m σ a) 1 a (σ 7 4)) 7 4 (σ 7 4 + 1)) 7 1 (σ 7 1 - 1)) 4 a (σ 7 0 + postF σ a) c i := by
        intro c i hci
        rw [v74, v70, eps]
        simp only [up2_eq, hβ]
        grind
      unfold prinF at h
      dsimp only at h
      by_cases h0 : postF σ a = 0
      · rw [if_pos h0] at h
        refine z_iadd dX1_print_206 (z_putI fl_X1_305 dX1_print_207 (kdW hw) rfl ⟨rfl, rfl⟩ (z_aload4 dX1_print_210 (z_getIv fl_X1_305 dX1_print_212 (kdW hw) rfl ((R6.q 4 a (by decide)).trans (show up2 (up2 (up2 (up2 β 1 a (β 7 4)) 7 4 (β 7 4 + 1)) 0 a 6) 4 a (β 7 0 + ps) 4 a = β 7 0 + ps by rw [up2_eq, if_pos ⟨rfl, rfl⟩])) (z_aload1 dX1_print_215 (z_getIv fl_X1_140 dX1_print_216 rfl rfl (R6.wd 0 (by decide)) (z_icmp_ne 228 dX1_print_219 (by decide) (fun c => absurd ((show β 7 0 + ps = β 7 0 by rw [eps, h0]; exact Int32.add_zero _)) c) (fun _ => z_aload0 dX1_print_222 (z_aload1 dX1_print_223 (z_iload2 dX1_print_224 (z_invV2 (md_X1_gets _) cv_X1_376 rfl dX1_print_225 rfl (Nat.le_of_ble_eq_true rfl) (Rm.ofB rfl) (X_gets (m := m) (hX2.of rfl) (hv2.of rfl) R6 hw hm hx ha hn (fun c hc => by obtain ⟨q1, q2⟩ := hB c hc; rw [← hT2 15 c (by decide), ← hT2 22 c (by decide)] at *; exact ⟨q1, q2⟩) (by show 0 ≤ β 7 0 ∧ β 7 0 ≤ 2000; rw [v70]; exact hT) (fun μ6 r6 e6' f6 => ?_))))))))))))
        refine z_return dX1_print_228 rfl (Nat.le_of_ble_eq_true rfl) (Nat.le_of_ble_eq_true rfl) ?_
        refine h μ6 (r6.cg fun c i => (gets_cg e6 c i).symm) ?_ (hv2.of (e6'.trans rfl)) (F6.tr f6)
        rw [← e2]
        exact hX2.of (e6'.trans rfl)
      · rw [if_neg h0] at h
        refine z_iadd dX1_print_206 (z_putI fl_X1_305 dX1_print_207 (kdW hw) rfl ⟨rfl, rfl⟩ (z_aload4 dX1_print_210 (z_getIv fl_X1_305 dX1_print_212 (kdW hw) rfl ((R6.q 4 a (by decide)).trans (show up2 (up2 (up2 (up2 β 1 a (β 7 4)) 7 4 (β 7 4 + 1)) 0 a 6) 4 a (β 7 0 + ps) 4 a = β 7 0 + ps by rw [up2_eq, if_pos ⟨rfl, rfl⟩])) (z_aload1 dX1_print_215 (z_getIv fl_X1_140 dX1_print_216 rfl rfl (R6.wd 0 (by decide)) (z_icmp_ne 228 dX1_print_219 (by decide) (fun _ => z_return dX1_print_228 rfl (Nat.le_of_ble_eq_true rfl) (Nat.le_of_ble_eq_true rfl) ?_) (fun c => absurd c ((show ¬ β 7 0 + ps = β 7 0 from fun q => h0 (by rw [← eps]; simpa using q))))))))))
        refine h _ (R6.cg fun c i => ?_) (by rw [← e2]; exact hX2.of rfl) (hv2.of rfl) F6
        rw [up2_eq]
        by_cases hci : c = 0 ∧ i = a
        · rw [if_pos hci, hci.1, hci.2, up2_eq, if_neg (by simp), up2_eq, if_pos ⟨rfl, rfl⟩]
        · rw [if_neg hci]
          exact (e6 c i hci).symm
    have eab : gI (sI (sI (sI μ2 (34 + w) a 2 (β 7 4)) 4 w 5 (β 7 4 + 1)) (34 + w) a 0 6) 23 p 1 = σ 25 p := (R5.q 25 p (by decide)).trans (hT2 25 p (by decide))
    refine z_aload4 dX1_print_148 (z_aload1 dX1_print_150 (z_getIv fl_X1_167 dX1_print_151 rfl rfl (hR2.wd 4 (by decide)) (z_putI fl_X1_294 dX1_print_154 (kdW hw) rfl ⟨rfl, rfl⟩ (z_aload1 dX1_print_157 (z_dupa dX1_print_158 (z_getIv fl_X1_167 dX1_print_159 rfl rfl (R3.wd 4 (by decide)) (z_iconst (v := 1) dX1_print_162 (by decide) (z_iadd dX1_print_163 (z_putI fl_X1_167 dX1_print_164 rfl rfl ⟨rfl, rfl⟩ (z_aload4 dX1_print_167 (z_bipush (v := 6) dX1_print_169 (by decide) (z_putI fl_X1_236 dX1_print_171 (kdW hw) rfl ⟨rfl, rfl⟩ (z_aload4 dX1_print_174 (z_aload1 dX1_print_176 (z_getIv fl_X1_140 dX1_print_177 rfl rfl (R5.wd 0 (by decide)) (z_aload0 dX1_print_180 (z_getP fl_X1_24 dX1_print_181 rfl rfl (hX2.f1 2 (by decide)) (z_aload3 dX1_print_184 (z_getIv fl_X1_218 dX1_print_185 rfl rfl (R5.q 12 _ (by decide)) (z_aald dX1_print_188 rfl (by decide) rfl ⟨hp3, (show p < 80 by omega), Nat.le_of_ble_eq_true rfl⟩ (hX2.pe hp2) (z_getIv fl_X1_190 dX1_print_189 rfl rfl (eab) (z_if_eq 202 dX1_print_192 (by decide) (fun c_192 => ?_) (fun c_192 => ?_)))))))))))))))))))))))
    · refine z_aload0 dX1_print_202 (z_getIv fl_X1_84 dX1_print_203 rfl rfl (R5.t 7 (by decide)) ?_)
      refine fin _ ?_
      rw [postF, hp, tn_nI (by omega), if_pos c_192]
      exact hT2 34 7 (by decide)
    · refine z_aload0 dX1_print_195 (z_getIv fl_X1_87 dX1_print_196 rfl rfl (R5.t 8 (by decide)) (z_goto 206 dX1_print_199 (by decide) ?_))
      refine fin _ ?_
      rw [postF, hp, tn_nI (by omega), if_neg c_192]
      exact hT2 34 8 (by decide)
  have hR1 : RepX w (up2 σ 7 1 (σ 7 1 - 1)) (sI μ 4 w 2 (σ 7 1 - 1)) := hR.set hw 7 1 _ (show (1 : Nat) < 6 by decide)
  have F1 : FX (SY w) (TY w) μ (sI μ 4 w 2 (σ 7 1 - 1)) := FX.rf.wI (Or.inr (Or.inl ⟨rfl, rfl⟩))
  by_cases hw0 : w = 0
  · subst hw0
    have hmt : m = true := hm
    subst hmt
    have hbn := hb0 rfl
    subst hbn
    have make : ∀ (β : Sg) (μ2 : Mem) (o : Option AV), RepX 0 β μ2 → μ2.2 = μ.2 → FX (SY 0) (TY 0) μ μ2 → (∀ c i, β c i = if c = 7 ∧ i = 1 then σ 7 1 - 1 else (if σ 13 a = 3 then σ else endS σ a b) c i) → Z RX1 cX1_print (6, none, [], false, rmm 2 1 4) (Γ, C, μ, ad, Q) 0 0 μ2 107 [some (vr 1 0), some (vr 4 0), some (vi x), some (vr 33 a), some (vr (34 + 0) a), o] [] := by
      intro β μ2 o hR2 em hF2 hβ
      have hX2 : XP np na nl b ng μ2 := hX.of em
      have hC : gC μ2 37 = b := hX2.2.2.2.2.2.2.2.2.1.2
      have vn : ∀ c i, c ≠ 10 → ¬ (c = 7 ∧ i = 1) → β c i = σ c i := fun c i hc hci => by
        rw [hβ, if_neg hci]
        split
        · rfl
        · exact endS_ne _ c i hc
      have R3 := hR2.wN 37 0
      rw [hC] at R3
      have g70 : gI (nw μ2 37 0) 4 0 1 = σ 7 0 := (R3.wd 0 (by decide)).trans (vn 7 0 (by decide) (by simp))
      have g12 : gI (nw μ2 37 0) 33 a 1 = σ 12 a := (R3.q 12 a (by decide)).trans (vn 12 a (by decide) (by simp))
      have g19 : gI (nw μ2 37 0) 32 a 2 = σ 19 a := (R3.q 19 a (by decide)).trans (vn 19 a (by decide) (by simp))
      refine z_aload0 dX1_print_107 (z_getP fl_X1_51 dX1_print_108 rfl rfl (hX2.f1 7 (by decide)) (z_aload1 dX1_print_111 (z_getIv fl_X1_167 dX1_print_112 rfl rfl (hR2.wd 4 (by decide)) (z_new 37 nw_X1_49 dX1_print_115 rfl (by decide) rfl (Nat.le_of_ble_eq_true rfl) (Nat.le_of_ble_eq_true rfl) (z_dupa dX1_print_118 (z_aload3 dX1_print_119 (z_getIv fl_X1_218 dX1_print_120 rfl rfl (g12) (z_aload1 dX1_print_123 (z_getIv fl_X1_140 dX1_print_124 rfl rfl (g70) (z_aload1 dX1_print_127 (z_getIv fl_X1_140 dX1_print_128 rfl rfl (g70) (z_sipush (v := 365) dX1_print_131 (by decide) (z_aload3 dX1_print_134 (z_getP fl_X1_222 dX1_print_135 rfl rfl (hX2.ru ha) (z_getIv fl_X1_258 dX1_print_138 rfl rfl (g19) (z_imul dX1_print_141 (z_iadd dX1_print_142 (z_iload2 dX1_print_143 (z_invI4 (md_X17_init _) ci_X1_404 dX1_print_144 rfl (Nat.le_of_ble_eq_true rfl) (Rm.ofB rfl) (X_bkInit (z_aast dX1_print_147 rfl (by decide) rfl rfl rfl ⟨(vn 7 4 (by decide) (by simp)).trans hb, hb2, Nat.le_of_ble_eq_true rfl⟩ ?_)))))))))))))))))))))
      rw [hC]
      have R4 := ((((R3.set hw 8 b (σ 12 a) (sX_col (by decide))).set hw 9 b (σ 7 0) (sX_col (by decide))).set hw 10 b (σ 7 0 + 365 * σ 19 a) (sX_col (by decide))).set hw 11 b x (sX_col (by decide)))
      refine tail (up2 (up2 (up2 (up2 (zap 0 37 b β) 8 b (σ 12 a)) 9 b (σ 7 0)) 10 b (σ 7 0 + 365 * σ 19 a)) 11 b x) _ (b + 1) _ rfl R4 ?_ ?_ ?_ ?_
      · refine hX2.bk (fun p i k _ h1 h2 => ?_) (fun p _ h1 h2 => ?_) ⟨fun k hk => ?_, ?_⟩
        · rw [gP_sP, if_neg (fun q => h1 q.1)]
          show gP (nw μ2 37 0) p i k = _
          rw [gP_nw, if_neg (fun q => h2 q.1)]
        · show gC (nw μ2 37 0) p = _
          rw [gC_nw, if_neg h2]
        · rw [gP_sP]
          by_cases q : k = b
          · rw [if_pos ⟨rfl, rfl, q⟩, q]
          · rw [if_neg (fun z => q z.2.2)]
            show gP (nw μ2 37 0) 17 0 k = _
            rw [gP_nw, if_neg (fun z => absurd z.1 (by decide))]
            exact hX2.bo (by omega)
        · show gC (nw μ2 37 0) 37 = _
          rw [gC_nw, if_pos rfl, hC]
      · intro k hk
        rw [gP_sP, if_neg (fun q => absurd q.1 (by decide))]
        show gP (nw μ2 37 0) 16 0 k = _
        rw [gP_nw, if_neg (fun z => absurd z.1 (by decide))]
        exact hX2.mo hk
      · have s37 : ∀ i k, SY 0 37 i k := fun i k => Or.inr (Or.inr ⟨rfl, Or.inl rfl⟩)
        exact (((((hF2.wN ⟨rfl, Or.inl rfl⟩ (fun k => s37 _ k) (fun _ => rfl)).wI (s37 _ _)).wI (s37 _ _)).wI (s37 _ _)).wI (s37 _ _)).wP ⟨rfl, Or.inr rfl⟩
      · intro c i
        have eb : tn (σ 7 4) = b := by rw [hb, tn_nI (by omega)]
        simp only [bookF, eb, up2_eq, zap_37, hβ, hx, if_true]
        grind
    have F0 : Z RX1 cX1_print (6, none, [], false, rmm 2 1 4) (Γ, C, μ, ad, Q) (0) (0) (sI μ 4 0 2 (σ 7 1 - 1)) 36 [some (vr 1 0), some (vr 4 0), some (vi x), some (vr 33 a), some (vr (34 + 0) a), some (vi (nI 0))] [] := by
      by_cases hk3 : σ 13 a = 3
      · have mk := make (up2 σ 7 1 (σ 7 1 - 1)) _ (some (vi (nI 0))) hR1 rfl F1 (fun c i => by rw [if_pos hk3, up2_eq])
        by_cases hb00 : b = 0
        · refine z_iload5 dX1_print_36 (z_aload1 dX1_print_38 (z_getIv fl_X1_167 dX1_print_39 rfl rfl (hR1.wd 4 (by decide)) (z_icmp_ge 107 dX1_print_42 (by decide) (fun _ => ?_) (fun c => absurd ((show σ 7 4 ≤ nI 0 by rw [hb, hb00]; exact Int32.le_refl _)) c))))
          exact mk
        · refine z_iload5 dX1_print_36 (z_aload1 dX1_print_38 (z_getIv fl_X1_167 dX1_print_39 rfl rfl (hR1.wd 4 (by decide)) (z_icmp_ge 107 dX1_print_42 (by decide) (fun c => absurd c (lpf (y := σ 7 4) hb (by omega) (by omega))) (fun _ => z_aload3 dX1_print_45 (z_getIv fl_X1_308 dX1_print_46 rfl rfl (hR1.q 13 _ (by decide)) (z_iconst (v := 3) dX1_print_49 (by decide) (z_icmp_eq 107 dX1_print_50 (by decide) (fun _ => ?_) (fun c => absurd (hk3) c))))))))
          exact mk
      · have go : ∀ k, k ≤ b → ∀ μ2, RepX 0 (endS (up2 σ 7 1 (σ 7 1 - 1)) a k) μ2 → μ2.2 = μ.2 → FX (SY 0) (TY 0) μ μ2 → Z RX1 cX1_print (6, none, [], false, rmm 2 1 4) (Γ, C, μ, ad, Q) (0) (0) (μ2) 36 [some (vr 1 0), some (vr 4 0), some (vi x), some (vr 33 a), some (vr (34 + 0) a), some (vi (nI k))] [] := by
          refine loopN (P := fun k => ∀ μ2, RepX 0 (endS (up2 σ 7 1 (σ 7 1 - 1)) a k) μ2 → μ2.2 = μ.2 → FX (SY 0) (TY 0) μ μ2 → Z RX1 cX1_print (6, none, [], false, rmm 2 1 4) (Γ, C, μ, ad, Q) (0) (0) (μ2) 36 [some (vr 1 0), some (vr 4 0), some (vi x), some (vr 33 a), some (vr (34 + 0) a), some (vi (nI k))] []) b ?_ ?_
          · intro μ2 hR2 em hF2
            have hX2 : XP np na nl b ng μ2 := hX.of em
            have mk := make _ _ (some (vi (nI b))) hR2 em hF2 (fun c i => by rw [if_neg hk3, endS_71, up2_eq])
            have g74 : gI μ2 4 0 5 = σ 7 4 := (hR2.wd 4 (by decide)).trans (by rw [endS_71]; exact endS_ne _ _ _ (by decide))
            refine z_iload5 dX1_print_36 (z_aload1 dX1_print_38 (z_getIv fl_X1_167 dX1_print_39 rfl rfl (g74) (z_icmp_ge 107 dX1_print_42 (by decide) (fun _ => ?_) (fun c => absurd (lpt hb) c))))
            exact mk
          · intro k hk ih μ2 hR2 em hF2
            have hX2 : XP np na nl b ng μ2 := hX.of em
            have hk2 : k < 150 := by omega
            have ne10 : ∀ c i, c ≠ 10 → ¬ (c = 7 ∧ i = 1) → endS (up2 σ 7 1 (σ 7 1 - 1)) a k c i = σ c i := fun c i hc hci => by rw [endS_71, up2_eq, if_neg hci]; exact endS_ne _ _ _ hc
            have g74 : gI μ2 4 0 5 = σ 7 4 := (hR2.wd 4 (by decide)).trans (ne10 _ _ (by decide) (by simp))
            have g70 : gI μ2 4 0 1 = σ 7 0 := (hR2.wd 0 (by decide)).trans (ne10 _ _ (by decide) (by simp))
            have g13 : gI μ2 33 a 2 = σ 13 a := (hR2.q 13 a (by decide)).trans (ne10 _ _ (by decide) (by simp))
            have g12 : gI μ2 33 a 1 = σ 12 a := (hR2.q 12 a (by decide)).trans (ne10 _ _ (by decide) (by simp))
            rw [endS, validB] at ih
            have no : ¬ (endS (up2 σ 7 1 (σ 7 1 - 1)) a k 8 k = up2 σ 7 1 (σ 7 1 - 1) 12 a ∧ endS (up2 σ 7 1 (σ 7 1 - 1)) a k 9 k ≤ up2 σ 7 1 (σ 7 1 - 1) 7 0 ∧ up2 σ 7 1 (σ 7 1 - 1) 7 0 < endS (up2 σ 7 1 (σ 7 1 - 1)) a k 10 k) → Z RX1 cX1_print (6, none, [], false, rmm 2 1 4) (Γ, C, μ, ad, Q) (0) (0) (μ2) 101 [some (vr 1 0), some (vr 4 0), some (vi x), some (vr 33 a), some (vr (34 + 0) a), some (vi (nI k))] [] := by
              intro q
              rw [decide_eq_false q] at ih
              refine z_iinc5 dX1_print_101 (inc1 k) (z_goto 36 dX1_print_104 (by decide) ?_)
              exact ih μ2 hR2 em hF2
            refine z_iload5 dX1_print_36 (z_aload1 dX1_print_38 (z_getIv fl_X1_167 dX1_print_39 rfl rfl (g74) (z_icmp_ge 107 dX1_print_42 (by decide) (fun c => absurd c (lpf (y := σ 7 4) hb hk (by omega))) (fun _ => z_aload3 dX1_print_45 (z_getIv fl_X1_308 dX1_print_46 rfl rfl (g13) (z_iconst (v := 3) dX1_print_49 (by decide) (z_icmp_eq 107 dX1_print_50 (by decide) (fun c => absurd c (hk3)) (fun _ => z_aload0 dX1_print_53 (z_getP fl_X1_51 dX1_print_54 rfl rfl (hX2.f1 7 (by decide)) (z_iload5 dX1_print_57 (z_aald dX1_print_59 rfl (by decide) rfl ⟨rfl, hk2, Nat.le_of_ble_eq_true rfl⟩ (hX2.bo hk) (z_getIv fl_X1_169 dX1_print_60 rfl rfl (hR2.q 8 k (by decide)) (z_aload3 dX1_print_63 (z_getIv fl_X1_218 dX1_print_64 rfl rfl (g12) (z_icmp_ne 101 dX1_print_67 (by decide) (fun c_67 => ?_) (fun c_67 => ?_))))))))))))))))
            · exact no fun q => c_67 q.1
            · refine z_aload0 dX1_print_70 (z_getP fl_X1_51 dX1_print_71 rfl rfl (hX2.f1 7 (by decide)) (z_iload5 dX1_print_74 (z_aald dX1_print_76 rfl (by decide) rfl ⟨rfl, hk2, Nat.le_of_ble_eq_true rfl⟩ (hX2.bo hk) (z_aload1 dX1_print_77 (z_getIv fl_X1_140 dX1_print_78 rfl rfl (g70) (z_invV1 (md_X17_isValid _) cv_X1_172 rfl dX1_print_81 rfl (Nat.le_of_ble_eq_true rfl) (Rm.ofB rfl) (X_isValid hR2 (z_if_eq 101 dX1_print_84 (by decide) (fun c_84 => ?_) (fun c_84 => ?_)))))))))
              · exact no fun q => of_decide_eq_false (bI_0.mp c_84) q.2
              · rw [decide_eq_true ⟨c_67, of_decide_eq_true (bI_n0 c_84)⟩] at ih
                refine z_aload0 dX1_print_87 (z_getP fl_X1_51 dX1_print_88 rfl rfl (hX2.f1 7 (by decide)) (z_iload5 dX1_print_91 (z_aald dX1_print_93 rfl (by decide) rfl ⟨rfl, hk2, Nat.le_of_ble_eq_true rfl⟩ (hX2.bo hk) (z_aload1 dX1_print_94 (z_getIv fl_X1_140 dX1_print_95 rfl rfl (g70) (z_putI fl_X1_297 dX1_print_98 rfl rfl ⟨rfl, rfl⟩ (z_iinc5 dX1_print_101 (inc1 k) (z_goto 36 dX1_print_104 (by decide) ?_))))))))
                exact ih _ (hR2.set hw 10 k _ (sX_col (by decide))) em (hF2.wI (Or.inr (Or.inr ⟨rfl, Or.inl rfl⟩)))
        exact go 0 (Nat.zero_le _) _ hR1 rfl F1
    refine z_aload0 dX1_print_0 (z_getP fl_X1_35 dX1_print_1 rfl rfl (hX.f1 4 (by decide)) (z_iload2 dX1_print_4 (z_aald dX1_print_5 rfl (by decide) rfl ⟨hx, ha2, Nat.le_of_ble_eq_true rfl⟩ (hX.as ha) (z_astore3 dX1_print_6 (z_aload1 dX1_print_7 (z_getP fl_X1_232 dX1_print_8 rfl rfl (hX.f4 _ hw) (z_iload2 dX1_print_11 (z_aald dX1_print_12 rfl (by decide) rfl ⟨hx, ha2, Nat.le_of_ble_eq_true rfl⟩ (hv a ha) (z_astore4 dX1_print_13 (z_aload1 dX1_print_15 (z_dupa dX1_print_16 (z_getIv fl_X1_353 dX1_print_17 rfl rfl (hR.wd 1 (by decide)) (z_iconst (v := 1) dX1_print_20 (by decide) (z_isub dX1_print_21 (z_putI fl_X1_353 dX1_print_22 rfl rfl ⟨rfl, rfl⟩ (z_aload1 dX1_print_25 (z_aload0 dX1_print_26 (z_getP fl_X1_42 dX1_print_27 rfl rfl (hX.f1 5 (by decide)) (z_acmp_ne 148 dX1_print_30 (by decide) (Nat.succ_ne_zero _) (Nat.succ_ne_zero _) (fun c => absurd (rfl) c) (fun _ => z_iconst (v := 0) dX1_print_33 (by decide) (z_istore5 dX1_print_34 ?_)))))))))))))))))))))
    exact F0
  · have hmf : m = false := by rw [hm]; exact decide_eq_false hw0
    refine z_aload0 dX1_print_0 (z_getP fl_X1_35 dX1_print_1 rfl rfl (hX.f1 4 (by decide)) (z_iload2 dX1_print_4 (z_aald dX1_print_5 rfl (by decide) rfl ⟨hx, ha2, Nat.le_of_ble_eq_true rfl⟩ (hX.as ha) (z_astore3 dX1_print_6 (z_aload1 dX1_print_7 (z_getP fl_X1_232 dX1_print_8 rfl rfl (hX.f4 _ hw) (z_iload2 dX1_print_11 (z_aald dX1_print_12 rfl (by decide) rfl ⟨hx, ha2, Nat.le_of_ble_eq_true rfl⟩ (hv a ha) (z_astore4 dX1_print_13 (z_aload1 dX1_print_15 (z_dupa dX1_print_16 (z_getIv fl_X1_353 dX1_print_17 rfl rfl (hR.wd 1 (by decide)) (z_iconst (v := 1) dX1_print_20 (by decide) (z_isub dX1_print_21 (z_putI fl_X1_353 dX1_print_22 rfl rfl ⟨rfl, rfl⟩ (z_aload1 dX1_print_25 (z_aload0 dX1_print_26 (z_getP fl_X1_42 dX1_print_27 rfl rfl (hX.f1 5 (by decide)) (z_acmp_ne 148 dX1_print_30 (by decide) (Nat.succ_ne_zero _) (Nat.succ_ne_zero _) (fun _ => ?_) (fun c => absurd c ((fun q => hw0 (congrArg Prod.snd q)))))))))))))))))))))))
    refine z_widen (by decide) (by decide) (tail _ _ nb none (by rw [if_neg hw0]) hR1 (hX.of rfl) (hv.of rfl) F1 fun c i => ?_)
    rw [up2_eq, hmf, bookF]
    rfl
end X5
