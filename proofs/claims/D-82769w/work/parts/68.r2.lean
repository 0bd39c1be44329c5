/-! the Reader: words -/
section R2
variable {μ μ' : Mem} {Q : Res → Mem → Prop} {T : Nat → Int32} {e a b : Nat}
theorem X_takes {i : Nat} {w : List Int32} (hb : strB[i]? = some w) (hr : RX T e a μ) (h : ∀ μ', RX T e (if isW T (skB T e a) (wdE T e (skB T e a)) w then wdE T e (skB T e a) else skB T e a) μ' → Dif S29 μ μ' → Q (rI (bI (isW T (skB T e a) (wdE T e (skB T e a)) w))) μ') : Ct RX2 cX2_takes (6, some .boolean, [], false, rmm 5 0 0) [vr 2 0, vr 0 i] μ Q := by
  refine Ct.of (ls := [some (vr 2 0), some (vr 0 i), none, none, none, none]) rfl fun Γ C ad => ?_
  refine z_aload0 dX2_takes_0 (z_invV0 (md_X2_sign _) cv_X2_99 rfl dX2_takes_1 rfl (Nat.le_of_ble_eq_true rfl) (Rm.ofB rfl) (X_sign hr (fun μ1 hr1 hD1 => ?_)))
  generalize hbb : skB T e a = b at *
  generalize hs : sgF T e b = s at *
  have hr0 := hr1
  obtain ⟨hX, h8, h9, ha, he, hT⟩ := hr1
  have hl := strB_len w (List.mem_of_getElem? hb)
  have p1 : b ≤ wdE T e b := skE_ge _ _ _ _
  have p2 : wdE T e b ≤ e := skE_le ha
  generalize hp : wdE T e b = p at *
  -- the second loop, and the end
  have fin : ∀ o : Option AV, Z RX2 cX2_takes (6, some .boolean, [], false, rmm 5 0 0) (Γ, C, μ, ad, Q) 0 0 μ1 117 [some (vr 2 0), some (vr 0 i), some (vi s), some (vi (nI p)), some (vi (bI (isW T b p w))), o] [] := by
    intro o
    cases hw : isW T b p w with
    | true =>
      rw [hw, if_pos rfl] at h
      refine z_iload4 dX2_takes_117 (z_if_eq 127 dX2_takes_119 (by decide) (fun c => absurd c (n10)) (fun _ => z_aload0 dX2_takes_122 (z_iload3 dX2_takes_123 (z_putI fl_X2_93 dX2_takes_124 rfl rfl ⟨rfl, rfl⟩ (z_iload4 dX2_takes_127 (z_zreturn dX2_takes_129 rfl (bI_nar true) (Nat.le_of_ble_eq_true rfl) (Nat.le_of_ble_eq_true rfl) ?_))))))
      exact h _ (hr0.at p2) (hD1.tr (Dif.sI ⟨rfl, rfl, rfl⟩))
    | false =>
      rw [hw, if_neg (by decide)] at h
      refine z_iload4 dX2_takes_117 (z_if_eq 127 dX2_takes_119 (by decide) (fun _ => z_iload4 dX2_takes_127 (z_zreturn dX2_takes_129 rfl (bI_nar false) (Nat.le_of_ble_eq_true rfl) (Nat.le_of_ble_eq_true rfl) ?_)) (fun c => absurd (rfl) c))
      exact h _ hr0 hD1
  have elen : (nI p - nI b = nI w.length) ↔ p - b = w.length := by
    have e1 : nI p - nI b = nI (p - b) := by
      have : p = (p - b) + b := by omega
      rw [this, ← nI_add, Int32.add_sub_cancel, show p - b + b - b = p - b by omega]
    rw [e1]
    exact nI_eq (by omega) (by omega)
  have lp : p - b = w.length → ∀ k, k ≤ w.length → Z RX2 cX2_takes (6, some .boolean, [], false, rmm 5 0 0) (Γ, C, μ, ad, Q) 0 0 μ1 69 [some (vr 2 0), some (vr 0 i), some (vi s), some (vi (nI p)), some (vi (bI (eqS T b w k))), some (vi (nI k))] [] := by
    intro hlen
    have ew : isW T b p w = eqS T b w w.length := by unfold isW; rw [decide_eq_true hlen, Bool.true_and]
    rw [ew] at fin
    refine loopN (P := fun k => Z RX2 cX2_takes (6, some .boolean, [], false, rmm 5 0 0) (Γ, C, μ, ad, Q) 0 0 μ1 69 [some (vr 2 0), some (vr 0 i), some (vi s), some (vi (nI p)), some (vi (bI (eqS T b w k))), some (vi (nI k))] []) w.length ?_ ?_
    · refine z_iload5 dX2_takes_69 (z_aload1 dX2_takes_71 (z_invZ0 hb (md_J4_length _) cz_X2_103 dX2_takes_72 (Nat.le_of_ble_eq_true rfl) (Rm.ofB rfl) (S_length hb (z_icmp_ge 117 dX2_takes_75 (by decide) (fun _ => ?_) (fun c => absurd (Int32.le_refl _) c)))))
      exact fin _
    · intro k hk ih
      have nge : ¬ nI w.length ≤ nI k := nI_ge hk (by omega)
      rw [eqS] at ih
      cases hq : eqS T b w k with
      | false =>
        have : eqS T b w w.length = false := by
          have key : ∀ m, eqS T b w (k + m) = false := by
            intro m
            induction m with
            | zero => exact hq
            | succ m ihm => rw [← Nat.add_assoc, eqS, ihm]; rfl
          have := key (w.length - k)
          rw [show k + (w.length - k) = w.length by omega] at this
          exact this
        rw [this] at fin
        refine z_iload5 dX2_takes_69 (z_aload1 dX2_takes_71 (z_invZ0 hb (md_J4_length _) cz_X2_103 dX2_takes_72 (Nat.le_of_ble_eq_true rfl) (Rm.ofB rfl) (S_length hb (z_icmp_ge 117 dX2_takes_75 (by decide) (fun c => absurd c (nge)) (fun _ => z_iload4 dX2_takes_78 (z_if_eq 117 dX2_takes_80 (by decide) (fun _ => ?_) (fun c => absurd (rfl) c)))))))
        exact fin _
      | true =>
        rw [hq, Bool.true_and] at ih
        have ei : nI b + nI k = nI (b + k) := nI_add _ _
        refine z_iload5 dX2_takes_69 (z_aload1 dX2_takes_71 (z_invZ0 hb (md_J4_length _) cz_X2_103 dX2_takes_72 (Nat.le_of_ble_eq_true rfl) (Rm.ofB rfl) (S_length hb (z_icmp_ge 117 dX2_takes_75 (by decide) (fun c => absurd c (nge)) (fun _ => z_iload4 dX2_takes_78 (z_if_eq 117 dX2_takes_80 (by decide) (fun c => absurd c (n10)) (fun _ => z_aload0 dX2_takes_83 (z_getP fl_X2_9 dX2_takes_84 rfl rfl (hX.f2 0 (by decide)) (z_aload0 dX2_takes_87 (z_getIv fl_X2_93 dX2_takes_88 rfl rfl (h9) (z_iload5 dX2_takes_91 (z_iadd dX2_takes_93 (z_baldv dX2_takes_94 rfl ⟨ei, (show b + k < 400 by omega), Nat.le_of_ble_eq_true rfl⟩ ((hT (b + k) (by omega)).1) (z_aload1 dX2_takes_95 (z_iload5 dX2_takes_96 (z_invZ1 hb (md_J4_charAt _) cz_X2_106 dX2_takes_98 (Nat.le_of_ble_eq_true rfl) (Rm.ofB rfl) (S_charAt hb rfl hk (z_icmp_ne 108 dX2_takes_101 (by decide) (fun c_101 => ?_) (fun c_101 => ?_)))))))))))))))))))
        · rw [decide_eq_false c_101] at ih
          refine z_iconst (v := 0) dX2_takes_108 (by decide) (z_istore4 dX2_takes_109 (z_iinc5 dX2_takes_111 (inc1 k) (z_goto 69 dX2_takes_114 (by decide) ?_)))
          exact ih
        · rw [decide_eq_true c_101] at ih
          refine z_iconst (v := 1) dX2_takes_104 (by decide) (z_goto 109 dX2_takes_105 (by decide) (z_istore4 dX2_takes_109 (z_iinc5 dX2_takes_111 (inc1 k) (z_goto 69 dX2_takes_114 (by decide) ?_))))
          exact ih
  -- the first loop
  have key : ∀ m c, e - c = m → b ≤ c → c ≤ e → wdE T e c = p → Z RX2 cX2_takes (6, some .boolean, [], false, rmm 5 0 0) (Γ, C, μ, ad, Q) 0 0 μ1 10 [some (vr 2 0), some (vr 0 i), some (vi s), some (vi (nI c)), none, none] [] := by
    have done : Z RX2 cX2_takes (6, some .boolean, [], false, rmm 5 0 0) (Γ, C, μ, ad, Q) 0 0 μ1 46 [some (vr 2 0), some (vr 0 i), some (vi s), some (vi (nI p)), none, none] [] := by
      refine z_iload3 dX2_takes_46 (z_aload0 dX2_takes_47 (z_getIv fl_X2_93 dX2_takes_48 rfl rfl (h9) (z_isub dX2_takes_51 (z_aload1 dX2_takes_52 (z_invZ0 hb (md_J4_length _) cz_X2_103 dX2_takes_53 (Nat.le_of_ble_eq_true rfl) (Rm.ofB rfl) (S_length hb (z_icmp_ne 63 dX2_takes_56 (by decide) (fun c_56 => ?_) (fun c_56 => ?_))))))))
      · have ew : isW T b p w = false := by unfold isW; rw [decide_eq_false (fun q => c_56 (elen.mpr q)), Bool.false_and]
        rw [ew] at fin
        refine z_iconst (v := 0) dX2_takes_63 (by decide) (z_istore4 dX2_takes_64 (z_iconst (v := 0) dX2_takes_66 (by decide) (z_istore5 dX2_takes_67 ?_)))
        by_cases hz : w.length = 0
        · refine z_iload5 dX2_takes_69 (z_aload1 dX2_takes_71 (z_invZ0 hb (md_J4_length _) cz_X2_103 dX2_takes_72 (Nat.le_of_ble_eq_true rfl) (Rm.ofB rfl) (S_length hb (z_icmp_ge 117 dX2_takes_75 (by decide) (fun _ => ?_) (fun c => absurd ((by rw [hz]; decide)) c)))))
          exact fin _
        · refine z_iload5 dX2_takes_69 (z_aload1 dX2_takes_71 (z_invZ0 hb (md_J4_length _) cz_X2_103 dX2_takes_72 (Nat.le_of_ble_eq_true rfl) (Rm.ofB rfl) (S_length hb (z_icmp_ge 117 dX2_takes_75 (by decide) (fun c => absurd c (nI_ge (a := 0) (by omega) (by omega))) (fun _ => z_iload4 dX2_takes_78 (z_if_eq 117 dX2_takes_80 (by decide) (fun _ => ?_) (fun c => absurd (rfl) c)))))))
          exact fin _
      · refine z_iconst (v := 1) dX2_takes_59 (by decide) (z_goto 64 dX2_takes_60 (by decide) (z_istore4 dX2_takes_64 (z_iconst (v := 0) dX2_takes_66 (by decide) (z_istore5 dX2_takes_67 ?_))))
        exact lp (elen.mp c_56) 0 (Nat.zero_le _)
    intro m
    induction m with
    | zero =>
      intro c hm hbc hce hw
      have ec : c = e := by omega
      have : wdE T e c = c := skE_f (fun q => by omega)
      rw [this] at hw
      subst hw
      refine z_iload3 dX2_takes_10 (z_aload0 dX2_takes_11 (z_getIv fl_X2_96 dX2_takes_12 rfl rfl (h8) (z_icmp_ge 46 dX2_takes_15 (by decide) (fun _ => ?_) (fun c => absurd ((by rw [ec]; exact Int32.le_refl _)) c))))
      exact done
    | succ m ih =>
      intro c hm hbc hce hw
      have hlt : c < e := by omega
      have nge : ¬ nI e ≤ nI c := nI_ge hlt (by omega)
      by_cases hc : 97 ≤ T c ∧ T c ≤ 122
      · have es : wdE T e c = wdE T e (c + 1) := skE_t hlt (decide_eq_true hc)
        rw [es] at hw
        refine z_iload3 dX2_takes_10 (z_aload0 dX2_takes_11 (z_getIv fl_X2_96 dX2_takes_12 rfl rfl (h8) (z_icmp_ge 46 dX2_takes_15 (by decide) (fun c => absurd c (nge)) (fun _ => z_aload0 dX2_takes_18 (z_getP fl_X2_9 dX2_takes_19 rfl rfl (hX.f2 0 (by decide)) (z_iload3 dX2_takes_22 (z_baldv dX2_takes_23 rfl ⟨rfl, (show c < 400 by omega), Nat.le_of_ble_eq_true rfl⟩ ((hT c (by omega)).1) (z_bipush (v := 97) dX2_takes_24 (by decide) (z_icmp_lt 46 dX2_takes_26 (by decide) (fun c => absurd c (Int32.not_lt.mpr hc.1)) (fun _ => z_aload0 dX2_takes_29 (z_getP fl_X2_9 dX2_takes_30 rfl rfl (hX.f2 0 (by decide)) (z_iload3 dX2_takes_33 (z_baldv dX2_takes_34 rfl ⟨rfl, (show c < 400 by omega), Nat.le_of_ble_eq_true rfl⟩ ((hT c (by omega)).1) (z_bipush (v := 122) dX2_takes_35 (by decide) (z_icmp_gt 46 dX2_takes_37 (by decide) (fun c => absurd c (Int32.not_lt.mpr hc.2)) (fun _ => z_iinc3 dX2_takes_40 (inc1 c) (z_goto 10 dX2_takes_43 (by decide) ?_)))))))))))))))))
        exact ih (c + 1) (by omega) (by omega) (by omega) hw
      · have es : wdE T e c = c := skE_f (fun q => hc (of_decide_eq_true q.2))
        rw [es] at hw
        subst hw
        by_cases hc1 : T c < 97
        · refine z_iload3 dX2_takes_10 (z_aload0 dX2_takes_11 (z_getIv fl_X2_96 dX2_takes_12 rfl rfl (h8) (z_icmp_ge 46 dX2_takes_15 (by decide) (fun c => absurd c (nge)) (fun _ => z_aload0 dX2_takes_18 (z_getP fl_X2_9 dX2_takes_19 rfl rfl (hX.f2 0 (by decide)) (z_iload3 dX2_takes_22 (z_baldv dX2_takes_23 rfl ⟨rfl, (show c < 400 by omega), Nat.le_of_ble_eq_true rfl⟩ ((hT c (by omega)).1) (z_bipush (v := 97) dX2_takes_24 (by decide) (z_icmp_lt 46 dX2_takes_26 (by decide) (fun _ => ?_) (fun c => absurd (hc1) c))))))))))
          exact done
        · refine z_iload3 dX2_takes_10 (z_aload0 dX2_takes_11 (z_getIv fl_X2_96 dX2_takes_12 rfl rfl (h8) (z_icmp_ge 46 dX2_takes_15 (by decide) (fun c => absurd c (nge)) (fun _ => z_aload0 dX2_takes_18 (z_getP fl_X2_9 dX2_takes_19 rfl rfl (hX.f2 0 (by decide)) (z_iload3 dX2_takes_22 (z_baldv dX2_takes_23 rfl ⟨rfl, (show c < 400 by omega), Nat.le_of_ble_eq_true rfl⟩ ((hT c (by omega)).1) (z_bipush (v := 97) dX2_takes_24 (by decide) (z_icmp_lt 46 dX2_takes_26 (by decide) (fun c => absurd c (hc1)) (fun _ => z_aload0 dX2_takes_29 (z_getP fl_X2_9 dX2_takes_30 rfl rfl (hX.f2 0 (by decide)) (z_iload3 dX2_takes_33 (z_baldv dX2_takes_34 rfl ⟨rfl, (show c < 400 by omega), Nat.le_of_ble_eq_true rfl⟩ ((hT c (by omega)).1) (z_bipush (v := 122) dX2_takes_35 (by decide) (z_icmp_gt 46 dX2_takes_37 (by decide) (fun _ => ?_) (fun c => absurd (Int32.not_le.mp (fun q => hc ⟨Int32.not_lt.mp hc1, q⟩)) c))))))))))))))))
          exact done
  refine z_istore2 dX2_takes_4 (z_aload0 dX2_takes_5 (z_getIv fl_X2_93 dX2_takes_6 rfl rfl (h9) (z_istore3 dX2_takes_9 ?_)))
  exact key _ b rfl (Nat.le_refl _) ha hp
end R2
