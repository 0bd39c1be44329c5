/-! Strings' own methods -/
theorem getD_mem {α : Type} {l : List α} {j : Nat} {d : α} (h : j < l.length) : l.getD j d ∈ l := by
  rw [List.getD_eq_getElem?_getD, List.getElem?_eq_getElem h]
  exact List.getElem_mem h
section STRS
variable {μ : Mem} {Q : Res → Mem → Prop} {i : Nat} {b : List Int32}
theorem S_coder (hb : strB[i]? = some b) (h : Q (rI 0) μ) : Ct RJ4 cJ4_coder (1, some .byte, [], false, rmm 1 0 0) [vr 0 i] μ Q := by
  refine Ct.of (ls := [some (vr 0 i)]) rfl fun Γ C ad => ?_
  refine z_gstC q500 dJ4_coder_0 (z_if_eq 13 dJ4_coder_3 (by decide) (fun c => absurd c (by decide)) (fun _ => z_aload0 dJ4_coder_6 (z_strC hb q1895 dJ4_coder_7 (z_goto 14 dJ4_coder_10 (by decide) (z_zreturn dJ4_coder_14 rfl rfl (by decide) (by decide) h)))))
theorem S_isLatin1 (hb : strB[i]? = some b) (h : Q (rI 1) μ) : Ct RJ4 cJ4_isLatin1 (1, some .boolean, [], false, rmm 1 0 0) [vr 0 i] μ Q := by
  refine Ct.of (ls := [some (vr 0 i)]) rfl fun Γ C ad => ?_
  refine z_gstC q500 dJ4_isLatin1_0 (z_if_eq 17 dJ4_isLatin1_3 (by decide) (fun c => absurd c (by decide)) (fun _ => z_aload0 dJ4_isLatin1_6 (z_strC hb q1895 dJ4_isLatin1_7 (z_if_ne 17 dJ4_isLatin1_10 (by decide) (fun c => absurd rfl c) (fun _ => ?_)))))
  refine z_iconst (v := 1) dJ4_isLatin1_13 (by decide) (z_goto 18 dJ4_isLatin1_14 (by decide) (z_zreturn dJ4_isLatin1_18 rfl rfl (by decide) (by decide) ?_))
  exact h
theorem sr0 (x : Int32) : x >>> ((0 : Int32) &&& 31) = x := by
  rw [show ((0 : Int32) &&& 31) = 0 from by decide]
  simp
theorem S_length (hb : strB[i]? = some b) (h : Q (rI (nI b.length)) μ) : Ct RJ4 cJ4_length (1, some .int, [], false, rmm 2 0 0) [vr 0 i] μ Q := by
  refine Ct.of (ls := [some (vr 0 i)]) rfl fun Γ C ad => ?_
  refine z_aload0 dJ4_length_0 (z_strV hb q1894 dJ4_length_1 (z_slen hb dJ4_length_4 (z_aload0 dJ4_length_5 (z_invZ0 hb (md_J4_coder _) cz_J4_335 dJ4_length_6 (by decide) (Rm.ofB rfl) (S_coder hb (z_ishr dJ4_length_9 (z_ireturn dJ4_length_10 rfl (by decide) (by decide) ?_)))))))
  rw [sr0]
  exact h
theorem J_check3 {x y : Int32} {r : Option (Nat × Nat)} (h1 : ¬ x < 0) (h2 : x < y) (h : Q (rI x) μ) : Ct RJ6 cJ6_checkIndex (3, some .int, [], false, rmm 1 0 0) [vi x, vi y, vo r] μ Q := by
  refine Ct.of (ls := [some (vi x), some (vi y), some (vo r)]) rfl fun Γ C ad => ?_
  refine z_iload0 dJ6_checkIndex_0 (z_if_lt 9 dJ6_checkIndex_1 (by decide) (fun c => absurd c (h1)) (fun _ => z_iload0 dJ6_checkIndex_4 (z_iload1 dJ6_checkIndex_5 (z_icmp_lt 16 dJ6_checkIndex_6 (by decide) (fun _ => z_iload0 dJ6_checkIndex_16 (z_ireturn dJ6_checkIndex_17 rfl (by decide) (by decide) ?_)) (fun c => absurd (h2) c)))))
  exact h
theorem J_check2 {x y : Int32} (h1 : ¬ x < 0) (h2 : x < y) (h : Q rV μ) : Ct RJ4 cJ4_checkIndex (2, none, [], false, rmm 2 0 0) [vi x, vi y] μ Q := by
  refine Ct.of (ls := [some (vi x), some (vi y)]) rfl fun Γ C ad => ?_
  refine z_iload0 dJ4_checkIndex_0 (z_iload1 dJ4_checkIndex_1 (z_gstR (fun U hU => hU.2.2.2.2.1) q516 dJ4_checkIndex_2 (fun r => z_invS3 (md_J6_checkIndex _) cs_J4_1059 dJ4_checkIndex_5 rfl (by decide) (Rm.ofB rfl) (J_check3 h1 h2 (z_popi dJ4_checkIndex_8 (z_return dJ4_checkIndex_9 rfl (by decide) (by decide) h))))))
def chOf (x : Int32) : Int32 := ((x &&& 255).toUInt32 % 65536).toInt32
theorem strB_ch : ∀ b ∈ strB, ∀ x ∈ b, chOf x = x := by decide +kernel
theorem strB_len : ∀ b ∈ strB, b.length < 10 := by decide +kernel
theorem S_ch1 {j : Nat} {x : Int32} (hb : strB[i]? = some b) (hx : x = nI j) (hj : j < b.length) (h : Q (rI (b.getD j 0)) μ) : Ct RJ5 cJ5_charAt (2, some .char, [], false, rmm 3 0 0) [vr 0 (54 + i), vi x] μ Q := by
  refine Ct.of (ls := [some (vr 0 (54 + i)), some (vi x)]) rfl fun Γ C ad => ?_
  have hl := strB_len b (List.mem_of_getElem? hb)
  have e : chOf (b.getD j 0) = b.getD j 0 := strB_ch b (List.mem_of_getElem? hb) _ (getD_mem hj)
  have h1 : ¬ x < 0 := by rw [hx]; exact nI_pos (by omega)
  have h2 : x < nI b.length := by rw [hx]; exact nI_lt hj (by omega)
  refine z_iload1 dJ5_charAt_0 (z_aload0 dJ5_charAt_1 (z_slen hb dJ5_charAt_2 (z_invS2 (md_J4_checkIndex _) cs_J5_9 dJ5_charAt_3 rfl (by decide) (Rm.ofB rfl) (J_check2 h1 h2 (z_aload0 dJ5_charAt_6 (z_iload1 dJ5_charAt_7 (z_sbald hb dJ5_charAt_8 hx hj (z_sipush (v := 255) dJ5_charAt_9 (by decide) (z_iand dJ5_charAt_12 (z_i2c dJ5_charAt_13 (z_zreturn dJ5_charAt_14 rfl (pk_nc _) (by decide) (by decide) ?_)))))))))))
  rw [show (((b.getD j 0) &&& 255).toUInt32 % 65536).toInt32 = b.getD j 0 from e]
  exact h
theorem S_charAt {j : Nat} {x : Int32} (hb : strB[i]? = some b) (hx : x = nI j) (hj : j < b.length) (h : Q (rI (b.getD j 0)) μ) : Ct RJ4 cJ4_charAt (2, some .char, [], false, rmm 4 0 0) [vr 0 i, vi x] μ Q := by
  refine Ct.of (ls := [some (vr 0 i), some (vi x)]) rfl fun Γ C ad => ?_
  have e : chOf (b.getD j 0) = b.getD j 0 := strB_ch b (List.mem_of_getElem? hb) _ (getD_mem hj)
  refine z_aload0 dJ4_charAt_0 (z_invZ0 hb (md_J4_isLatin1 _) cz_J4_492 dJ4_charAt_1 (by decide) (Rm.ofB rfl) (S_isLatin1 hb (z_if_eq 16 dJ4_charAt_4 (by decide) (fun c => absurd c (by decide)) (fun _ => z_aload0 dJ4_charAt_7 (z_strV hb q1894 dJ4_charAt_8 (z_iload1 dJ4_charAt_11 (z_invS2 (md_J5_charAt _) cs_J4_495 dJ4_charAt_12 rfl (by decide) (Rm.ofB rfl) (S_ch1 hb hx hj (z_zreturn dJ4_charAt_15 rfl ?_ (by decide) (by decide) h)))))))))
  rw [← e]
  exact pk_nc _
end STRS
