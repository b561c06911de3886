section
/-- the picture of an array: what stands at 0, at 1, and 0 elsewhere -/
def sg_ar (p q : Int32) : Nat → Int32 := fun j => if j = 0 then p else if j = 1 then q else 0
theorem sg_z : (fun _ : Nat => (0 : Int32)) = sg_ar 0 0 := by
  funext j
  unfold sg_ar
  by_cases h : j = 0
  · rw [if_pos h]
  · rw [if_neg h]
    by_cases h' : j = 1
    · rw [if_pos h']
    · rw [if_neg h']
theorem sg_c0 : (0 : Int32).toNatClampNeg = 0 := by decide
theorem sg_c1 : (1 : Int32).toNatClampNeg = 1 := by decide
theorem sg_g0 (p q : Int32) : sg_ar p q (0 : Int32).toNatClampNeg = p := by rw [sg_c0]; rfl
theorem sg_g1 (p q : Int32) : sg_ar p q (1 : Int32).toNatClampNeg = q := by rw [sg_c1]; rfl
theorem sg_s0 {p q r r' : Int32} (h : r = r') : upd (sg_ar p q) (0 : Int32).toNatClampNeg r = sg_ar r' q := by
  rw [sg_c0, h]
  funext j
  unfold upd sg_ar
  by_cases e : j = 0
  · rw [if_pos e, if_pos e]
  · rw [if_neg e, if_neg e, if_neg e]
theorem sg_s1 {p q r r' : Int32} (h : r = r') : upd (sg_ar p q) (1 : Int32).toNatClampNeg r = sg_ar p r' := by
  rw [sg_c1, h]
  funext j
  unfold upd sg_ar
  by_cases e : j = 0
  · rw [if_pos e, if_pos e, if_neg (by omega)]
  · rw [if_neg e, if_neg e]
    by_cases e' : j = 1
    · rw [if_pos e', if_pos e']
    · rw [if_neg e', if_neg e', if_neg e']
theorem sg_i0 : vp_in 0 24 := vp_in_iff.mpr (by decide)
theorem sg_i1 : vp_in 1 24 := vp_in_iff.mpr (by decide)
theorem sg_p0 : (0 : Int32) + 1 = 1 := by decide
theorem sg_p1 : (1 : Int32) + 1 = 2 := by decide
/-- an Int32 that is neither negative nor 1 or more is 0 -/
theorem sg_only0 (x : Int32) (h0 : ¬ x < 0) (h1 : ¬ (1 : Int32) ≤ x) : x = 0 := by
  have e := Int32.toInt_inj (x := x) (y := 0)
  rw [Int32.lt_iff_toInt_lt] at h0
  rw [Int32.le_iff_toInt_le] at h1
  refine e.mp ?_
  have z0 : (0 : Int32).toInt = 0 := by decide
  have z1 : (1 : Int32).toInt = 1 := by decide
  omega
section SG1
variable {n ar hv ch kt ov tc lv wt : Int32} {a1 a2 a3 a4 a5 a6 a7 a8 a9 a10 : Nat → Int32} {k x y z v w r q : Int32}
theorem sg_init {post : St2 → Prop} (H : post (0, 0, 0, 0, 0, 0, 0, 1, 0, sg_ar 0 0, sg_ar 0 0, sg_ar 0 0, sg_ar 0 0, sg_ar 0 0, sg_ar 0 0, sg_ar 0 0, sg_ar 0 0, sg_ar 0 0, sg_ar 0 0)) : wpX_init post 10 240 (0, 0, 0, 0, 0, 0, 0, 0, 0) := by
  rw [← sg_z] at H
  exact ⟨by decide, by decide, by decide, by decide, by decide, by decide, by decide, by decide, by decide, by decide, by decide, by decide, by decide, by decide, by decide, by decide, by decide, by decide, by decide, by decide, H⟩
theorem sg_isNode {post : Int32 → Prop} (h0 : ¬ x < 0) (h1 : ¬ n ≤ x) (H : post 1) : wpX_isNode post (n, ar, hv, ch, kt, ov, tc, lv, wt, a1, a2, a3, a4, a5, a6, a7, a8, a9, a10) x := br_f h0 (br_f h1 H)
theorem sg_noNode {post : Int32 → Prop} (h : ¬ x = 0) (H : post 0) : wpX_isNode post (1, ar, hv, ch, kt, ov, tc, lv, wt, a1, a2, a3, a4, a5, a6, a7, a8, a9, a10) x := br_c (fun _ => H) (fun z => br_c (fun _ => H) (fun z2 => absurd (sg_only0 x z z2) h))
theorem sg_ck0 {post : Int32 → Prop} {u : St2} (h4 : ¬ k = 4) (h6 : ¬ k = 6) (h13 : ¬ k = 13) (h14 : ¬ k = 14) (H : post 0) : wpX_isCellKind post u k := br_f h4 (br_f h6 (br_f h13 (br_f h14 H)))
theorem sg_ck4 {post : Int32 → Prop} {u : St2} (H : post 1) : wpX_isCellKind post u 4 := br_t rfl H
theorem sg_isEvent0 {post : Int32 → Prop} (H : post 1) : wpX_isEvent post (1, ar, hv, ch, kt, ov, tc, lv, wt, sg_ar 0 q, a2, a3, a4, a5, a6, a7, a8, a9, a10) 0 := by
  unfold wpX_isEvent
  refine sg_isNode (by decide) (by decide) (br_f (by decide) ⟨sg_i0, ?_⟩)
  rw [sg_g0]
  exact sg_ck0 (by decide) (by decide) (by decide) (by decide) (br_t rfl H)
theorem sg_isEventN {post : Int32 → Prop} (h : ¬ x = 0) (H : post 0) : wpX_isEvent post (1, ar, hv, ch, kt, ov, tc, lv, wt, a1, a2, a3, a4, a5, a6, a7, a8, a9, a10) x := by
  unfold wpX_isEvent
  exact sg_noNode h (br_t rfl H)
theorem sg_isCellN {post : Int32 → Prop} (H : post 0) : wpX_isCell post (1, ar, hv, ch, kt, ov, tc, lv, wt, sg_ar 0 q, a2, a3, a4, a5, a6, a7, a8, a9, a10) x := by
  unfold wpX_isCell
  by_cases h : x = 0
  · subst h
    refine sg_isNode (by decide) (by decide) (br_f (by decide) ⟨sg_i0, ?_⟩)
    rw [sg_g0]
    exact sg_ck0 (by decide) (by decide) (by decide) (by decide) (br_t rfl H)
  · exact sg_noNode h (br_t rfl H)
/-- which nodes can be made behind one source -/
def sg_made (k x y : Int32) : Prop := k = 0 ∨ ((k = 1 ∨ k = 2 ∨ k = 8 ∨ k = 11 ∨ k = 12) ∧ x = 0) ∨ (k = 3 ∧ x = 0 ∧ y = 0) ∨ (k = 4 ∧ (x = 0 ∨ x = -1))
theorem sg_range (k : Int32) (h0 : ¬ k < 0) (h14 : ¬ 14 < k) : k = 0 ∨ k = 1 ∨ k = 2 ∨ k = 3 ∨ k = 4 ∨ k = 5 ∨ k = 6 ∨ k = 7 ∨ k = 8 ∨ k = 9 ∨ k = 10 ∨ k = 11 ∨ k = 12 ∨ k = 13 ∨ k = 14 := by
  obtain ⟨j, hj, rfl⟩ := nI_of h0
  have h : ¬ 14 < j := fun t => h14 (nI_lt t hj)
  have hj' : j < 15 := by omega
  clear h0 h14 h hj
  revert j
  decide +kernel
/-- not made: operandsFit answers 0 -/
theorem sg_fitN {post : Int32 → Prop} (h0 : ¬ k < 0) (h14 : ¬ 14 < k) (hm : ¬ sg_made k x y) (H : post 0) : wpX_operandsFit post (1, ar, hv, ch, kt, ov, tc, lv, wt, sg_ar 0 q, a2, a3, a4, a5, a6, a7, a8, a9, a10) k x y z := by
  have hx : ∀ kk : Int32, k = kk → (kk = 1 ∨ kk = 2 ∨ kk = 8 ∨ kk = 11 ∨ kk = 12) → ¬ x = 0 := fun kk e hk t => hm (Or.inr (Or.inl ⟨e ▸ hk, t⟩))
  refine br_f (fun e => hm (Or.inl e)) ?_
  refine br_c (fun e => br_f (fun t => hm (Or.inr (Or.inr (Or.inr ⟨e, Or.inr t⟩)))) (sg_isEventN (fun t => hm (Or.inr (Or.inr (Or.inr ⟨e, Or.inl t⟩)))) (br_t rfl H))) (fun n4 => ?_)
  refine br_c (fun e => ?_) (fun n3 => ?_)
  · by_cases hx0 : x = 0
    · subst hx0
      exact sg_isEvent0 (br_f (by decide) (sg_isEventN (fun t => hm (Or.inr (Or.inr (Or.inl ⟨e, rfl, t⟩)))) (br_t rfl H)))
    · exact sg_isEventN hx0 (br_t rfl H)
  have h68 : wX_operandsFit_68 post x y 1 ar hv ch kt ov tc lv wt (sg_ar 0 q) a2 a3 a4 a5 a6 a7 a8 a9 a10 := by
    unfold wX_operandsFit_68
    by_cases hx0 : x = 0
    · subst hx0
      exact sg_isEvent0 (br_f (by decide) (sg_isCellN (br_t rfl H)))
    · exact sg_isEventN hx0 (br_t rfl H)
  have h204 : wX_operandsFit_204 post x 1 ar hv ch kt ov tc lv wt (sg_ar 0 q) a2 a3 a4 a5 a6 a7 a8 a9 a10 := by
    unfold wX_operandsFit_204
    exact sg_isCellN ⟨narrow_b0, H⟩
  refine br_c (fun e => h68) (fun n5 => br_c (fun e => h68) (fun n7 => ?_))
  refine br_c (fun e => sg_isCellN (br_t rfl H)) (fun n6 => ?_)
  refine br_c (fun e => sg_isCellN (br_t rfl H)) (fun n10 => ?_)
  refine br_c (fun e => sg_isCellN (br_t rfl H)) (fun n13 => ?_)
  refine br_c (fun e => h204) (fun n9 => br_c (fun e => h204) (fun n14 => ?_))
  refine sg_isEventN (fun t => ?_) ⟨narrow_b0, H⟩
  have hk : k = 1 ∨ k = 2 ∨ k = 8 ∨ k = 11 ∨ k = 12 := by
    rcases sg_range k h0 h14 with e | e | e | e | e | e | e | e | e | e | e | e | e | e | e
    · exact absurd (Or.inl e) hm
    · exact Or.inl e
    · exact Or.inr (Or.inl e)
    · exact absurd e n3
    · exact absurd e n4
    · exact absurd e n5
    · exact absurd e n6
    · exact absurd e n7
    · exact Or.inr (Or.inr (Or.inl e))
    · exact absurd e n9
    · exact absurd e n10
    · exact Or.inr (Or.inr (Or.inr (Or.inl e)))
    · exact Or.inr (Or.inr (Or.inr (Or.inr e)))
    · exact absurd e n13
    · exact absurd e n14
  exact hm (Or.inr (Or.inl ⟨hk, t⟩))
/-- made, by kinds: operandsFit answers 1 -/
theorem sg_fit0 {post : Int32 → Prop} {u : St2} (H : post 1) : wpX_operandsFit post u 0 x y z := br_t rfl H
theorem sg_fit4a {post : Int32 → Prop} (H : post 1) : wpX_operandsFit post (1, ar, hv, ch, kt, ov, tc, lv, wt, sg_ar 0 q, a2, a3, a4, a5, a6, a7, a8, a9, a10) 4 0 y z :=
  br_f (by decide) (br_t rfl (br_f (by decide) (sg_isEvent0 (br_f (by decide) H))))
theorem sg_fit4b {post : Int32 → Prop} {u : St2} (H : post 1) : wpX_operandsFit post u 4 (-1) y z := br_f (by decide) (br_t rfl (br_t rfl H))
theorem sg_fit3 {post : Int32 → Prop} (H : post 1) : wpX_operandsFit post (1, ar, hv, ch, kt, ov, tc, lv, wt, sg_ar 0 q, a2, a3, a4, a5, a6, a7, a8, a9, a10) 3 0 0 z :=
  br_f (by decide) (br_f (by decide) (br_t rfl (sg_isEvent0 (br_f (by decide) (sg_isEvent0 (br_f (by decide) H))))))
theorem sg_fitE {post : Int32 → Prop} (h : k = 1 ∨ k = 2 ∨ k = 8 ∨ k = 11 ∨ k = 12) (H : post 1) : wpX_operandsFit post (1, ar, hv, ch, kt, ov, tc, lv, wt, sg_ar 0 q, a2, a3, a4, a5, a6, a7, a8, a9, a10) k 0 y z := by
  have go : ¬ k = 0 ∧ ¬ k = 4 ∧ ¬ k = 3 ∧ ¬ k = 5 ∧ ¬ k = 7 ∧ ¬ k = 6 ∧ ¬ k = 10 ∧ ¬ k = 13 ∧ ¬ k = 9 ∧ ¬ k = 14 := by
    rcases h with e | e | e | e | e <;> (subst e; decide)
  obtain ⟨g0, g4, g3, g5, g7, g6, g10, g13, g9, g14⟩ := go
  exact br_f g0 (br_f g4 (br_f g3 (br_f g5 (br_f g7 (br_f g6 (br_f g10 (br_f g13 (br_f g9 (br_f g14 (sg_isEvent0 ⟨narrow_b1, H⟩))))))))))
theorem sg_forget {post : St2 → Prop} (H : post (n, ar, 0, 0, 0, 0, tc, lv, wt, a1, a2, a3, a4, a5, a6, a7, a8, a9, a10)) : wpX_forget post (n, ar, 0, 0, 0, 0, tc, lv, wt, a1, a2, a3, a4, a5, a6, a7, a8, a9, a10) x :=
  nm_e (nm_r Int32.zero_and (nm_r Int32.zero_and (nm_r Int32.zero_and (nm_r Int32.zero_and H))))
end SG1
end
section
section SG2
variable {n ar hv ch kt ov tc lv wt : Int32} {a1 a2 a3 a4 a5 a6 a7 a8 a9 a10 : Nat → Int32} {k x y z v w r q : Int32}
/-- the first node: a source -/
theorem sg_node0 {post : Int32 → St2 → Prop} (H : post 0 (1, 0, 0, 0, 0, 0, 0, 1, 0, sg_ar 0 0, sg_ar 99 0, sg_ar 99 0, sg_ar 99 0, sg_ar 0 0, sg_ar 0 0, sg_ar 0 0, sg_ar 0 0, sg_ar 0 0, sg_ar 0 0)) : wpX_node post (0, 0, 0, 0, 0, 0, 0, 1, 0, sg_ar 0 0, sg_ar 0 0, sg_ar 0 0, sg_ar 0 0, sg_ar 0 0, sg_ar 0 0, sg_ar 0 0, sg_ar 0 0, sg_ar 0 0, sg_ar 0 0) 0 99 99 99 :=
  br_t (by decide) (br_f (by decide) (br_f (by decide) (sg_fit0 (br_f (by decide) (nm_r sg_p0 ⟨sg_i0, nm_r (sg_s0 (r' := 0) (by decide)) ⟨sg_i0, nm_r (sg_s0 rfl) ⟨sg_i0, nm_r (sg_s0 rfl) ⟨sg_i0, nm_r (sg_s0 rfl) ⟨sg_i0, nm_r (sg_s0 rfl) ⟨sg_i0, nm_r (sg_s0 rfl)
    (br_f (by decide) ⟨sg_i0, nm_r (sg_s0 rfl) (sg_forget (sg_ck0 (by decide) (by decide) (by decide) (by decide) (br_t rfl H)))⟩)⟩⟩⟩⟩⟩⟩)))))
/-- the second node is refused -/
theorem sg_nodeN {post : Int32 → St2 → Prop} (hm : ¬ sg_made k x y) (H : post (-1) (1, 0, 0, 0, 0, 0, 0, 1, 0, sg_ar 0 0, sg_ar 99 0, sg_ar 99 0, sg_ar 99 0, sg_ar 0 0, sg_ar 0 0, sg_ar 0 0, sg_ar 0 0, sg_ar 0 0, sg_ar 0 0)) : wpX_node post (1, 0, 0, 0, 0, 0, 0, 1, 0, sg_ar 0 0, sg_ar 99 0, sg_ar 99 0, sg_ar 99 0, sg_ar 0 0, sg_ar 0 0, sg_ar 0 0, sg_ar 0 0, sg_ar 0 0, sg_ar 0 0) k x y z :=
  br_t (by decide) (br_c (fun _ => H) (fun h0 => br_c (fun _ => H) (fun h14 => sg_fitN h0 h14 hm (br_t rfl H))))
/-- the second node is made: an event -/
theorem sg_nodeE {post : Int32 → St2 → Prop} (hk : ¬ k < 0 ∧ ¬ 14 < k ∧ k.toInt8.toInt32 = k ∧ ¬ k = 4 ∧ ¬ k = 6 ∧ ¬ k = 13 ∧ ¬ k = 14)
    (hf : ∀ f : Int32 → Prop, f 1 → wpX_operandsFit f (1, 0, 0, 0, 0, 0, 0, 1, 0, sg_ar 0 0, sg_ar 99 0, sg_ar 99 0, sg_ar 99 0, sg_ar 0 0, sg_ar 0 0, sg_ar 0 0, sg_ar 0 0, sg_ar 0 0, sg_ar 0 0) k x y z) (H : post 1 (2, 0, 0, 0, 0, 0, 0, 1, 0, sg_ar 0 k, sg_ar 99 x, sg_ar 99 y, sg_ar 99 z, sg_ar 0 0, sg_ar 0 0, sg_ar 0 0, sg_ar 0 0, sg_ar 0 0, sg_ar 0 0)) : wpX_node post (1, 0, 0, 0, 0, 0, 0, 1, 0, sg_ar 0 0, sg_ar 99 0, sg_ar 99 0, sg_ar 99 0, sg_ar 0 0, sg_ar 0 0, sg_ar 0 0, sg_ar 0 0, sg_ar 0 0, sg_ar 0 0) k x y z :=
  br_t (by decide) (br_f hk.1 (br_f hk.2.1 (hf _ (br_f (by decide) (nm_r sg_p1 ⟨sg_i1, nm_r (sg_s1 hk.2.2.1) ⟨sg_i1, nm_r (sg_s1 rfl) ⟨sg_i1, nm_r (sg_s1 rfl) ⟨sg_i1, nm_r (sg_s1 rfl) ⟨sg_i1, nm_r (sg_s1 rfl) ⟨sg_i1, nm_r (sg_s1 rfl)
    (br_f hk.2.2.2.1 ⟨sg_i1, nm_r (sg_s1 rfl) (sg_forget (sg_ck0 hk.2.2.2.1 hk.2.2.2.2.1 hk.2.2.2.2.2.1 hk.2.2.2.2.2.2 (br_t rfl H)))⟩)⟩⟩⟩⟩⟩⟩)))))
/-- the second node is made: a hold -/
theorem sg_node4 {post : Int32 → St2 → Prop}
    (hf : ∀ f : Int32 → Prop, f 1 → wpX_operandsFit f (1, 0, 0, 0, 0, 0, 0, 1, 0, sg_ar 0 0, sg_ar 99 0, sg_ar 99 0, sg_ar 99 0, sg_ar 0 0, sg_ar 0 0, sg_ar 0 0, sg_ar 0 0, sg_ar 0 0, sg_ar 0 0) 4 x y z) (H : post 1 (2, 0, 0, 0, 0, 0, 0, 1, 0, sg_ar 0 4, sg_ar 99 x, sg_ar 99 y, sg_ar 99 z, sg_ar 0 0, sg_ar 0 0, sg_ar 0 y, sg_ar 0 0, sg_ar 0 0, sg_ar 0 0)) : wpX_node post (1, 0, 0, 0, 0, 0, 0, 1, 0, sg_ar 0 0, sg_ar 99 0, sg_ar 99 0, sg_ar 99 0, sg_ar 0 0, sg_ar 0 0, sg_ar 0 0, sg_ar 0 0, sg_ar 0 0, sg_ar 0 0) 4 x y z :=
  br_t (by decide) (br_f (by decide) (br_f (by decide) (hf _ (br_f (by decide) (nm_r sg_p1 ⟨sg_i1, nm_r (sg_s1 (r' := 4) (by decide)) ⟨sg_i1, nm_r (sg_s1 rfl) ⟨sg_i1, nm_r (sg_s1 rfl) ⟨sg_i1, nm_r (sg_s1 rfl) ⟨sg_i1, nm_r (sg_s1 rfl) ⟨sg_i1, nm_r (sg_s1 rfl)
    (br_t rfl ⟨sg_i1, nm_r (sg_s1 rfl) (sg_forget (sg_ck4 (br_f (by decide) (br_t rfl H))))⟩)⟩⟩⟩⟩⟩⟩)))))
/-- the source fires -/
theorem sg_fire {post : Int32 → St2 → Prop} (hn : ¬ n ≤ 0) (H : post 1 (n, ar, hv, ch, 1, ov, tc, lv, wt, sg_ar 0 q, a2, a3, a4, a5, a6, a7, a8, sg_ar v w, a10)) : wpX_fire post (n, ar, hv, ch, 0, ov, tc, lv, wt, sg_ar 0 q, a2, a3, a4, a5, a6, a7, a8, sg_ar r w, a10) 0 v := by
  unfold wpX_fire
  exact sg_isNode (by decide) hn (br_f (by decide) ⟨sg_i0, br_t (sg_g0 0 q) ⟨sg_i0, nm_r (sg_s0 rfl) (nm_r (e' := 1) (by decide) H)⟩⟩)
end SG2
end
section
section SG3
variable {n ar hv ch kt ov tc lv wt : Int32} {a1 a2 a3 a4 a5 a6 a7 a8 a9 a10 : Nat → Int32} {k x y z v w r q : Int32}
theorem sg_pt0 {post : Int32 → Prop} (H : post 0) : wpX_partsOf post (n, ar, hv, ch, kt, ov, tc, lv, wt, sg_ar 0 k, a2, a3, a4, a5, a6, a7, a8, a9, a10) 0 := ⟨sg_i0, nm_r (sg_g0 0 k) (br_t rfl H)⟩
theorem sg_pt_0 {post : Int32 → Prop} (H : post 0) : wpX_partsOf post (n, ar, hv, ch, kt, ov, tc, lv, wt, sg_ar 0 0, a2, a3, a4, a5, a6, a7, a8, a9, a10) 1 := ⟨sg_i1, nm_r (sg_g1 0 0) (br_t rfl H)⟩
theorem sg_pt_11 {post : Int32 → Prop} (H : post 0) : wpX_partsOf post (n, ar, hv, ch, kt, ov, tc, lv, wt, sg_ar 0 11, a2, a3, a4, a5, a6, a7, a8, a9, a10) 1 := ⟨sg_i1, nm_r (sg_g1 0 11) (br_f (by decide) (br_t rfl H))⟩
theorem sg_pt_4b {post : Int32 → Prop} (H : post 0) : wpX_partsOf post (n, ar, hv, ch, kt, ov, tc, lv, wt, sg_ar 0 4, sg_ar 99 (-1), a3, a4, a5, a6, a7, a8, a9, a10) 1 :=
  ⟨sg_i1, nm_r (sg_g1 0 4) (br_f (by decide) (br_f (by decide) (br_t rfl ⟨sg_i1, br_f (by rw [sg_g1]; decide) H⟩)))⟩
theorem sg_sh : (1 : Int32) <<< ((sg_ar 99 0 (1 : Int32).toNatClampNeg) &&& 31) = 1 := by rw [sg_g1]; decide
theorem sg_pt_4a {post : Int32 → Prop} (H : post 1) : wpX_partsOf post (n, ar, hv, ch, kt, ov, tc, lv, wt, sg_ar 0 4, sg_ar 99 0, a3, a4, a5, a6, a7, a8, a9, a10) 1 :=
  ⟨sg_i1, nm_r (sg_g1 0 4) (br_f (by decide) (br_f (by decide) (br_t rfl ⟨sg_i1, br_t (by rw [sg_g1]; decide) ⟨sg_i1, ek_v (P := post) sg_sh H⟩⟩)))⟩
theorem sg_pt_g {post : Int32 → Prop} (hk : ¬ k = 0 ∧ ¬ k = 11 ∧ ¬ k = 4 ∧ ¬ k = 10 ∧ ¬ k = 3 ∧ ¬ k = 6 ∧ ¬ k = 13) (H : post 1) : wpX_partsOf post (n, ar, hv, ch, kt, ov, tc, lv, wt, sg_ar 0 k, sg_ar 99 0, a3, a4, a5, a6, a7, a8, a9, a10) 1 :=
  ⟨sg_i1, nm_r (sg_g1 0 k) (br_f hk.1 (br_f hk.2.1 (br_f hk.2.2.1 (br_f hk.2.2.2.1 ⟨sg_i1, nm_r sg_sh (br_f hk.2.2.2.2.1 (br_f hk.2.2.2.2.2.1 (br_f hk.2.2.2.2.2.2 H)))⟩))))⟩
theorem sg_pt_3 {post : Int32 → Prop} (H : post 1) : wpX_partsOf post (n, ar, hv, ch, kt, ov, tc, lv, wt, sg_ar 0 3, sg_ar 99 0, sg_ar 99 0, a4, a5, a6, a7, a8, a9, a10) 1 :=
  ⟨sg_i1, nm_r (sg_g1 0 3) (br_f (by decide) (br_f (by decide) (br_f (by decide) (br_f (by decide) ⟨sg_i1, nm_r sg_sh (br_t rfl ⟨sg_i1, nm_r (e' := 1) (by rw [sg_sh]; decide) (br_f (by decide) H)⟩)⟩))))⟩
/-- node 0, two nodes: its height stays 0 -/
theorem sg_raise0 {post : Int32 → St2 → Prop} (H : post 0 (2, ar, hv, ch, kt, ov, tc, lv, wt, sg_ar 0 k, a2, a3, a4, sg_ar 0 q, a6, a7, a8, a9, a10)) : wpX_raise post (2, ar, hv, ch, kt, ov, tc, lv, wt, sg_ar 0 k, a2, a3, a4, sg_ar 0 q, a6, a7, a8, a9, a10) 0 := by
  unfold wpX_raise
  exact sg_pt0 ⟨3, br_f (by decide) (br_t (by decide) (nm_r sg_p0 (br_f (by decide) (br_t (by decide) (nm_r sg_p1 (br_t (by decide) ⟨sg_i0, br_t (by rw [sg_g0]; decide) ⟨sg_i0, nm_r (sg_s0 (r' := 0) (by decide)) ⟨narrow_b0, H⟩⟩⟩))))))⟩
theorem sg_raise1n {post : Int32 → St2 → Prop} (H : post 0 (1, ar, hv, ch, kt, ov, tc, lv, wt, sg_ar 0 k, a2, a3, a4, sg_ar 0 q, a6, a7, a8, a9, a10)) : wpX_raise post (1, ar, hv, ch, kt, ov, tc, lv, wt, sg_ar 0 k, a2, a3, a4, sg_ar 0 q, a6, a7, a8, a9, a10) 0 := by
  unfold wpX_raise
  exact sg_pt0 ⟨2, br_f (by decide) (br_t (by decide) (nm_r sg_p0 (br_t (by decide) ⟨sg_i0, br_t (by rw [sg_g0]; decide) ⟨sg_i0, nm_r (sg_s0 (r' := 0) (by decide)) ⟨narrow_b0, H⟩⟩⟩)))⟩
/-- node 1 without parts -/
theorem sg_raise1a {post : Int32 → St2 → Prop} (hp : ∀ (f : Int32 → Prop) (b5 b6 : Nat → Int32), f 0 → wpX_partsOf f (2, 1, hv, ch, kt, ov, tc, lv, wt, sg_ar 0 k, a2, a3, a4, b5, b6, a7, a8, a9, a10) 1) (H : post 0 (2, 1, hv, ch, kt, ov, tc, lv, wt, sg_ar 0 k, a2, a3, a4, sg_ar 0 0, a6, a7, a8, a9, a10)) : wpX_raise post (2, 1, hv, ch, kt, ov, tc, lv, wt, sg_ar 0 k, a2, a3, a4, sg_ar 0 0, a6, a7, a8, a9, a10) 1 := by
  unfold wpX_raise
  exact hp _ _ _ ⟨3, br_f (by decide) (br_t (by decide) (nm_r sg_p0 (br_f (by decide) (br_t (by decide) (nm_r sg_p1 (br_t (by decide) ⟨sg_i1, br_t (by rw [sg_g1]; decide) ⟨sg_i1, nm_r (sg_s1 (r' := 0) (by decide)) ⟨narrow_b0, H⟩⟩⟩))))))⟩
/-- node 1 over node 0: it grows, then it stays -/
theorem sg_raise1b {post : Int32 → St2 → Prop} (hp : ∀ (f : Int32 → Prop) (b5 b6 : Nat → Int32), f 1 → wpX_partsOf f (2, 1, hv, ch, kt, ov, tc, lv, wt, sg_ar 0 k, a2, a3, a4, b5, b6, a7, a8, a9, a10) 1) (H : post 1 (2, 1, hv, ch, kt, ov, tc, lv, wt, sg_ar 0 k, a2, a3, a4, sg_ar 0 1, a6, a7, a8, a9, a10)) : wpX_raise post (2, 1, hv, ch, kt, ov, tc, lv, wt, sg_ar 0 k, a2, a3, a4, sg_ar 0 0, a6, a7, a8, a9, a10) 1 := by
  unfold wpX_raise
  exact hp _ _ _ ⟨3, br_f (by decide) (br_f (by decide) ⟨sg_i0, br_f (by rw [sg_g0]; decide) ⟨sg_i0, nm_r (e' := 1) (by rw [sg_g0]; decide) (nm_r sg_p0 (br_f (by decide) (br_t (by decide) (nm_r sg_p1 (br_t (by decide) ⟨sg_i1, br_f (by rw [sg_g1]; decide) ⟨sg_i1, nm_r (sg_s1 (r' := 1) (by decide)) ⟨narrow_b1, H⟩⟩⟩)))))⟩⟩)⟩
theorem sg_raise1c {post : Int32 → St2 → Prop} (hp : ∀ (f : Int32 → Prop) (b5 b6 : Nat → Int32), f 1 → wpX_partsOf f (2, 1, hv, ch, kt, ov, tc, lv, wt, sg_ar 0 k, a2, a3, a4, b5, b6, a7, a8, a9, a10) 1) (H : post 0 (2, 1, hv, ch, kt, ov, tc, lv, wt, sg_ar 0 k, a2, a3, a4, sg_ar 0 1, a6, a7, a8, a9, a10)) : wpX_raise post (2, 1, hv, ch, kt, ov, tc, lv, wt, sg_ar 0 k, a2, a3, a4, sg_ar 0 1, a6, a7, a8, a9, a10) 1 := by
  unfold wpX_raise
  exact hp _ _ _ ⟨3, br_f (by decide) (br_f (by decide) ⟨sg_i0, br_f (by rw [sg_g0]; decide) ⟨sg_i0, nm_r (e' := 1) (by rw [sg_g0]; decide) (nm_r sg_p0 (br_f (by decide) (br_t (by decide) (nm_r sg_p1 (br_t (by decide) ⟨sg_i1, br_t (by rw [sg_g1]; decide) ⟨sg_i1, nm_r (sg_s1 (r' := 1) (by decide)) ⟨narrow_b0, H⟩⟩⟩)))))⟩⟩)⟩
/-- the last loop: users -/
theorem sg_users0 {post : St2 → Prop} (hp : ∀ (f : Int32 → Prop) (b5 b6 : Nat → Int32), f 0 → wpX_partsOf f (2, 1, hv, ch, kt, ov, tc, lv, wt, sg_ar 0 k, a2, a3, a4, b5, b6, a7, a8, a9, a10) 1) (H : post (2, 1, hv, ch, kt, ov, tc, lv, wt, sg_ar 0 k, a2, a3, a4, a5, sg_ar 0 0, a7, a8, a9, a10)) : ∃ fu, wX_arrange_82 post 2 1 hv ch kt ov tc lv wt fu 0 (sg_ar 0 k) a2 a3 a4 a5 (sg_ar 0 0) a7 a8 a9 a10 := by
  refine ⟨3, br_f (by decide) (sg_pt0 ⟨3, br_f (by decide) (br_t (by decide) (nm_r sg_p0 ?_))⟩)⟩
  refine br_f (by decide) (br_t (by decide) (nm_r sg_p1 (br_t (by decide) (nm_r sg_p0 ?_))))
  refine br_f (by decide) (hp _ _ _ ⟨3, br_f (by decide) (br_t (by decide) (nm_r sg_p0 ?_))⟩)
  exact br_f (by decide) (br_t (by decide) (nm_r sg_p1 (br_t (by decide) (nm_r sg_p1 (br_t (by decide) H)))))
theorem sg_users1 {post : St2 → Prop} (hp : ∀ (f : Int32 → Prop) (b5 b6 : Nat → Int32), f 1 → wpX_partsOf f (2, 1, hv, ch, kt, ov, tc, lv, wt, sg_ar 0 k, a2, a3, a4, b5, b6, a7, a8, a9, a10) 1) (H : post (2, 1, hv, ch, kt, ov, tc, lv, wt, sg_ar 0 k, a2, a3, a4, a5, sg_ar 2 0, a7, a8, a9, a10)) : ∃ fu, wX_arrange_82 post 2 1 hv ch kt ov tc lv wt fu 0 (sg_ar 0 k) a2 a3 a4 a5 (sg_ar 0 0) a7 a8 a9 a10 := by
  refine ⟨3, br_f (by decide) (sg_pt0 ⟨3, br_f (by decide) (br_t (by decide) (nm_r sg_p0 ?_))⟩)⟩
  refine br_f (by decide) (br_t (by decide) (nm_r sg_p1 (br_t (by decide) (nm_r sg_p0 ?_))))
  refine br_f (by decide) (hp _ _ _ ⟨3, br_f (by decide) (br_f (by decide) ⟨sg_i0, sg_i0, nm_r (sg_s0 (r' := 2) (by rw [sg_g0]; decide)) (nm_r sg_p0 ?_)⟩)⟩)
  exact br_f (by decide) (br_t (by decide) (nm_r sg_p1 (br_t (by decide) (nm_r sg_p1 (br_t (by decide) H)))))
theorem sg_usersN {post : St2 → Prop} (H : post (1, 1, hv, ch, kt, ov, tc, lv, wt, sg_ar 0 k, a2, a3, a4, a5, sg_ar 0 0, a7, a8, a9, a10)) : ∃ fu, wX_arrange_82 post 1 1 hv ch kt ov tc lv wt fu 0 (sg_ar 0 k) a2 a3 a4 a5 (sg_ar 0 0) a7 a8 a9 a10 :=
  ⟨2, br_f (by decide) (sg_pt0 ⟨2, br_f (by decide) (br_t (by decide) (nm_r sg_p0 (br_t (by decide) (nm_r sg_p0 (br_t (by decide) H)))))⟩)⟩
theorem sg_arr0 {post : St2 → Prop} (hp : ∀ (f : Int32 → Prop) (b5 b6 : Nat → Int32), f 0 → wpX_partsOf f (2, 1, hv, ch, kt, ov, tc, lv, wt, sg_ar 0 k, a2, a3, a4, b5, b6, a7, a8, a9, a10) 1) (H : post (2, 1, hv, ch, kt, ov, tc, lv, wt, sg_ar 0 k, a2, a3, a4, sg_ar 0 0, sg_ar 0 0, a7, a8, a9, a10)) : wpX_arrange post (2, 0, hv, ch, kt, ov, tc, lv, wt, sg_ar 0 k, a2, a3, a4, sg_ar 0 0, sg_ar 0 0, a7, a8, a9, a10) := by
  refine br_t rfl ⟨3, br_f (by decide) ⟨sg_i0, nm_r (sg_s0 rfl) ⟨sg_i0, nm_r (sg_s0 rfl) (nm_r sg_p0 ?_)⟩⟩⟩
  refine br_f (by decide) ⟨sg_i1, nm_r (sg_s1 rfl) ⟨sg_i1, nm_r (sg_s1 rfl) (nm_r sg_p1 (br_t (by decide) ⟨3, br_f (by decide) ⟨3, ?_⟩⟩))⟩⟩
  refine br_f (by decide) (sg_raise0 (br_t rfl (nm_r sg_p0 ?_)))
  exact br_f (by decide) (sg_raise1a hp (br_t rfl (nm_r sg_p1 (br_t (by decide) (br_t rfl (sg_users0 hp H))))))
theorem sg_arr1 {post : St2 → Prop} (hp : ∀ (f : Int32 → Prop) (b5 b6 : Nat → Int32), f 1 → wpX_partsOf f (2, 1, hv, ch, kt, ov, tc, lv, wt, sg_ar 0 k, a2, a3, a4, b5, b6, a7, a8, a9, a10) 1) (H : post (2, 1, hv, ch, kt, ov, tc, lv, wt, sg_ar 0 k, a2, a3, a4, sg_ar 0 1, sg_ar 2 0, a7, a8, a9, a10)) : wpX_arrange post (2, 0, hv, ch, kt, ov, tc, lv, wt, sg_ar 0 k, a2, a3, a4, sg_ar 0 0, sg_ar 0 0, a7, a8, a9, a10) := by
  refine br_t rfl ⟨3, br_f (by decide) ⟨sg_i0, nm_r (sg_s0 rfl) ⟨sg_i0, nm_r (sg_s0 rfl) (nm_r sg_p0 ?_)⟩⟩⟩
  refine br_f (by decide) ⟨sg_i1, nm_r (sg_s1 rfl) ⟨sg_i1, nm_r (sg_s1 rfl) (nm_r sg_p1 (br_t (by decide) ⟨3, br_f (by decide) ⟨3, ?_⟩⟩))⟩⟩
  refine br_f (by decide) (sg_raise0 (br_t rfl (nm_r sg_p0 ?_)))
  refine br_f (by decide) (sg_raise1b hp (br_f (by decide) (nm_r sg_p1 (br_t (by decide) (br_f (by decide) ⟨3, ?_⟩)))))
  refine br_f (by decide) (sg_raise0 (br_t rfl (nm_r sg_p0 ?_)))
  exact br_f (by decide) (sg_raise1c hp (br_t rfl (nm_r sg_p1 (br_t (by decide) (br_t rfl (sg_users1 hp H))))))
theorem sg_arrN {post : St2 → Prop} (H : post (1, 1, hv, ch, kt, ov, tc, lv, wt, sg_ar 0 k, a2, a3, a4, sg_ar 0 0, sg_ar 0 0, a7, a8, a9, a10)) : wpX_arrange post (1, 0, hv, ch, kt, ov, tc, lv, wt, sg_ar 0 k, a2, a3, a4, sg_ar 0 0, sg_ar 0 0, a7, a8, a9, a10) :=
  br_t rfl ⟨2, br_f (by decide) ⟨sg_i0, nm_r (sg_s0 rfl) ⟨sg_i0, nm_r (sg_s0 rfl) (nm_r sg_p0 (br_t (by decide)
    ⟨2, br_f (by decide) ⟨2, br_f (by decide) (sg_raise1n (br_t rfl (nm_r sg_p0 (br_t (by decide) (br_t rfl (sg_usersN H))))))⟩⟩))⟩⟩⟩
end SG3
end
section
section SG4
variable {n ar hv ch kt ov tc lv wt : Int32} {a1 a2 a3 a4 a5 a6 a7 a8 a9 a10 : Nat → Int32} {k x y z v w r q : Int32}
theorem sg_hasAny {post : Int32 → Prop} (H : ∀ r, post r) : wpX_has post (n, ar, hv, ch, kt, ov, tc, lv, wt, a1, a2, a3, a4, a5, a6, a7, a8, a9, a10) x := br_c (fun _ => H 0) (fun _ => H 1)
theorem sg_keep {post : St2 → Prop} (e : x = 0) (H : ∀ (kt : Int32) (b9 : Nat → Int32), post (n, ar, hv, ch, kt, ov, tc, lv, wt, a1, a2, a3, a4, a5, a6, a7, a8, b9, a10)) : wpX_keep post (n, ar, hv, ch, kt, ov, tc, lv, wt, a1, a2, a3, a4, a5, a6, a7, a8, a9, a10) 1 x := by
  subst e
  unfold wpX_keep
  exact sg_hasAny (fun r => br_c (fun _ => nm_e (H _ _)) (fun _ => ⟨sg_i0, sg_i1, nm_e (nm_e (H _ _))⟩))
theorem sg_f141 {post : St2 → Prop} (hx : k = 11 → x = 0) (H : ∀ (kt : Int32) (b9 : Nat → Int32), post (2, ar, hv, ch, kt, ov, tc, lv, wt, sg_ar 0 k, sg_ar 99 x, a3, a4, a5, a6, a7, a8, b9, a10)) : ∃ fu, wX_finish_141 post fu 0 2 ar hv ch kt ov tc lv wt (sg_ar 0 k) (sg_ar 99 x) a3 a4 a5 a6 a7 a8 a9 a10 :=
  ⟨3, br_f (by decide) ⟨sg_i0, br_f (by rw [sg_g0]; decide) (nm_r sg_p0 (br_f (by decide) ⟨sg_i1, br_c (fun e => ⟨sg_i1, sg_keep ((sg_g1 99 x).trans (hx ((sg_g1 0 k).symm.trans e))) (fun kt b9 => nm_r sg_p1 (br_t (by decide) (H kt b9)))⟩) (fun _ => nm_r sg_p1 (br_t (by decide) (H kt a9)))⟩))⟩⟩
theorem sg_f109 {post : St2 → Prop} {J : Int32 → Int32 → Int32 → (Nat → Int32) → (Nat → Int32) → (Nat → Int32) → (Nat → Int32) → (Nat → Int32) → (Nat → Int32) → (Nat → Int32) → (Nat → Int32) → (Nat → Int32) → (Nat → Int32) → Prop} (H : ∀ (kt ov : Int32) (b9 : Nat → Int32), J 2 kt ov a1 a2 a3 a4 a5 a6 a7 a8 b9 a10) : wX_finish_109 post J 1 2 x n ar hv ch kt ov tc lv wt a1 a2 a3 a4 a5 a6 a7 a8 a9 a10 :=
  br_c (fun _ => sg_hasAny (fun r => br_c (fun _ => nm_r sg_p1 (H _ _ _)) (fun _ => nm_e (nm_r sg_p1 (H _ _ _))))) (fun _ => nm_r sg_p1 (H _ _ _))
theorem sg_f54 {post : St2 → Prop} {J : Int32 → Int32 → Int32 → (Nat → Int32) → (Nat → Int32) → (Nat → Int32) → (Nat → Int32) → (Nat → Int32) → (Nat → Int32) → (Nat → Int32) → (Nat → Int32) → (Nat → Int32) → (Nat → Int32) → Prop} (H : ∀ (kt ov : Int32) (b9 : Nat → Int32), J 2 kt ov a1 a2 a3 a4 a5 a6 a7 a8 b9 a10) : wX_finish_54 post J 1 2 n ar hv ch kt ov tc lv wt a1 a2 a3 a4 a5 a6 a7 a8 a9 a10 :=
  ⟨sg_i1, nm_e (br_c (fun _ => nm_e (nm_r sg_p1 (H _ _ _))) (fun _ => br_c (fun _ => sg_hasAny (fun r => br_c (fun _ => sg_f109 H) (fun _ => ⟨sg_i1, sg_i1, nm_e (nm_r sg_p1 (H _ _ _))⟩))) (fun _ => sg_f109 H)))⟩
/-- behind the heights: finish and the count; node 1 has nothing, has a value, or changes -/
theorem sg_146a {post : Int32 → St2 → Prop} (hx : k = 11 → x = 0) (H : ∀ (kt ov : Int32) (b9 : Nat → Int32), post 1 (2, 1, 1, 0, kt, ov, tc, lv, wt, sg_ar 0 k, sg_ar 99 x, a3, a4, a5, a6, a7, a8, b9, sg_ar 1 0)) : wX_commit_146 post 2 1 1 0 kt ov tc lv wt (sg_ar 0 k) (sg_ar 99 x) a3 a4 a5 a6 a7 a8 a9 (sg_ar 0 0) := by
  refine ⟨3, br_f (by decide) (nm_r (e' := 1) (by decide) (br_t (by decide) ?_))⟩
  refine br_f (by decide) ⟨sg_i0, sg_i0, nm_r (sg_s0 (r' := 1) (by rw [sg_g0]; decide)) ?_⟩
  refine ⟨sg_i0, nm_r (sg_g0 0 k) (br_t rfl (nm_e (nm_r sg_p0 ?_)))⟩
  refine br_f (by decide) (nm_r (e' := 2) (by decide) ?_)
  refine br_t (by decide) (br_t (by decide) ?_)
  refine sg_f54 (fun kt ov b9 => br_t (by decide) (sg_f141 hx (fun kt b9 => ?_)))
  exact ⟨3, br_f (by decide) (br_f (by decide) (nm_r sg_p0 (nm_r sg_p0 (br_f (by decide) (br_t (by decide) (nm_r sg_p1 (br_t (by decide) (H _ _ _))))))))⟩
theorem sg_146b {post : Int32 → St2 → Prop} (hx : k = 11 → x = 0) (H : ∀ (kt ov : Int32) (b9 : Nat → Int32), post 2 (2, 1, 3, 0, kt, ov, tc, lv, wt, sg_ar 0 k, sg_ar 99 x, a3, a4, a5, a6, a7, a8, b9, sg_ar 1 1)) : wX_commit_146 post 2 1 3 0 kt ov tc lv wt (sg_ar 0 k) (sg_ar 99 x) a3 a4 a5 a6 a7 a8 a9 (sg_ar 0 0) := by
  refine ⟨3, br_f (by decide) (nm_r (e' := 1) (by decide) (br_t (by decide) ?_))⟩
  refine br_f (by decide) ⟨sg_i0, sg_i0, nm_r (sg_s0 (r' := 1) (by rw [sg_g0]; decide)) ?_⟩
  refine ⟨sg_i0, nm_r (sg_g0 0 k) (br_t rfl (nm_e (nm_r sg_p0 ?_)))⟩
  refine br_f (by decide) (nm_r (e' := 2) (by decide) ?_)
  refine br_t (by decide) (br_f (by decide) ⟨sg_i1, sg_i1, nm_r (sg_s1 (r' := 1) (by rw [sg_g1]; decide)) ?_⟩)
  refine sg_f54 (fun kt ov b9 => br_t (by decide) (sg_f141 hx (fun kt b9 => ?_)))
  exact ⟨3, br_f (by decide) (br_f (by decide) (nm_r sg_p0 (nm_r sg_p0 (br_f (by decide) (br_f (by decide) (nm_r sg_p1 (nm_r sg_p1 (br_t (by decide) (H _ _ _)))))))))⟩
theorem sg_146c {post : Int32 → St2 → Prop} (hx : k = 11 → x = 0) (H : ∀ (kt ov : Int32) (b9 : Nat → Int32), post 1 (2, 1, 1, 2, kt, ov, tc, lv, wt, sg_ar 0 k, sg_ar 99 x, a3, a4, a5, a6, sg_ar v w, sg_ar q w, b9, sg_ar 1 0)) : wX_commit_146 post 2 1 1 2 kt ov tc lv wt (sg_ar 0 k) (sg_ar 99 x) a3 a4 a5 a6 (sg_ar v r) (sg_ar q w) a9 (sg_ar 0 0) := by
  refine ⟨3, br_f (by decide) (nm_r (e' := 1) (by decide) (br_t (by decide) ?_))⟩
  refine br_f (by decide) ⟨sg_i0, sg_i0, nm_r (sg_s0 (r' := 1) (by rw [sg_g0]; decide)) ?_⟩
  refine ⟨sg_i0, nm_r (sg_g0 0 k) (br_t rfl (nm_e (nm_r sg_p0 ?_)))⟩
  refine br_f (by decide) (nm_r (e' := 2) (by decide) ?_)
  refine br_f (by decide) ⟨sg_i1, sg_i1, nm_r (sg_s1 (sg_g1 q w)) (br_t (by decide) ?_)⟩
  refine sg_f54 (fun kt ov b9 => br_t (by decide) (sg_f141 hx (fun kt b9 => ?_)))
  exact ⟨3, br_f (by decide) (br_f (by decide) (nm_r sg_p0 (nm_r sg_p0 (br_f (by decide) (br_t (by decide) (nm_r sg_p1 (br_t (by decide) (H _ _ _))))))))⟩
/-- the source is looked at -/
theorem sg_look0 {post : St2 → Prop} (H : post (n, ar, 1, 0, 1, ov, tc, lv, q, sg_ar 0 k, a2, a3, a4, a5, sg_ar q w, sg_ar v y, a8, sg_ar v z, a10)) : wpX_look post (n, ar, 0, 0, 1, ov, tc, lv, 1, sg_ar 0 k, a2, a3, a4, a5, sg_ar q w, sg_ar r y, a8, sg_ar v z, a10) 0 := by
  refine nm_r (e' := 0) (by decide) ⟨sg_i0, sg_ck0 (by rw [sg_g0]; decide) (by rw [sg_g0]; decide) (by rw [sg_g0]; decide) (by rw [sg_g0]; decide) (br_t rfl ?_)⟩
  refine ⟨sg_i0, nm_r (sg_g0 0 k) ⟨sg_i0, nm_e (br_t rfl ?_)⟩⟩
  refine br_f (by decide) ⟨sg_i0, ?_⟩
  refine nm_r (e' := 1) (by decide) ⟨sg_i0, nm_r (sg_s0 (sg_g0 v z)) (br_f (by decide) ?_)⟩
  exact br_f (by decide) ⟨sg_i0, nm_r (e' := q) (by rw [sg_g0]; exact Int32.zero_or) H⟩
theorem sg_give1 {post : Int32 → St2 → Prop} (e : x = w) (H : post 1 (n, ar, 3, ch, kt, ov, tc, lv, wt, a1, a2, a3, a4, a5, a6, sg_ar v w, a8, a9, a10)) : wpX_give post (n, ar, 1, ch, kt, ov, tc, lv, wt, a1, a2, a3, a4, a5, a6, sg_ar v q, a8, a9, a10) 1 x :=
  nm_r (e' := 3) (by decide) ⟨sg_i1, nm_r (sg_s1 e) H⟩
/-- node 1 is looked at: an event -/
theorem sg_lookE {post : St2 → Prop} {b7 : Nat → Int32} (hc : ¬ k = 4 ∧ ¬ k = 6 ∧ ¬ k = 13 ∧ ¬ k = 14) (he : ∀ f : Int32 → St2 → Prop, f r (2, 1, hv, 0, 1, 0, tc, lv, 0, sg_ar 0 k, sg_ar 99 0, sg_ar 99 y, sg_ar 99 z, a5, sg_ar 2 0, b7, a8, sg_ar v 0, a10) → wpX_lookAtEvent f (2, 1, 1, 0, 1, 0, tc, lv, 0, sg_ar 0 k, sg_ar 99 0, sg_ar 99 y, sg_ar 99 z, a5, sg_ar 2 0, sg_ar v 0, a8, sg_ar v 0, a10) 1)
    (H : post (2, 1, hv, 0, 1, 0, tc, lv, 0, sg_ar 0 k, sg_ar 99 0, sg_ar 99 y, sg_ar 99 z, a5, sg_ar 2 0, b7, a8, sg_ar v 0, a10)) : wpX_look post (2, 1, 1, 0, 1, 0, tc, lv, 2, sg_ar 0 k, sg_ar 99 0, sg_ar 99 y, sg_ar 99 z, a5, sg_ar 2 0, sg_ar v 0, a8, sg_ar v 0, a10) 1 :=
  nm_r (e' := 0) (by decide) ⟨sg_i1, sg_ck0 (by rw [sg_g1]; exact hc.1) (by rw [sg_g1]; exact hc.2.1) (by rw [sg_g1]; exact hc.2.2.1) (by rw [sg_g1]; exact hc.2.2.2) (br_t rfl (he _ (br_c (fun _ => H) (fun _ => ⟨sg_i1, nm_r (e' := 0) (by rw [sg_g1]; decide) H⟩))))⟩
theorem sg_ev1 {post : Int32 → St2 → Prop} (H : post 1 (2, 1, 3, 0, 1, 0, tc, lv, 0, sg_ar 0 1, sg_ar 99 0, sg_ar 99 y, sg_ar 99 z, a5, a6, sg_ar v (v * y + z), a8, sg_ar v 0, a10)) : wpX_lookAtEvent post (2, 1, 1, 0, 1, 0, tc, lv, 0, sg_ar 0 1, sg_ar 99 0, sg_ar 99 y, sg_ar 99 z, a5, a6, sg_ar v 0, a8, sg_ar v 0, a10) 1 := by
  refine ⟨sg_i1, nm_r (sg_g1 0 1) ⟨sg_i1, nm_r (sg_g1 99 0) (br_f (by decide) (br_f (by decide) (br_f (by decide) (br_f (by decide) (br_f (by decide) ?_)))))⟩⟩
  refine br_f (by decide) (br_f (by decide) ⟨sg_i0, nm_r (sg_g0 v 0) ?_⟩)
  exact br_t rfl ⟨sg_i1, sg_i1, sg_give1 (w := v * y + z) (by rw [sg_g1, sg_g1]) ⟨narrow_b1, H⟩⟩
theorem sg_ev2a {post : Int32 → St2 → Prop} (h : ¬ v < y) (H : post 1 (2, 1, 3, 0, 1, 0, tc, lv, 0, sg_ar 0 2, sg_ar 99 0, sg_ar 99 y, sg_ar 99 z, a5, a6, sg_ar v v, a8, sg_ar v 0, a10)) : wpX_lookAtEvent post (2, 1, 1, 0, 1, 0, tc, lv, 0, sg_ar 0 2, sg_ar 99 0, sg_ar 99 y, sg_ar 99 z, a5, a6, sg_ar v 0, a8, sg_ar v 0, a10) 1 := by
  refine ⟨sg_i1, nm_r (sg_g1 0 2) ⟨sg_i1, nm_r (sg_g1 99 0) (br_f (by decide) (br_f (by decide) (br_f (by decide) (br_f (by decide) (br_f (by decide) ?_)))))⟩⟩
  refine br_f (by decide) (br_f (by decide) ⟨sg_i0, nm_r (sg_g0 v 0) ?_⟩)
  exact br_f (by decide) (br_t rfl ⟨sg_i1, br_f (by rw [sg_g1]; exact h) (sg_give1 rfl (br_f (by decide) H))⟩)
theorem sg_ev2b {post : Int32 → St2 → Prop} (h : v < y) (H : post 0 (2, 1, 1, 0, 1, 0, tc, lv, 0, sg_ar 0 2, sg_ar 99 0, sg_ar 99 y, sg_ar 99 z, a5, a6, sg_ar v 0, a8, sg_ar v 0, a10)) : wpX_lookAtEvent post (2, 1, 1, 0, 1, 0, tc, lv, 0, sg_ar 0 2, sg_ar 99 0, sg_ar 99 y, sg_ar 99 z, a5, a6, sg_ar v 0, a8, sg_ar v 0, a10) 1 := by
  refine ⟨sg_i1, nm_r (sg_g1 0 2) ⟨sg_i1, nm_r (sg_g1 99 0) (br_f (by decide) (br_f (by decide) (br_f (by decide) (br_f (by decide) (br_f (by decide) ?_)))))⟩⟩
  refine br_f (by decide) (br_f (by decide) ⟨sg_i0, nm_r (sg_g0 v 0) ?_⟩)
  exact br_f (by decide) (br_t rfl ⟨sg_i1, br_t (by rw [sg_g1]; exact h) H⟩)
theorem sg_ev8 {post : Int32 → St2 → Prop} (H : post 1 (2, 1, 3, 0, 1, 0, tc, lv, 0, sg_ar 0 8, sg_ar 99 0, sg_ar 99 y, sg_ar 99 z, a5, a6, sg_ar v v, a8, sg_ar v 0, a10)) : wpX_lookAtEvent post (2, 1, 1, 0, 1, 0, tc, lv, 0, sg_ar 0 8, sg_ar 99 0, sg_ar 99 y, sg_ar 99 z, a5, a6, sg_ar v 0, a8, sg_ar v 0, a10) 1 := by
  refine ⟨sg_i1, nm_r (sg_g1 0 8) ⟨sg_i1, nm_r (sg_g1 99 0) (br_f (by decide) (br_f (by decide) (br_f (by decide) (br_f (by decide) (br_f (by decide) ?_)))))⟩⟩
  refine br_f (by decide) (br_f (by decide) ⟨sg_i0, nm_r (sg_g0 v 0) ?_⟩)
  exact br_f (by decide) (br_f (by decide) (br_f (by decide) (br_f (by decide) (br_t rfl ⟨sg_i1, sg_give1 (w := v) (by rw [sg_g1]; exact Int32.zero_add v) ⟨narrow_b1, H⟩⟩))))
theorem sg_ev12 {post : Int32 → St2 → Prop} (H : post 1 (2, 1, 3, 0, 1, 0, tc, lv, 0, sg_ar 0 12, sg_ar 99 0, sg_ar 99 y, sg_ar 99 z, a5, a6, sg_ar v v, a8, sg_ar v 0, a10)) : wpX_lookAtEvent post (2, 1, 1, 0, 1, 0, tc, lv, 0, sg_ar 0 12, sg_ar 99 0, sg_ar 99 y, sg_ar 99 z, a5, a6, sg_ar v 0, a8, sg_ar v 0, a10) 1 := by
  refine ⟨sg_i1, nm_r (sg_g1 0 12) ⟨sg_i1, nm_r (sg_g1 99 0) (br_f (by decide) (br_f (by decide) (br_f (by decide) (br_f (by decide) (br_f (by decide) ?_)))))⟩⟩
  refine br_f (by decide) (br_f (by decide) ⟨sg_i0, nm_r (sg_g0 v 0) ?_⟩)
  exact br_f (by decide) (br_f (by decide) (br_f (by decide) (br_f (by decide) (br_f (by decide) (br_t (by decide) (sg_give1 rfl (br_f (by decide) H)))))))
theorem sg_ev3 {post : Int32 → St2 → Prop} (H : post 1 (2, 1, 3, 0, 1, 0, tc, lv, 0, sg_ar 0 3, sg_ar 99 0, sg_ar 99 0, sg_ar 99 z, a5, a6, sg_ar v (v + v), a8, sg_ar v 0, a10)) : wpX_lookAtEvent post (2, 1, 1, 0, 1, 0, tc, lv, 0, sg_ar 0 3, sg_ar 99 0, sg_ar 99 0, sg_ar 99 z, a5, a6, sg_ar v 0, a8, sg_ar v 0, a10) 1 := by
  refine ⟨sg_i1, nm_r (sg_g1 0 3) ⟨sg_i1, nm_r (sg_g1 99 0) (br_f (by decide) (br_f (by decide) (br_f (by decide) (br_f (by decide) (br_t rfl ⟨sg_i1, ?_⟩)))))⟩⟩
  rw [sg_g1]
  refine br_f (by decide) (br_f (by decide) (br_f (by decide) (br_f (by decide) ⟨sg_i0, sg_i0, ?_⟩)))
  exact sg_give1 (w := v + v) (by rw [sg_g0]) ⟨narrow_b1, ⟨narrow_b1, H⟩⟩
/-- node 1 is looked at: a hold over the source -/
theorem sg_look4 {post : St2 → Prop} (H0 : v = y → post (2, 1, 1, 0, 1, 0, tc, lv, 0, sg_ar 0 4, sg_ar 99 0, sg_ar 99 y, sg_ar 99 z, a5, sg_ar 2 0, sg_ar v y, sg_ar 0 0, sg_ar v 0, a10)) (H1 : ¬ v = y → post (2, 1, 1, 2, 1, 0, tc, lv, 0, sg_ar 0 4, sg_ar 99 0, sg_ar 99 y, sg_ar 99 z, a5, sg_ar 2 0, sg_ar v y, sg_ar 0 v, sg_ar v 0, a10)) :
    wpX_look post (2, 1, 1, 0, 1, 0, tc, lv, 2, sg_ar 0 4, sg_ar 99 0, sg_ar 99 y, sg_ar 99 z, a5, sg_ar 2 0, sg_ar v y, sg_ar 0 0, sg_ar v 0, a10) 1 := by
  refine nm_r (e' := 0) (by decide) ⟨sg_i1, br_t (sg_g1 0 4) (br_f (by decide) ?_)⟩
  refine ⟨sg_i1, nm_r (sg_g1 v y) ⟨sg_i1, br_t (sg_g1 0 4) ⟨sg_i1, br_f (by rw [sg_g1]; decide) ⟨sg_i1, ?_⟩⟩⟩⟩
  rw [sg_g1]
  refine br_f (by decide) (br_f (by decide) ⟨sg_i1, sg_i0, nm_r (sg_g0 v y) ?_⟩)
  refine ⟨sg_i1, br_c (fun e => br_t rfl (H0 (e.trans (sg_g1 v y)))) (fun e => ⟨sg_i1, nm_r (sg_s1 rfl) (nm_r (e' := 2) (by decide) ?_)⟩)⟩
  exact br_f (by decide) ⟨sg_i1, nm_r (e' := 0) (by rw [sg_g1]; decide) (H1 (fun t => e (t.trans (sg_g1 v y).symm)))⟩
end SG4
end
section
section SG5
variable {n ar hv ch kt ov tc lv wt : Int32} {a1 a2 a3 a4 a5 a6 a7 a8 a9 a10 : Nat → Int32} {k x y z v w r q : Int32}
theorem sg_st0 {post : Int32 → Prop} (H : post 1) : wpX_startsByItself post (n, ar, hv, ch, 1, ov, tc, lv, wt, sg_ar 0 k, a2, a3, a4, a5, a6, a7, a8, a9, a10) 0 := ⟨sg_i0, br_t (sg_g0 0 k) (br_f (by decide) H)⟩
theorem sg_st1 {post : Int32 → Prop} (H : post 0) : wpX_startsByItself post (n, ar, hv, ch, 1, ov, tc, lv, wt, a1, a2, a3, a4, a5, a6, a7, a8, a9, a10) 1 := ⟨sg_i1, br_c (fun _ => br_t (by decide) H) (fun _ => ⟨sg_i1, br_c (fun _ => br_t (by decide) H) (fun _ => H)⟩)⟩
/-- node 1 has no parts -/
theorem sg_commit0 {post : Int32 → St2 → Prop} (hp : ∀ (f : Int32 → Prop) (b5 b6 : Nat → Int32), f 0 → wpX_partsOf f (2, 1, 0, 0, 1, 0, 0, 1, 0, sg_ar 0 k, a2, a3, a4, b5, b6, sg_ar 0 w, a8, sg_ar v 0, a10) 1) (H : wX_commit_146 post 2 1 1 0 1 0 1 1 0 (sg_ar 0 k) a2 a3 a4 (sg_ar 0 0) (sg_ar 0 0) (sg_ar v w) a8 (sg_ar v 0) a10) : wpX_commit post (2, 0, 0, 0, 1, 0, 0, 1, 0, sg_ar 0 k, a2, a3, a4, sg_ar 0 0, sg_ar 0 0, sg_ar 0 w, a8, sg_ar v 0, a10) := by
  unfold wpX_commit
  refine sg_arr0 hp (nm_r sg_p0 (br_f (by decide) ⟨3, ?_⟩))
  refine br_f (by decide) (sg_st0 (br_f (by decide) (nm_r (e' := 1) (by decide) (nm_r sg_p0 ?_))))
  refine br_f (by decide) (sg_st1 (br_t rfl (nm_r sg_p1 (br_t (by decide) ⟨2, ?_⟩))))
  refine br_f (by decide) (br_f (by decide) ⟨3, ?_⟩)
  refine br_f (by decide) (br_f (by decide) ⟨sg_i0, br_t (sg_g0 0 0) (sg_look0 (nm_r sg_p0 ?_))⟩)
  refine br_f (by decide) (br_t (by decide) (nm_r sg_p1 (br_t (by decide) (nm_r sg_p0 ?_))))
  exact br_f (by decide) (br_t rfl H)
/-- node 1 lies over node 0 -/
theorem sg_commit1 {post : Int32 → St2 → Prop} (hp : ∀ (f : Int32 → Prop) (b5 b6 : Nat → Int32), f 1 → wpX_partsOf f (2, 1, 0, 0, 1, 0, 0, 1, 0, sg_ar 0 k, a2, a3, a4, b5, b6, sg_ar 0 w, a8, sg_ar v 0, a10) 1)
    (H : ∀ f : St2 → Prop, (∀ (hv ch : Int32) (b7 b8 : Nat → Int32), wX_commit_146 post 2 1 hv ch 1 0 1 1 0 (sg_ar 0 k) a2 a3 a4 (sg_ar 0 1) (sg_ar 2 0) b7 b8 (sg_ar v 0) a10 → f (2, 1, hv, ch, 1, 0, 1, 1, 0, sg_ar 0 k, a2, a3, a4, sg_ar 0 1, sg_ar 2 0, b7, b8, sg_ar v 0, a10)) → wpX_look f (2, 1, 1, 0, 1, 0, 1, 1, 2, sg_ar 0 k, a2, a3, a4, sg_ar 0 1, sg_ar 2 0, sg_ar v w, a8, sg_ar v 0, a10) 1) : wpX_commit post (2, 0, 0, 0, 1, 0, 0, 1, 0, sg_ar 0 k, a2, a3, a4, sg_ar 0 0, sg_ar 0 0, sg_ar 0 w, a8, sg_ar v 0, a10) := by
  unfold wpX_commit
  refine sg_arr1 hp (nm_r sg_p0 (br_f (by decide) ⟨3, ?_⟩))
  refine br_f (by decide) (sg_st0 (br_f (by decide) (nm_r (e' := 1) (by decide) (nm_r sg_p0 ?_))))
  refine br_f (by decide) (sg_st1 (br_t rfl (nm_r sg_p1 (br_t (by decide) ⟨3, ?_⟩))))
  refine br_f (by decide) (br_f (by decide) ⟨3, ?_⟩)
  refine br_f (by decide) (br_f (by decide) ⟨sg_i0, br_t (sg_g0 0 1) (sg_look0 (nm_r sg_p0 ?_))⟩)
  refine br_f (by decide) (br_f (by decide) ⟨sg_i1, br_f (by rw [sg_g1]; decide) (nm_r sg_p1 (br_t (by decide) (nm_r sg_p0 ?_)))⟩)
  refine br_f (by decide) (br_f (by decide) ⟨3, br_f (by decide) (br_t (by decide) (nm_r sg_p0 ?_))⟩)
  refine br_f (by decide) (br_f (by decide) ⟨sg_i1, br_t (sg_g1 0 1) (H _ (fun hv ch b7 b8 hh => nm_r sg_p1 (br_t (by decide) (nm_r sg_p1 ?_))))⟩)
  exact br_f (by decide) (br_t rfl hh)
/-- the source alone -/
theorem sg_commitN {post : Int32 → St2 → Prop} (H : ∀ (hv ch kt ov tc wt : Int32) (b7 b10 : Nat → Int32), post 1 (1, 1, hv, ch, kt, ov, tc, 1, wt, sg_ar 0 k, a2, a3, a4, sg_ar 0 0, sg_ar 0 0, b7, a8, sg_ar v 0, b10)) : wpX_commit post (1, 0, 0, 0, 1, 0, 0, 1, 0, sg_ar 0 k, a2, a3, a4, sg_ar 0 0, sg_ar 0 0, sg_ar 0 w, a8, sg_ar v 0, a10) := by
  unfold wpX_commit
  refine sg_arrN (nm_r sg_p0 (br_f (by decide) ⟨2, ?_⟩))
  refine br_f (by decide) (sg_st0 (br_f (by decide) (nm_r (e' := 1) (by decide) (nm_r sg_p0 (br_t (by decide) ⟨2, ?_⟩)))))
  refine br_f (by decide) (br_f (by decide) ⟨2, ?_⟩)
  refine br_f (by decide) (br_f (by decide) ⟨sg_i0, br_t (sg_g0 0 0) (sg_look0 (nm_r sg_p0 (br_t (by decide) (nm_r sg_p0 ?_))))⟩)
  refine br_f (by decide) (br_t rfl ?_)
  refine ⟨2, br_f (by decide) (nm_r (e' := 1) (by decide) (br_t (by decide) (br_f (by decide) ⟨sg_i0, sg_i0, nm_e ?_⟩)))⟩
  refine ⟨sg_i0, nm_r (sg_g0 0 k) (br_t rfl (nm_e (nm_r sg_p0 (br_t (by decide) ⟨2, ?_⟩))))⟩
  refine br_f (by decide) ⟨sg_i0, br_f (by rw [sg_g0]; decide) (nm_r sg_p0 (br_t (by decide) ?_))⟩
  exact ⟨2, br_f (by decide) (br_f (by decide) (nm_r sg_p0 (nm_r sg_p0 (br_t (by decide) (H _ _ _ _ _ _ _ _)))))⟩
end SG5
end
section
section SG6
variable {n ar hv ch kt ov tc lv wt : Int32} {a1 a2 a3 a4 a5 a6 a7 a8 a9 a10 : Nat → Int32} {k x y z v w r q : Int32}
theorem sg_isEvent1 {post : Int32 → Prop} (hc : ¬ k = 4 ∧ ¬ k = 6 ∧ ¬ k = 13 ∧ ¬ k = 14) (H : post 1) : wpX_isEvent post (2, ar, hv, ch, kt, ov, tc, lv, wt, sg_ar 0 k, a2, a3, a4, a5, a6, a7, a8, a9, a10) 1 := by
  unfold wpX_isEvent
  exact sg_isNode (by decide) (by decide) (br_f (by decide) ⟨sg_i1, sg_ck0 (by rw [sg_g1]; exact hc.1) (by rw [sg_g1]; exact hc.2.1) (by rw [sg_g1]; exact hc.2.2.1) (by rw [sg_g1]; exact hc.2.2.2) (br_t rfl H)⟩)
theorem sg_val0 {post : Int32 → Prop} (hc : ¬ k = 4 ∧ ¬ k = 6 ∧ ¬ k = 13 ∧ ¬ k = 14) (H : post 0) : wpX_value post (2, ar, 1, ch, kt, ov, tc, lv, wt, sg_ar 0 k, a2, a3, a4, a5, a6, a7, a8, a9, a10) 1 := by
  unfold wpX_value
  exact sg_isNode (by decide) (by decide) (br_f (by decide) (sg_isEvent1 hc (br_f (by decide) (br_t (by decide) (br_t rfl H)))))
theorem sg_val1 {post : Int32 → Prop} (hc : ¬ k = 4 ∧ ¬ k = 6 ∧ ¬ k = 13 ∧ ¬ k = 14) (H : post w) : wpX_value post (2, ar, 3, ch, kt, ov, tc, lv, wt, sg_ar 0 k, a2, a3, a4, a5, a6, sg_ar v w, a8, a9, a10) 1 := by
  unfold wpX_value
  exact sg_isNode (by decide) (by decide) (br_f (by decide) (sg_isEvent1 hc (br_f (by decide) (br_f (by decide) (br_f (by decide) ⟨sg_i1, ek_v (P := post) (sg_g1 v w) H⟩)))))
theorem sg_val4 {post : Int32 → Prop} (H : post w) : wpX_value post (2, ar, hv, ch, kt, ov, tc, lv, wt, sg_ar 0 4, a2, a3, a4, a5, a6, sg_ar v w, a8, a9, a10) 1 := by
  unfold wpX_value
  refine sg_isNode (by decide) (by decide) (br_f (by decide) ?_)
  unfold wpX_isEvent
  exact sg_isNode (by decide) (by decide) (br_f (by decide) ⟨sg_i1, br_t (sg_g1 0 4) (br_f (by decide) (br_t rfl ⟨sg_i1, ek_v (P := post) (sg_g1 v w) H⟩))⟩)
theorem sg_valN {post : Int32 → Prop} (H : post 0) : wpX_value post (1, ar, hv, ch, kt, ov, tc, lv, wt, a1, a2, a3, a4, a5, a6, a7, a8, a9, a10) 1 := by
  unfold wpX_value
  exact sg_noNode (by decide) (br_t rfl H)
theorem sg_times {post : Int32 → Prop} (H : post w) : wpX_times post (2, ar, hv, ch, kt, ov, tc, lv, wt, a1, a2, a3, a4, a5, a6, a7, a8, a9, sg_ar q w) 1 := by
  unfold wpX_times
  exact sg_isNode (by decide) (by decide) (br_f (by decide) ⟨sg_i1, ek_v (P := post) (sg_g1 q w) H⟩)
theorem sg_timesN {post : Int32 → Prop} (H : post (-1)) : wpX_times post (1, ar, hv, ch, kt, ov, tc, lv, wt, a1, a2, a3, a4, a5, a6, a7, a8, a9, a10) 1 := by
  unfold wpX_times
  exact sg_noNode (by decide) (br_t rfl H)
/-- the runs of the law behind its tables -/
theorem sg_runN {post : Int32 → St0 → Prop} (hm : ¬ sg_made k x y) (H : post 1 ()) : wL_lawOf_213 post 11 259 k x y z v 0 w 0 0 0 := by
  refine ⟨by decide, by decide, 10, 240, by decide, by decide, sg_init (sg_node0 (br_t rfl (sg_nodeN hm (br_t rfl (br_t rfl ?_)))))⟩
  refine sg_fire (by decide) (br_f (by decide) (sg_commitN (fun hv ch kt ov tc wt b7 b10 => br_t rfl ?_)))
  exact br_t rfl (sg_valN (br_t rfl (br_t rfl (sg_timesN (br_t rfl (br_t rfl H))))))
theorem sg_run0 {post : Int32 → St0 → Prop} (H : post 1 ()) : wL_lawOf_213 post 11 259 0 x y z v 1 0 0 0 0 := by
  refine ⟨by decide, by decide, 10, 240, by decide, by decide, sg_init (sg_node0 (br_t rfl (sg_nodeE (by decide) (fun f hf => sg_fit0 hf) (br_f (by decide) (br_t rfl ?_)))))⟩
  refine sg_fire (by decide) (br_f (by decide) (sg_commit0 (fun f b5 b6 hf => sg_pt_0 hf) (sg_146a (fun t => absurd t (by decide)) (fun kt ov b9 => ?_))))
  exact br_t rfl (br_t rfl (sg_val0 (by decide) (br_f (by decide) (br_t rfl (sg_times (br_f (by decide) (br_t rfl (br_t rfl H))))))))
theorem sg_run11 {post : Int32 → St0 → Prop} (H : post 1 ()) : wL_lawOf_213 post 11 259 11 0 y z v 1 0 0 0 0 := by
  refine ⟨by decide, by decide, 10, 240, by decide, by decide, sg_init (sg_node0 (br_t rfl (sg_nodeE (by decide) (fun f hf => sg_fitE (by decide) hf) (br_f (by decide) (br_t rfl ?_)))))⟩
  refine sg_fire (by decide) (br_f (by decide) (sg_commit0 (fun f b5 b6 hf => sg_pt_11 hf) (sg_146a (fun _ => rfl) (fun kt ov b9 => ?_))))
  exact br_t rfl (br_t rfl (sg_val0 (by decide) (br_f (by decide) (br_t rfl (sg_times (br_f (by decide) (br_t rfl (br_t rfl H))))))))
theorem sg_run4b {post : Int32 → St0 → Prop} (H : post 1 ()) : wL_lawOf_213 post 11 259 4 (-1) y z v 1 y 0 0 0 := by
  refine ⟨by decide, by decide, 10, 240, by decide, by decide, sg_init (sg_node0 (br_t rfl (sg_node4 (fun f hf => sg_fit4b hf) (br_f (by decide) (br_t rfl ?_)))))⟩
  refine sg_fire (by decide) (br_f (by decide) (sg_commit0 (fun f b5 b6 hf => sg_pt_4b hf) (sg_146a (fun t => absurd t (by decide)) (fun kt ov b9 => ?_))))
  exact br_t rfl (br_t rfl (sg_val4 (br_f (by decide) (br_t rfl (sg_times (br_f (by decide) (br_t rfl (br_t rfl H))))))))
theorem sg_run1 {post : Int32 → St0 → Prop} (H : post 1 ()) : wL_lawOf_213 post 11 259 1 0 y z v 1 (v * y + z) 1 0 0 := by
  refine ⟨by decide, by decide, 10, 240, by decide, by decide, sg_init (sg_node0 (br_t rfl (sg_nodeE (by decide) (fun f hf => sg_fitE (by decide) hf) (br_f (by decide) (br_t rfl ?_)))))⟩
  refine sg_fire (by decide) (br_f (by decide) (sg_commit1 (fun f b5 b6 hf => sg_pt_g (by decide) hf) (fun f hf => sg_lookE (by decide) (fun g hg => sg_ev1 hg) (hf _ _ _ _ (sg_146b (fun t => absurd t (by decide)) (fun kt ov b9 => ?_))))))
  exact br_f (by decide) (br_t rfl (sg_val1 (by decide) (br_f (by decide) (br_t rfl (sg_times (br_f (by decide) (br_f (by decide) (br_t rfl H))))))))
theorem sg_run2a {post : Int32 → St0 → Prop} (h : ¬ v < y) (H : post 1 ()) : wL_lawOf_213 post 11 259 2 0 y z v 1 v 1 0 0 := by
  refine ⟨by decide, by decide, 10, 240, by decide, by decide, sg_init (sg_node0 (br_t rfl (sg_nodeE (by decide) (fun f hf => sg_fitE (by decide) hf) (br_f (by decide) (br_t rfl ?_)))))⟩
  refine sg_fire (by decide) (br_f (by decide) (sg_commit1 (fun f b5 b6 hf => sg_pt_g (by decide) hf) (fun f hf => sg_lookE (by decide) (fun g hg => sg_ev2a h hg) (hf _ _ _ _ (sg_146b (fun t => absurd t (by decide)) (fun kt ov b9 => ?_))))))
  exact br_f (by decide) (br_t rfl (sg_val1 (by decide) (br_f (by decide) (br_t rfl (sg_times (br_f (by decide) (br_f (by decide) (br_t rfl H))))))))
theorem sg_run2b {post : Int32 → St0 → Prop} (h : v < y) (H : post 1 ()) : wL_lawOf_213 post 11 259 2 0 y z v 1 0 0 0 0 := by
  refine ⟨by decide, by decide, 10, 240, by decide, by decide, sg_init (sg_node0 (br_t rfl (sg_nodeE (by decide) (fun f hf => sg_fitE (by decide) hf) (br_f (by decide) (br_t rfl ?_)))))⟩
  refine sg_fire (by decide) (br_f (by decide) (sg_commit1 (fun f b5 b6 hf => sg_pt_g (by decide) hf) (fun f hf => sg_lookE (by decide) (fun g hg => sg_ev2b h hg) (hf _ _ _ _ (sg_146a (fun t => absurd t (by decide)) (fun kt ov b9 => ?_))))))
  exact br_t rfl (br_t rfl (sg_val0 (by decide) (br_f (by decide) (br_t rfl (sg_times (br_f (by decide) (br_t rfl (br_t rfl H))))))))
theorem sg_run3 {post : Int32 → St0 → Prop} (H : post 1 ()) : wL_lawOf_213 post 11 259 3 0 0 z v 1 (v + v) 1 0 0 := by
  refine ⟨by decide, by decide, 10, 240, by decide, by decide, sg_init (sg_node0 (br_t rfl (sg_nodeE (by decide) (fun f hf => sg_fit3 hf) (br_f (by decide) (br_t rfl ?_)))))⟩
  refine sg_fire (by decide) (br_f (by decide) (sg_commit1 (fun f b5 b6 hf => sg_pt_3 hf) (fun f hf => sg_lookE (by decide) (fun g hg => sg_ev3 hg) (hf _ _ _ _ (sg_146b (fun t => absurd t (by decide)) (fun kt ov b9 => ?_))))))
  exact br_f (by decide) (br_t rfl (sg_val1 (by decide) (br_f (by decide) (br_t rfl (sg_times (br_f (by decide) (br_f (by decide) (br_t rfl H))))))))
theorem sg_run8 {post : Int32 → St0 → Prop} (H : post 1 ()) : wL_lawOf_213 post 11 259 8 0 y z v 1 v 1 0 0 := by
  refine ⟨by decide, by decide, 10, 240, by decide, by decide, sg_init (sg_node0 (br_t rfl (sg_nodeE (by decide) (fun f hf => sg_fitE (by decide) hf) (br_f (by decide) (br_t rfl ?_)))))⟩
  refine sg_fire (by decide) (br_f (by decide) (sg_commit1 (fun f b5 b6 hf => sg_pt_g (by decide) hf) (fun f hf => sg_lookE (by decide) (fun g hg => sg_ev8 hg) (hf _ _ _ _ (sg_146b (fun t => absurd t (by decide)) (fun kt ov b9 => ?_))))))
  exact br_f (by decide) (br_t rfl (sg_val1 (by decide) (br_f (by decide) (br_t rfl (sg_times (br_f (by decide) (br_f (by decide) (br_t rfl H))))))))
theorem sg_run12 {post : Int32 → St0 → Prop} (H : post 1 ()) : wL_lawOf_213 post 11 259 12 0 y z v 1 v 1 0 0 := by
  refine ⟨by decide, by decide, 10, 240, by decide, by decide, sg_init (sg_node0 (br_t rfl (sg_nodeE (by decide) (fun f hf => sg_fitE (by decide) hf) (br_f (by decide) (br_t rfl ?_)))))⟩
  refine sg_fire (by decide) (br_f (by decide) (sg_commit1 (fun f b5 b6 hf => sg_pt_g (by decide) hf) (fun f hf => sg_lookE (by decide) (fun g hg => sg_ev12 hg) (hf _ _ _ _ (sg_146b (fun t => absurd t (by decide)) (fun kt ov b9 => ?_))))))
  exact br_f (by decide) (br_t rfl (sg_val1 (by decide) (br_f (by decide) (br_t rfl (sg_times (br_f (by decide) (br_f (by decide) (br_t rfl H))))))))
theorem sg_run4a {post : Int32 → St0 → Prop} (H : post 1 ()) : wL_lawOf_213 post 11 259 4 0 y z v 1 v 0 0 0 := by
  refine ⟨by decide, by decide, 10, 240, by decide, by decide, sg_init (sg_node0 (br_t rfl (sg_node4 (fun f hf => sg_fit4a hf) (br_f (by decide) (br_t rfl ?_)))))⟩
  refine sg_fire (by decide) (br_f (by decide) (sg_commit1 (fun f b5 b6 hf => sg_pt_4a hf) (fun f hf => sg_look4 (fun e => hf _ _ _ _ ?_) (fun _ => hf _ _ _ _ (sg_146c (fun t => absurd t (by decide)) (fun kt ov b9 => ?_))))))
  · subst e
    refine sg_146a (fun t => absurd t (by decide)) (fun kt ov b9 => ?_)
    exact br_t rfl (br_t rfl (sg_val4 (br_f (by decide) (br_t rfl (sg_times (br_f (by decide) (br_t rfl (br_t rfl H))))))))
  · exact br_t rfl (br_t rfl (sg_val4 (br_f (by decide) (br_t rfl (sg_times (br_f (by decide) (br_t rfl (br_t rfl H))))))))
end SG6
end
section
section SG7
variable {post : Int32 → St0 → Prop} {k x y z v w q : Int32}
/-- not made: whatever is due -/
theorem sg_82N (hm : ¬ sg_made k x y) (H : post 1 ()) : wL_lawOf_82 post 11 259 k x y z v q 0 0 0 := by
  have go : ∀ w, wL_lawOf_168 post 11 259 k x y z v 0 w 0 0 := fun w => br_t rfl (sg_runN hm H)
  exact br_c (fun _ => go _) (fun _ => br_c (fun _ => br_c (fun _ => go _) (fun _ => go _)) (fun _ => br_c (fun _ => go _) (fun _ => br_c (fun _ => br_c (fun _ => go _) (fun _ => go _)) (fun _ => br_c (fun _ => go _) (fun _ => br_c (fun _ => go _) (fun _ => go _))))))
theorem sg_62N (hm : ¬ sg_made k x y) (hq : ¬ q = 0 → x = 0) (H : post 1 ()) : wL_lawOf_62 post 11 259 k x y z v q 0 0 :=
  br_c (fun e => br_c (fun _ => br_f (fun t => hm (Or.inr (Or.inr (Or.inr ⟨e, Or.inr t⟩)))) (sg_82N hm H)) (fun t => absurd (Or.inr (Or.inr (Or.inr ⟨e, Or.inl (hq t)⟩))) hm)) (fun _ => sg_82N hm H)
theorem sg_48N (hm : ¬ sg_made k x y) (hq : ¬ q = 0 → x = 0) (H : post 1 ()) : wL_lawOf_48 post 11 259 k x y z v q 0 0 :=
  br_c (fun e => br_c (fun _ => sg_62N hm hq H) (fun t => br_f (fun g => hm (Or.inr (Or.inr (Or.inl ⟨e, hq t, g⟩)))) (sg_62N hm hq H))) (fun _ => sg_62N hm hq H)
theorem sg_43N (hm : ¬ sg_made k x y) (hq : ¬ q = 0 → x = 0) (hk : k = 1 ∨ k = 2 ∨ k = 8 ∨ k = 11 ∨ k = 12) (H : post 1 ()) : wL_lawOf_43 post 11 259 k x y z v q 0 0 :=
  br_c (fun _ => sg_48N hm hq H) (fun t => absurd (Or.inr (Or.inl ⟨hk, hq t⟩)) hm)
theorem sg_9N (hm : ¬ sg_made k x y) (hq : ¬ q = 0 → x = 0) (H : post 1 ()) : wL_lawOf_9 post 11 259 k x y z v q 0 0 :=
  br_f (fun e => hm (Or.inl e)) (br_c (fun e => sg_43N hm hq (Or.inl e) H) (fun _ => br_c (fun e => sg_43N hm hq (Or.inr (Or.inl e)) H) (fun _ => br_c (fun e => sg_43N hm hq (Or.inr (Or.inr (Or.inl e))) H) (fun _ => br_c (fun e => sg_43N hm hq (Or.inr (Or.inr (Or.inr (Or.inl e)))) H) (fun _ => br_c (fun e => sg_43N hm hq (Or.inr (Or.inr (Or.inr (Or.inr e)))) H) (fun _ => sg_48N hm hq H))))))
/-- made, by kinds: the tables lead to the runs -/
theorem sg_9_0 (H : post 1 ()) : wL_lawOf_9 post 11 259 0 x y z v q 0 0 :=
  br_t rfl (br_f (by decide) (br_f (by decide) (br_f (by decide) (br_f (by decide) (br_f (by decide) (br_f (by decide) (br_f (by decide) (br_f (by decide) (br_f (by decide) (br_f (by decide) (br_f (by decide) (br_f (by decide) (sg_run0 H)))))))))))))
theorem sg_9_1 (H : post 1 ()) : wL_lawOf_9 post 11 259 1 0 y z v 1 0 0 :=
  br_f (by decide) (br_t rfl (br_f (by decide) (br_t rfl (br_f (by decide) (br_t rfl (sg_run1 H))))))
theorem sg_9_2 (H : post 1 ()) : wL_lawOf_9 post 11 259 2 0 y z v 1 0 0 := by
  refine br_f (by decide) (br_f (by decide) (br_t rfl (br_f (by decide) (br_f (by decide) (br_t rfl ?_)))))
  refine br_c (fun h => br_f (by decide) (br_f (by decide) (br_t rfl (br_f (fun g => ?_) (br_f (by decide) (br_f (by decide) (br_f (by decide) (sg_run2b h H)))))))) (fun h => br_f (by decide) (br_f (by decide) (br_t rfl (br_t ?_ (sg_run2a h H)))))
  · rw [Int32.lt_iff_toInt_lt] at h
    rw [Int32.le_iff_toInt_le] at g
    omega
  · rw [Int32.lt_iff_toInt_lt] at h
    rw [Int32.le_iff_toInt_le]
    omega
theorem sg_9_3 (H : post 1 ()) : wL_lawOf_9 post 11 259 3 0 0 z v 1 0 0 :=
  br_f (by decide) (br_f (by decide) (br_f (by decide) (br_f (by decide) (br_f (by decide) (br_f (by decide) (br_t rfl (br_f (by decide) (br_t rfl (br_f (by decide) (br_f (by decide) (br_t rfl (br_f (by decide) (br_f (by decide) (br_f (by decide) (br_t rfl (sg_run3 H))))))))))))))))
theorem sg_9_4a (H : post 1 ()) : wL_lawOf_9 post 11 259 4 0 y z v 1 0 0 :=
  br_f (by decide) (br_f (by decide) (br_f (by decide) (br_f (by decide) (br_f (by decide) (br_f (by decide) (br_f (by decide) (br_t rfl (br_f (by decide)
    (br_f (by decide) (br_f (by decide) (br_f (by decide) (br_t rfl (br_f (by decide) (br_f (by decide) (br_f (by decide) (br_f (by decide) (br_f (by decide) (br_f (by decide) (br_f (by decide) (sg_run4a H))))))))))))))))))))
theorem sg_9_4b (H : post 1 ()) : wL_lawOf_9 post 11 259 4 (-1) y z v 0 0 0 :=
  br_f (by decide) (br_f (by decide) (br_f (by decide) (br_f (by decide) (br_f (by decide) (br_f (by decide) (br_f (by decide) (br_t rfl (br_t rfl (br_t rfl
    (br_f (by decide) (br_f (by decide) (br_f (by decide) (br_t rfl (br_t rfl (br_f (by decide) (br_f (by decide) (br_f (by decide) (br_f (by decide) (br_f (by decide) (br_f (by decide) (sg_run4b H)))))))))))))))))))))
theorem sg_9_8 (H : post 1 ()) : wL_lawOf_9 post 11 259 8 0 y z v 1 0 0 :=
  br_f (by decide) (br_f (by decide) (br_f (by decide) (br_t rfl (br_f (by decide)
    (br_f (by decide) (br_f (by decide) (br_f (by decide) (br_f (by decide) (br_t rfl (br_f (by decide) (br_f (by decide) (br_f (by decide) (br_f (by decide) (br_t rfl (sg_run8 H)))))))))))))))
theorem sg_9_11 (H : post 1 ()) : wL_lawOf_9 post 11 259 11 0 y z v 1 0 0 :=
  br_f (by decide) (br_f (by decide) (br_f (by decide) (br_f (by decide) (br_t rfl (br_f (by decide)
    (br_f (by decide) (br_f (by decide) (br_f (by decide) (br_f (by decide) (br_f (by decide) (br_f (by decide) (br_f (by decide) (br_f (by decide) (br_f (by decide) (br_f (by decide) (br_f (by decide) (br_f (by decide) (sg_run11 H))))))))))))))))))
theorem sg_9_12 (H : post 1 ()) : wL_lawOf_9 post 11 259 12 0 y z v 1 0 0 :=
  br_f (by decide) (br_f (by decide) (br_f (by decide) (br_f (by decide) (br_f (by decide) (br_t rfl (br_f (by decide)
    (br_f (by decide) (br_f (by decide) (br_f (by decide) (br_f (by decide) (br_f (by decide) (br_t rfl (br_f (by decide) (br_f (by decide) (br_f (by decide) (br_f (by decide) (br_f (by decide) (br_t rfl (sg_run12 H)))))))))))))))))))
theorem sg_law (H : post 1 ()) : wpL_lawOf post 11 259 () k x y z v := by
  by_cases hm : sg_made k x y
  · rcases hm with rfl | ⟨hk, rfl⟩ | ⟨rfl, rfl, rfl⟩ | ⟨rfl, rfl | rfl⟩
    · exact br_c (fun _ => sg_9_0 H) (fun _ => sg_9_0 H)
    · rcases hk with rfl | rfl | rfl | rfl | rfl
      · exact br_t rfl (sg_9_1 H)
      · exact br_t rfl (sg_9_2 H)
      · exact br_t rfl (sg_9_8 H)
      · exact br_t rfl (sg_9_11 H)
      · exact br_t rfl (sg_9_12 H)
    · exact br_t rfl (sg_9_3 H)
    · exact br_t rfl (sg_9_4a H)
    · exact br_f (by decide) (sg_9_4b H)
  · exact br_c (fun e => sg_9N hm (fun _ => e) H) (fun _ => sg_9N hm (fun t => absurd rfl t) H)
theorem sg_cell {f : Int32 → Prop} {xs : Nat → Int32} {L : Nat} (hL : L ≤ 5) (i : Nat) (hi : i ≤ 4) (H : ∀ r, f r) : wpL_cellAt f L xs () (nI i) :=
  br_c (fun _ => H _) (fun h => ⟨by
    rcases Nat.lt_or_ge i L with t | t
    · exact vp_in_nI t (by omega)
    · exact absurd (nI_le t (by omega)) h, H _⟩)
end SG7
theorem i_vc (xs : Nat → Int32) (L : Nat) (hL : L ≤ 5) : wpL_law (fun r => r = 1) L xs := by
  unfold wpL_law
  exact sg_cell hL 0 (by omega) (fun k => sg_cell hL 1 (by omega) (fun x => sg_cell hL 2 (by omega) (fun y => sg_cell hL 3 (by omega) (fun z => sg_cell hL 4 (by omega) (fun v => ⟨11, 259, by decide, by decide, sg_law rfl⟩)))))
end
