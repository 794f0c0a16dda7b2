section
/-! the pure picture: the two clamps, the top marking, when a transition fits, what of a state matters -/
def sg_cp (x : Int32) : Int32 := if 2 ≤ x then (if x ≤ 6 then x else 6) else 2
def sg_cn (x : Int32) : Int32 := if 1 ≤ x then (if x ≤ 4 then x else 4) else 1
def sg_top (P : Int32) : Int32 := ((1 : Int32) <<< (P &&& 31)) - 1
def sg_fit (P N p0 p1 p2 p3 : Int32) : Prop := ¬ p0 < 0 ∧ p0 < N ∧ (p1 = 0 ∨ p1 = 1) ∧ ¬ p2 < 1 ∧ ¬ sg_top P < p2 ∧ ¬ p3 < 1 ∧ p3 ≤ sg_top P
/-- P places, N signals, C transitions, no verdict -/
def sg_S (P N C : Int32) (u : St2) : Prop := u.1 = P ∧ u.2.1 = N ∧ u.2.2.1 = C ∧ u.2.2.2.2.2.2.1 = 0
/-! the constructor -/
theorem sg_221 {post : St2 → Prop} {mc ms kc ks : Nat} {z0 : Int32} {f0 f1 f2 f3 f4 f5 f6 f7 f8 f9 f10 f11 f12 f13 f14 : Int32} {a1 a2 a3 a4 a6 a7 a8 a9 a10 a11 a12 a13 a14 a15 a16 a17 a18 a19 a20 a22 : Nat → Int32} {a5 a21 : Nat → Int64} (hv : f6 = 0) (H : ∀ u, sg_S f0 z0 f2 u → post u) : wX_init_221 post mc ms z0 kc ks f0 f1 f2 f3 f4 f5 f6 f7 f8 f9 f10 f11 f12 f13 f14 a1 a2 a3 a4 a5 a6 a7 a8 a9 a10 a11 a12 a13 a14 a15 a16 a17 a18 a19 a20 a21 a22 :=
  fun _ _ _ _ _ _ _ _ => H _ ⟨rfl, rfl, rfl, hv⟩
theorem sg_198 {post : St2 → Prop} {mc ms kc ks : Nat} {x2 z0 : Int32} {f0 f1 f2 f3 f4 f5 f6 f7 f8 f9 f10 f11 f12 f13 f14 : Int32} {a1 a2 a3 a4 a6 a7 a8 a9 a10 a11 a12 a13 a14 a15 a16 a17 a18 a19 a20 a22 : Nat → Int32} {a5 a21 : Nat → Int64} (hv : f6 = 0) (H : ∀ u, sg_S z0 (sg_cn x2) f2 u → post u) : wX_init_198 post mc ms x2 z0 kc ks f0 f1 f2 f3 f4 f5 f6 f7 f8 f9 f10 f11 f12 f13 f14 a1 a2 a3 a4 a5 a6 a7 a8 a9 a10 a11 a12 a13 a14 a15 a16 a17 a18 a19 a20 a21 a22 := by
  refine br_c (fun h1 => br_c (fun h4 => ?_) (fun h4 => ?_)) (fun h1 => ?_)
  · have e : sg_cn x2 = x2 := by unfold sg_cn; rw [if_pos h1, if_pos h4]
    rw [e] at H
    exact sg_221 hv H
  · have e : sg_cn x2 = 4 := by unfold sg_cn; rw [if_pos h1, if_neg h4]
    rw [e] at H
    exact sg_221 hv H
  · have e : sg_cn x2 = 1 := by unfold sg_cn; rw [if_neg h1]
    rw [e] at H
    exact sg_221 hv H
theorem sg_init {post : St2 → Prop} {x0 x1 : Int32} (H : ∀ u, sg_S (sg_cp x0) (sg_cn x1) 0 u → post u) : wpX_init post 22 1596 (0, 0, 0, 0, 0, 0, 0, 0, 0, 0, 0, 0, 0, 0, 0) x0 x1 := by
  unfold wpX_init
  refine ⟨by decide, by decide, by decide, by decide, by decide, by decide, by decide, by decide, by decide, by decide, by decide, by decide, by decide, by decide, by decide, by decide, by decide, by decide, by decide, by decide, by decide, by decide, by decide, by decide, by decide, by decide, by decide, by decide, by decide, by decide, by decide, by decide, by decide, by decide, by decide, by decide, by decide, by decide, by decide, by decide, by decide, by decide, by decide, by decide, br_c (fun h2 => br_c (fun h6 => ?_) (fun h6 => ?_)) (fun h2 => ?_)⟩
  · have e : sg_cp x0 = x0 := by unfold sg_cp; rw [if_pos h2, if_pos h6]
    rw [e] at H
    exact sg_198 rfl H
  · have e : sg_cp x0 = 6 := by unfold sg_cp; rw [if_pos h2, if_neg h6]
    rw [e] at H
    exact sg_198 rfl H
  · have e : sg_cp x0 = 2 := by unfold sg_cp; rw [if_neg h2]
    rw [e] at H
    exact sg_198 rfl H
/-! addTransition -/
theorem sg_37 {post : Int32 → St2 → Prop} {p0 p1 p2 p3 : Int32} {f0 f1 f2 f3 f4 f5 f6 f7 f8 f9 f10 f11 f12 f13 f14 : Int32} {a1 a2 a3 a4 a6 a7 a8 a9 a10 a11 a12 a13 a14 a15 a16 a17 a18 a19 a20 a22 : Nat → Int32} {a5 a21 : Nat → Int64} (hi : vp_in f2 12) (hv : f6 = 0) (h0 : ¬ p0 < 0) (h1 : p0 < f1) (hd : p1 = 0 ∨ p1 = 1)
    (H1 : sg_fit f0 f1 p0 p1 p2 p3 → ∀ u', sg_S f0 f1 (f2 + 1) u' → post f2 u') (H0 : ¬ sg_fit f0 f1 p0 p1 p2 p3 → ∀ u', sg_S f0 f1 f2 u' → post (-1) u') :
    wX_addTransition_37 post p0 p1 p2 p3 f0 f1 f2 f3 f4 f5 f6 f7 f8 f9 f10 f11 f12 f13 f14 a1 a2 a3 a4 a5 a6 a7 a8 a9 a10 a11 a12 a13 a14 a15 a16 a17 a18 a19 a20 a21 a22 := by
  unfold wX_addTransition_37
  refine nm_e ?_
  refine br_c (fun z => H0 (fun h => h.2.2.2.1 z) _ ⟨rfl, rfl, rfl, hv⟩) (fun y1 => ?_)
  refine br_c (fun z => H0 (fun h => h.2.2.2.2.1 z) _ ⟨rfl, rfl, rfl, hv⟩) (fun y2 => ?_)
  refine br_c (fun z => H0 (fun h => h.2.2.2.2.2.1 z) _ ⟨rfl, rfl, rfl, hv⟩) (fun y3 => ?_)
  refine br_c (fun y4 => ?_) (fun z => H0 (fun h => z h.2.2.2.2.2.2) _ ⟨rfl, rfl, rfl, hv⟩)
  refine ⟨hi, nm_e ⟨hi, nm_e ⟨hi, nm_e ⟨hi, nm_e (nm_e ?_)⟩⟩⟩⟩
  unfold wpX_dropVerdict
  exact H1 ⟨h0, h1, hd, y1, y2, y3, y4⟩ _ ⟨rfl, rfl, rfl, rfl⟩
theorem sg_add {post : Int32 → St2 → Prop} {P N C p0 p1 p2 p3 : Int32} {u : St2} (hC : C < 12) (hi : vp_in C 12) (hu : sg_S P N C u)
    (H1 : sg_fit P N p0 p1 p2 p3 → ∀ u', sg_S P N (C + 1) u' → post C u') (H0 : ¬ sg_fit P N p0 p1 p2 p3 → ∀ u', sg_S P N C u' → post (-1) u') :
    wpX_addTransition post u p0 p1 p2 p3 := by
  obtain ⟨f0, f1, f2, f3, f4, f5, f6, f7, f8, f9, f10, f11, f12, f13, f14, a1, a2, a3, a4, a5, a6, a7, a8, a9, a10, a11, a12, a13, a14, a15, a16, a17, a18, a19, a20, a21, a22⟩ := u
  have e0 : f0 = P := hu.1
  have e1 : f1 = N := hu.2.1
  have e2 : f2 = C := hu.2.2.1
  have hv : f6 = 0 := hu.2.2.2
  subst e0 e1 e2
  unfold wpX_addTransition
  refine br_t hC (br_c (fun z => H0 (fun h => h.1 z) _ hu) (fun h0 => ?_))
  refine br_c (fun h1 => ?_) (fun z => H0 (fun h => z h.2.1) _ hu)
  refine br_c (fun d => sg_37 hi hv h0 h1 (Or.inl d) H1 H0) (fun d0 => ?_)
  exact br_c (fun d => sg_37 hi hv h0 h1 (Or.inr d) H1 H0) (fun d1 => H0 (fun h => h.2.2.1.elim d0 d1) _ hu)
/-! verify, where there is no verdict -/
theorem sg_verify {post : Int32 → St2 → Prop} {P N C : Int32} {u : St2} (hu : sg_S P N C u) (H : ∀ u', post 0 u') : wpX_verify post u := by
  obtain ⟨f0, f1, f2, f3, f4, f5, f6, f7, f8, f9, f10, f11, f12, f13, f14, a1, a2, a3, a4, a5, a6, a7, a8, a9, a10, a11, a12, a13, a14, a15, a16, a17, a18, a19, a20, a21, a22⟩ := u
  have hv : f6 = 0 := hu.2.2.2
  subst hv
  unfold wpX_verify
  exact br_f (by decide) (H _)
end
section
/-! the law behind its calls -/
theorem sg_195 {post : Int32 → St0 → Prop} {mc ms kc ks : Nat} {z0 z1 P N C : Int32} {f0 f1 f2 f3 f4 f5 f6 f7 f8 f9 f10 f11 f12 f13 f14 : Int32} {a1 a2 a3 a4 a6 a7 a8 a9 a10 a11 a12 a13 a14 a15 a16 a17 a18 a19 a20 a22 : Nat → Int32} {a5 a21 : Nat → Int64} (e : z1 = z0) (hu : sg_S P N C (f0, f1, f2, f3, f4, f5, f6, f7, f8, f9, f10, f11, f12, f13, f14, a1, a2, a3, a4, a5, a6, a7, a8, a9, a10, a11, a12, a13, a14, a15, a16, a17, a18, a19, a20, a21, a22)) (H : post 1 ()) : wL_lawOf_195 post mc ms z0 z1 kc ks f0 f1 f2 f3 f4 f5 f6 f7 f8 f9 f10 f11 f12 f13 f14 a1 a2 a3 a4 a5 a6 a7 a8 a9 a10 a11 a12 a13 a14 a15 a16 a17 a18 a19 a20 a21 a22 := by
  unfold wL_lawOf_195
  refine br_t e (sg_verify hu (fun u' => ?_))
  obtain ⟨f0, f1, f2, f3, f4, f5, f6, f7, f8, f9, f10, f11, f12, f13, f14, a1, a2, a3, a4, a5, a6, a7, a8, a9, a10, a11, a12, a13, a14, a15, a16, a17, a18, a19, a20, a21, a22⟩ := u'
  exact br_t rfl H
theorem sg_169 {post : Int32 → St0 → Prop} {mc ms kc ks : Nat} {x2 x3 x4 x5 x9 z0 z1 P N C : Int32} {f0 f1 f2 f3 f4 f5 f6 f7 f8 f9 f10 f11 f12 f13 f14 : Int32} {a1 a2 a3 a4 a6 a7 a8 a9 a10 a11 a12 a13 a14 a15 a16 a17 a18 a19 a20 a22 : Nat → Int32} {a5 a21 : Nat → Int64} (e : z1 = z0) (hC : C < 12) (hi : vp_in C 12) (hu : sg_S P N C (f0, f1, f2, f3, f4, f5, f6, f7, f8, f9, f10, f11, f12, f13, f14, a1, a2, a3, a4, a5, a6, a7, a8, a9, a10, a11, a12, a13, a14, a15, a16, a17, a18, a19, a20, a21, a22))
    (hF : sg_fit P N x2 x3 x4 x5 → ¬ x9 = 0 ∧ C = 1) (hN : ¬ sg_fit P N x2 x3 x4 x5 → x9 = 0) (H : post 1 ()) : wL_lawOf_169 post mc ms x2 x3 x4 x5 x9 z0 z1 kc ks f0 f1 f2 f3 f4 f5 f6 f7 f8 f9 f10 f11 f12 f13 f14 a1 a2 a3 a4 a5 a6 a7 a8 a9 a10 a11 a12 a13 a14 a15 a16 a17 a18 a19 a20 a21 a22 := by
  unfold wL_lawOf_169
  refine br_t e (sg_add hC hi hu (fun hf u' hu' => ?_) (fun hf u' hu' => ?_))
  · obtain ⟨f0, f1, f2, f3, f4, f5, f6, f7, f8, f9, f10, f11, f12, f13, f14, a1, a2, a3, a4, a5, a6, a7, a8, a9, a10, a11, a12, a13, a14, a15, a16, a17, a18, a19, a20, a21, a22⟩ := u'
    exact br_f (hF hf).1 (sg_195 (hF hf).2 hu' H)
  · obtain ⟨f0, f1, f2, f3, f4, f5, f6, f7, f8, f9, f10, f11, f12, f13, f14, a1, a2, a3, a4, a5, a6, a7, a8, a9, a10, a11, a12, a13, a14, a15, a16, a17, a18, a19, a20, a21, a22⟩ := u'
    exact br_t (hN hf) (sg_195 rfl hu' H)
theorem sg_114 {post : Int32 → St0 → Prop} {mc ms kc ks : Nat} {x0 x1 x2 x3 x4 x5 z0 : Int32} (hm : kc + 23 ≤ mc) (hs : ks + 1633 ≤ ms)
    (hF : sg_fit (sg_cp x0) (sg_cn x1) x2 x3 x4 x5 → z0 = 1) (hN : ¬ sg_fit (sg_cp x0) (sg_cn x1) x2 x3 x4 x5 → z0 = 0) (H : post 1 ()) : wL_lawOf_114 post mc ms x0 x1 x2 x3 x4 x5 z0 kc ks := by
  unfold wL_lawOf_114
  refine ⟨by omega, by omega, 22, 1596, by omega, by omega, sg_init (fun u hu => ?_)⟩
  obtain ⟨f0, f1, f2, f3, f4, f5, f6, f7, f8, f9, f10, f11, f12, f13, f14, a1, a2, a3, a4, a5, a6, a7, a8, a9, a10, a11, a12, a13, a14, a15, a16, a17, a18, a19, a20, a21, a22⟩ := u
  have hv : f6 = 0 := hu.2.2.2
  subst hv
  refine br_t rfl (br_t rfl (br_t rfl ?_))
  refine sg_add (by decide) (vp_in_nI (n := 0) (by decide) (by decide)) hu (fun hf u' hu' => ?_) (fun hf u' hu' => ?_)
  · obtain ⟨g0, g1, g2, g3, g4, g5, g6, g7, g8, g9, g10, g11, g12, g13, g14, b1, b2, b3, b4, b5, b6, b7, b8, b9, b10, b11, b12, b13, b14, b15, b16, b17, b18, b19, b20, b21, b22⟩ := u'
    have ez := hF hf
    subst ez
    exact br_f (by decide) (sg_169 (C := 0 + 1) rfl (by decide) (vp_in_nI (n := 1) (by decide) (by decide)) hu' (fun _ => ⟨by decide, by decide⟩) (fun h => absurd hf h) H)
  · obtain ⟨g0, g1, g2, g3, g4, g5, g6, g7, g8, g9, g10, g11, g12, g13, g14, b1, b2, b3, b4, b5, b6, b7, b8, b9, b10, b11, b12, b13, b14, b15, b16, b17, b18, b19, b20, b21, b22⟩ := u'
    have ez := hN hf
    subst ez
    exact br_t rfl (sg_169 (C := 0) rfl (by decide) (vp_in_nI (n := 0) (by decide) (by decide)) hu' (fun h => absurd h hf) (fun _ => rfl) H)
/-! the law ahead of its calls: what it takes for fits is sg_fit -/
theorem sg_42 {post : Int32 → St0 → Prop} {mc ms kc ks : Nat} {x0 x1 x2 x3 x4 x5 x6 z0 : Int32}
    (G : ∀ z, (sg_fit x6 z0 x2 x3 x4 x5 → z = 1) → (¬ sg_fit x6 z0 x2 x3 x4 x5 → z = 0) → wL_lawOf_114 post mc ms x0 x1 x2 x3 x4 x5 z kc ks) : wL_lawOf_42 post mc ms x0 x1 x2 x3 x4 x5 x6 z0 kc ks := by
  have g0 : ¬ sg_fit x6 z0 x2 x3 x4 x5 → wL_lawOf_113 post mc ms x0 x1 x2 x3 x4 x5 kc ks := fun h => G 0 (fun f => absurd f h) (fun _ => rfl)
  have b : ¬ sg_fit x6 z0 x2 x3 x4 x5 → wL_lawOf_75 post mc ms x0 x1 x2 x3 x4 x5 (sg_top x6) kc ks := fun h => br_t rfl (g0 h)
  have c : ¬ x2 < 0 → ¬ z0 ≤ x2 → (x3 = 0 ∨ x3 = 1) → wL_lawOf_71 post mc ms x0 x1 x2 x3 x4 x5 (sg_top x6) kc ks := by
    intro h0 h1 hd
    unfold wL_lawOf_71 wL_lawOf_76
    refine br_f (by decide) (br_c (fun z => g0 (fun f => f.2.2.2.1 z)) (fun y1 => ?_))
    refine br_c (fun z => g0 (fun f => f.2.2.2.2.1 z)) (fun y2 => ?_)
    refine br_c (fun z => g0 (fun f => f.2.2.2.2.2.1 z)) (fun y3 => ?_)
    refine br_c (fun z => g0 (fun f => Int32.not_le.mpr z f.2.2.2.2.2.2)) (fun y4 => ?_)
    exact G 1 (fun _ => rfl) (fun h => absurd ⟨h0, Int32.not_le.mp h1, hd, y1, y2, y3, Int32.not_lt.mp y4⟩ h)
  unfold wL_lawOf_42
  refine nm_e ?_
  refine br_c (fun z => b (fun f => f.1 z)) (fun h0 => ?_)
  refine br_c (fun z => b (fun f => Int32.not_le.mpr f.2.1 z)) (fun h1 => ?_)
  refine br_c (fun d => c h0 h1 (Or.inl d)) (fun d0 => ?_)
  exact br_c (fun d => c h0 h1 (Or.inr d)) (fun d1 => b (fun f => f.2.2.1.elim d0 d1))
theorem sg_21 {post : Int32 → St0 → Prop} {mc ms kc ks : Nat} {x0 x1 x2 x3 x4 x5 z0 : Int32}
    (G : ∀ z, (sg_fit z0 (sg_cn x1) x2 x3 x4 x5 → z = 1) → (¬ sg_fit z0 (sg_cn x1) x2 x3 x4 x5 → z = 0) → wL_lawOf_114 post mc ms x0 x1 x2 x3 x4 x5 z kc ks) : wL_lawOf_21 post mc ms x0 x1 x2 x3 x4 x5 z0 kc ks := by
  unfold wL_lawOf_21
  refine br_c (fun h1 => br_c (fun h4 => ?_) (fun h4 => ?_)) (fun h1 => ?_)
  · have e : sg_cn x1 = x1 := by unfold sg_cn; rw [if_pos h1, if_pos h4]
    rw [e] at G
    exact sg_42 G
  · have e : sg_cn x1 = 4 := by unfold sg_cn; rw [if_pos h1, if_neg h4]
    rw [e] at G
    exact sg_42 G
  · have e : sg_cn x1 = 1 := by unfold sg_cn; rw [if_neg h1]
    rw [e] at G
    exact sg_42 G
theorem sg_lawOf {post : Int32 → St0 → Prop} {x0 x1 x2 x3 x4 x5 : Int32} (H : post 1 ()) : wpL_lawOf post 572 9136 () x0 x1 x2 x3 x4 x5 := by
  have G : ∀ z, (sg_fit (sg_cp x0) (sg_cn x1) x2 x3 x4 x5 → z = 1) → (¬ sg_fit (sg_cp x0) (sg_cn x1) x2 x3 x4 x5 → z = 0) → wL_lawOf_114 post 572 9136 x0 x1 x2 x3 x4 x5 z 0 0 := fun z hF hN => sg_114 (by decide) (by decide) hF hN H
  unfold wpL_lawOf
  refine br_c (fun h2 => br_c (fun h6 => ?_) (fun h6 => ?_)) (fun h2 => ?_)
  · have e : sg_cp x0 = x0 := by unfold sg_cp; rw [if_pos h2, if_pos h6]
    rw [e] at G
    exact sg_21 G
  · have e : sg_cp x0 = 6 := by unfold sg_cp; rw [if_pos h2, if_neg h6]
    rw [e] at G
    exact sg_21 G
  · have e : sg_cp x0 = 2 := by unfold sg_cp; rw [if_neg h2]
    rw [e] at G
    exact sg_21 G
theorem sg_cell {post : Int32 → Prop} {L : Nat} {xs : Nat → Int32} (hL : L ≤ 6) (k : Nat) (hk : k ≤ 5) (H : ∀ r, post r) : wpL_cellAt post L xs () (nI k) := by
  unfold wpL_cellAt
  refine pk_le L k (fun _ => H _) (fun z => ⟨vp_in_nI z (by omega), H _⟩)
theorem i_vc (xs : Nat → Int32) (L : Nat) (hL : L ≤ 6) : wpL_law (fun r => r = 1) L xs := by
  unfold wpL_law
  refine sg_cell hL 0 (by decide) (fun r1 => ?_)
  refine sg_cell hL 1 (by decide) (fun r2 => ?_)
  refine sg_cell hL 2 (by decide) (fun r3 => ?_)
  refine sg_cell hL 3 (by decide) (fun r4 => ?_)
  refine sg_cell hL 4 (by decide) (fun r5 => ?_)
  refine sg_cell hL 5 (by decide) (fun r6 => ?_)
  exact ⟨572, 9136, by decide, by decide, sg_lawOf rfl⟩
end
