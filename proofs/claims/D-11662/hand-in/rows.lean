section
/-- a hook that is there is carried out once -/
def tr_on (h : Int32) : Int32 := if h = 0 then 0 else 1
/-- the worse of two outcomes -/
def tr_ws (p q : Int32) : Int32 := if p = 2 then 2 else if q = 2 then 2 else if p = 3 then 3 else if q = 3 then 3 else 1
def tr_l4 : List Int32 := [0, 1, 2, 3]
def tr_l3 : List Int32 := [1, 2, 3]
/-- does a hook let go on (as 0 or 1)? -/
def tr_dn (h : Int32) : Int32 := if 2 ≤ h then 0 else 1
/-- do both let go on? -/
def tr_al (h k : Int32) : Int32 := if tr_dn h = 0 then 0 else tr_dn k
/-- how an attempt ends -/
def tr_R (h2 h3 h6 h7 b : Int32) : Int32 :=
  if tr_dn h2 = 0 then tr_ws h2 h3 else if tr_al h2 h6 = 0 then tr_ws (tr_ws (tr_ws h2 h3) h6) h7 else tr_ws (tr_ws (tr_ws (tr_ws h2 h3) h6) h7) b
/-- what an attempt adds to 'carried', place by place -/
def tr_dl (h2 h3 h6 h7 : Int32) (j : Nat) : Int32 :=
  if j = 2 then tr_on h2 else if j = 3 then tr_on h3 else if j = 6 then (if tr_dn h2 = 0 then 0 else tr_on h6) else if j = 7 then (if tr_dn h2 = 0 then 0 else tr_on h7) else if j = 8 then (if tr_al h2 h6 = 0 then 0 else 1) else 0
/-- what an attempt adds to 'total' -/
def tr_D (h2 h3 h6 h7 : Int32) : Int32 := tr_on h2 + tr_on h3 + (if tr_dn h2 = 0 then 0 else tr_on h6 + tr_on h7) + (if tr_al h2 h6 = 0 then 0 else 1)
theorem tr_us (f : Nat → Int32) (k : Nat) : upd f k (f k) = f := by
  funext j
  unfold upd
  by_cases e : j = k
  · rw [if_pos e, e]
  · rw [if_neg e]
theorem tr_dn_c (h : Int32) : tr_dn h = 0 ∨ tr_dn h = 1 := by
  unfold tr_dn
  by_cases e : 2 ≤ h
  · rw [if_pos e]; exact Or.inl rfl
  · rw [if_neg e]; exact Or.inr rfl
theorem tr_dn_0 : ∀ h ∈ tr_l4, tr_dn h = 0 → ¬ tr_ws 1 h = 1 := by decide +kernel
theorem tr_dn_1 : ∀ h ∈ tr_l4, ¬ tr_dn h = 0 → tr_ws 1 h = 1 := by decide +kernel
theorem tr_w1 : ∀ p ∈ tr_l4, ∀ q ∈ tr_l4, tr_ws (tr_ws 1 p) q = tr_ws p q := by decide +kernel
theorem tr_Ra : ∀ h2 ∈ tr_l4, ∀ h3 ∈ tr_l4, ∀ h6 ∈ tr_l4, ∀ h7 ∈ tr_l4, ∀ b ∈ tr_l3, tr_dn h2 = 0 → tr_ws (tr_ws 1 h2) h3 = tr_R h2 h3 h6 h7 b := by decide +kernel
theorem tr_Rb : ∀ h2 ∈ tr_l4, ∀ h3 ∈ tr_l4, ∀ h6 ∈ tr_l4, ∀ h7 ∈ tr_l4, ∀ b ∈ tr_l3, ¬ tr_dn h2 = 0 → tr_dn h6 = 0 → tr_ws (tr_ws (tr_ws 1 h6) h7) h3 = tr_R h2 h3 h6 h7 b := by decide +kernel
theorem tr_Rc : ∀ h2 ∈ tr_l4, ∀ h3 ∈ tr_l4, ∀ h6 ∈ tr_l4, ∀ h7 ∈ tr_l4, ∀ b ∈ tr_l3, ¬ tr_dn h2 = 0 → ¬ tr_dn h6 = 0 → tr_ws (tr_ws (tr_ws 1 b) h7) h3 = tr_R h2 h3 h6 h7 b := by decide +kernel
theorem tr_Rin : ∀ h2 ∈ tr_l4, ∀ h3 ∈ tr_l4, ∀ h6 ∈ tr_l4, ∀ h7 ∈ tr_l4, ∀ b ∈ tr_l3, tr_R h2 h3 h6 h7 b ∈ tr_l3 := by decide +kernel
theorem tr_once {post : Int32 → Prop} {p : Int32} (h : post (tr_on p)) : wpL_once post () p := by
  unfold wpL_once
  unfold tr_on at h
  by_cases e : p = 0
  · rw [if_pos e] at h
    exact br_t e h
  · rw [if_neg e] at h
    exact br_f e h
theorem tr_worseL {post : Int32 → Prop} {p q : Int32} (h : post (tr_ws p q)) : wpL_worse post () p q := by
  unfold wpL_worse
  unfold tr_ws at h
  by_cases e1 : p = 2
  · rw [if_pos e1] at h
    exact br_t e1 h
  · rw [if_neg e1] at h
    refine br_f e1 ?_
    by_cases e2 : q = 2
    · rw [if_pos e2] at h
      exact br_t e2 h
    · rw [if_neg e2] at h
      refine br_f e2 ?_
      by_cases e3 : p = 3
      · rw [if_pos e3] at h
        exact br_t e3 h
      · rw [if_neg e3] at h
        refine br_f e3 ?_
        by_cases e4 : q = 3
        · rw [if_pos e4] at h
          exact br_t e4 h
        · rw [if_neg e4] at h
          exact br_f e4 h
theorem tr_worse {post : Int32 → Prop} {p q : Int32} (h : post (tr_ws p q)) : wpX_worse post () p q := tr_worseL h
end
section
section
variable {n t o s : Int32} {a1 a2 a3 a4 a5 a6 a7 a8 a9 a10 a11 a12 a13 a14 a15 : Nat → Int32}
theorem tr_carry {post : Int32 → St2 → Prop} {p0 p1 : Int32} (k : Nat) (hk : (p0 * 4 + p1).toNatClampNeg = k) (hi : vp_in (p0 * 4 + p1) 96)
    (H : post (a6 k) (n, t + tr_on (a6 k), o, s, a1, a2, a3, a4, a5, a6, a7, a8, a9, a10, a11, upd a12 k (a12 k + tr_on (a6 k)), a13, a14, a15)) : wpX_carryOut post (n, t, o, s, a1, a2, a3, a4, a5, a6, a7, a8, a9, a10, a11, a12, a13, a14, a15) p0 p1 := by
  unfold wpX_carryOut
  dsimp only
  rw [hk]
  refine ⟨hi, nm_e (br_c (fun z => ?_) (fun z => ⟨hi, hi, nm_e (nm_e ?_)⟩))⟩
  · have e : tr_on (a6 k) = 0 := if_pos z
    rw [e, Int32.add_zero, Int32.add_zero, tr_us] at H
    exact H
  · have e : tr_on (a6 k) = 1 := if_neg z
    rw [e] at H
    exact H
theorem tr_note {post : St2 → Prop} {q : Int32} (H : post (n, t, o, tr_ws s q, a1, a2, a3, a4, a5, a6, a7, a8, a9, a10, a11, a12, a13, a14, a15)) : wpX_note post (n, t, o, s, a1, a2, a3, a4, a5, a6, a7, a8, a9, a10, a11, a12, a13, a14, a15) q := by
  unfold wpX_note
  exact tr_worse H
theorem tr_down {post : Int32 → St2 → Prop} (hw0 : a15 0 = 0) (hw1 : a15 1 = 1)
    (H1 : ¬ tr_ws 1 (a6 2) = 1 → post 1 (n, t + tr_on (a6 2), 2, tr_ws 1 (a6 2), a1, a2, a3, a4, a5, a6, a7, a8, a9, a10, a11, upd a12 2 (a12 2 + tr_on (a6 2)), a13, a14, a15))
    (H2 : tr_ws 1 (a6 2) = 1 → post 2 (n, t + tr_on (a6 2) + tr_on (a6 6), 2, tr_ws 1 (a6 6), a1, a2, a3, a4, a5, a6, a7, a8, a9, a10, a11, upd (upd a12 2 (a12 2 + tr_on (a6 2))) 6 (a12 6 + tr_on (a6 6)), a13, a14, a15)) :
    wpX_goDown post (n, t, 2, 1, a1, a2, a3, a4, a5, a6, a7, a8, a9, a10, a11, a12, a13, a14, a15) := by
  unfold wpX_goDown
  dsimp only
  refine ⟨3, br_f (show ¬ (2 : Int32) ≤ 0 by decide) (br_t rfl ⟨vp_in_iff.mpr (by decide), ?_⟩)⟩
  rw [show a15 (0 : Int32).toNatClampNeg = 0 from hw0]
  refine tr_carry 2 (by decide) (vp_in_iff.mpr (by decide)) ?_
  refine tr_note ?_
  refine nm_r (e' := 1) (by decide) ?_
  by_cases e : tr_ws 1 (a6 2) = 1
  · refine br_f (show ¬ (2 : Int32) ≤ 1 by decide) (br_t e ⟨vp_in_iff.mpr (by decide), ?_⟩)
    rw [show a15 (1 : Int32).toNatClampNeg = 1 from hw1]
    refine tr_carry 6 (by decide) (vp_in_iff.mpr (by decide)) ?_
    refine tr_note ?_
    refine nm_r (e' := 2) (by decide) ?_
    refine br_t (show (2 : Int32) ≤ 2 by decide) ?_
    rw [e]
    exact H2 e
  · refine br_f (show ¬ (2 : Int32) ≤ 1 by decide) (br_f e ?_)
    exact H1 e
theorem tr_up0 {post : Int32 → St2 → Prop} (f : Nat) (hw0 : a15 0 = 0) (H : post (tr_ws s (a6 3)) (n, t + tr_on (a6 3), o, tr_ws s (a6 3), a1, a2, a3, a4, a5, a6, a7, a8, a9, a10, a11, upd a12 3 (a12 3 + tr_on (a6 3)), a13, a14, a15)) :
    wX_attempt_59 post (f + 2) 0 n t o s a1 a2 a3 a4 a5 a6 a7 a8 a9 a10 a11 a12 a13 a14 a15 := by
  refine br_f (show ¬ (0 : Int32) < 0 by decide) ⟨vp_in_iff.mpr (by decide), ?_⟩
  rw [show a15 (0 : Int32).toNatClampNeg = 0 from hw0]
  refine tr_carry 3 (by decide) (vp_in_iff.mpr (by decide)) ?_
  refine tr_note ?_
  refine nm_r (e' := -1) (by decide) ?_
  exact br_t (show (-1 : Int32) < 0 by decide) H
theorem tr_up1 {post : Int32 → St2 → Prop} (f : Nat) (hw0 : a15 0 = 0) (hw1 : a15 1 = 1)
    (H : post (tr_ws (tr_ws s (a6 7)) (a6 3)) (n, t + tr_on (a6 7) + tr_on (a6 3), o, tr_ws (tr_ws s (a6 7)) (a6 3), a1, a2, a3, a4, a5, a6, a7, a8, a9, a10, a11, upd (upd a12 7 (a12 7 + tr_on (a6 7))) 3 (a12 3 + tr_on (a6 3)), a13, a14, a15)) :
    wX_attempt_59 post (f + 3) 1 n t o s a1 a2 a3 a4 a5 a6 a7 a8 a9 a10 a11 a12 a13 a14 a15 := by
  refine br_f (show ¬ (1 : Int32) < 0 by decide) ⟨vp_in_iff.mpr (by decide), ?_⟩
  rw [show a15 (1 : Int32).toNatClampNeg = 1 from hw1]
  refine tr_carry 7 (by decide) (vp_in_iff.mpr (by decide)) ?_
  refine tr_note ?_
  refine nm_r (e' := 0) (by decide) ?_
  exact tr_up0 f hw0 H
theorem tr_body {post : Int32 → Prop} {p1 b : Int32} (hb : (a8 2 >>> ((2 * p1) &&& 31)) &&& 3 = b) (hn : ¬ b = 0) (H : post b) : wpX_bodyOutcome post (n, t, o, s, a1, a2, a3, a4, a5, a6, a7, a8, a9, a10, a11, a12, a13, a14, a15) 2 p1 := by
  unfold wpX_bodyOutcome
  dsimp only
  exact ⟨vp_in_iff.mpr (by decide), nm_r hb (br_f hn H)⟩
theorem tr_attempt {post : Int32 → St2 → Prop} {p1 b : Int32} (hw0 : a15 0 = 0) (hw1 : a15 1 = 1)
    (h2 : a6 2 ∈ tr_l4) (h3 : a6 3 ∈ tr_l4) (h6 : a6 6 ∈ tr_l4) (h7 : a6 7 ∈ tr_l4) (hbi : b ∈ tr_l3) (hb : (a8 2 >>> ((2 * p1) &&& 31)) &&& 3 = b)
    (H : post (tr_R (a6 2) (a6 3) (a6 6) (a6 7) b) (n, t + tr_D (a6 2) (a6 3) (a6 6) (a6 7), 2, tr_R (a6 2) (a6 3) (a6 6) (a6 7) b, a1, a2, a3, a4, a5, a6, a7, a8, a9, a10, a11, fun j => a12 j + tr_dl (a6 2) (a6 3) (a6 6) (a6 7) j, a13, a14, a15)) :
    wpX_attempt post (n, t, 2, s, a1, a2, a3, a4, a5, a6, a7, a8, a9, a10, a11, a12, a13, a14, a15) 2 p1 := by
  have hn : ¬ b = 0 := by
    intro z
    rw [z] at hbi
    exact absurd hbi (by decide)
  unfold wpX_attempt
  dsimp only
  refine tr_down hw0 hw1 (fun e => ?_) (fun e => ?_)
  · have hd : tr_dn (a6 2) = 0 := by
      by_cases z : tr_dn (a6 2) = 0
      · exact z
      · exact absurd (tr_dn_1 _ h2 z) e
    have hal : tr_al (a6 2) (a6 6) = 0 := by
      unfold tr_al
      rw [if_pos hd]
    refine br_f e (nm_r (e' := 0) (by decide) ⟨2, tr_up0 0 hw0 ?_⟩)
    have eR := tr_Ra _ h2 _ h3 _ h6 _ h7 _ hbi hd
    have eT : t + tr_on (a6 2) + tr_on (a6 3) = t + tr_D (a6 2) (a6 3) (a6 6) (a6 7) := by
      unfold tr_D
      rw [if_pos hd, if_pos hal]
      grind
    have eA : upd (upd a12 2 (a12 2 + tr_on (a6 2))) 3 (upd a12 2 (a12 2 + tr_on (a6 2)) 3 + tr_on (a6 3)) = fun j => a12 j + tr_dl (a6 2) (a6 3) (a6 6) (a6 7) j := by
      funext j
      unfold tr_dl upd
      rw [if_pos hd, if_pos hd, if_pos hal]
      by_cases j2 : j = 2
      · subst j2; simp
      · by_cases j3 : j = 3
        · subst j3; simp
        · simp [j2, j3]
    rw [← eR, ← eT, ← eA] at H
    exact H
  · have hd : ¬ tr_dn (a6 2) = 0 := fun z => tr_dn_0 _ h2 z e
    by_cases hd6 : tr_dn (a6 6) = 0
    · have hal : tr_al (a6 2) (a6 6) = 0 := by
        unfold tr_al
        rw [if_neg hd]
        exact hd6
      refine br_f (tr_dn_0 _ h6 hd6) (nm_r (e' := 1) (by decide) ⟨3, tr_up1 0 hw0 hw1 ?_⟩)
      have eR := tr_Rb _ h2 _ h3 _ h6 _ h7 _ hbi hd hd6
      have eT : t + tr_on (a6 2) + tr_on (a6 6) + tr_on (a6 7) + tr_on (a6 3) = t + tr_D (a6 2) (a6 3) (a6 6) (a6 7) := by
        unfold tr_D
        rw [if_neg hd, if_pos hal]
        grind
      have eA : upd (upd (upd (upd a12 2 (a12 2 + tr_on (a6 2))) 6 (a12 6 + tr_on (a6 6))) 7 (upd (upd a12 2 (a12 2 + tr_on (a6 2))) 6 (a12 6 + tr_on (a6 6)) 7 + tr_on (a6 7))) 3 (upd (upd a12 2 (a12 2 + tr_on (a6 2))) 6 (a12 6 + tr_on (a6 6)) 3 + tr_on (a6 3)) = fun j => a12 j + tr_dl (a6 2) (a6 3) (a6 6) (a6 7) j := by
        funext j
        unfold tr_dl upd
        rw [if_neg hd, if_neg hd, if_pos hal]
        by_cases j2 : j = 2
        · subst j2; simp
        · by_cases j3 : j = 3
          · subst j3; simp
          · by_cases j6 : j = 6
            · subst j6; simp
            · by_cases j7 : j = 7
              · subst j7; simp
              · simp [j2, j3, j6, j7]
      rw [← eR, ← eT, ← eA] at H
      exact H
    · have hal : ¬ tr_al (a6 2) (a6 6) = 0 := by
        unfold tr_al
        rw [if_neg hd]
        exact hd6
      have e6 := tr_dn_1 _ h6 hd6
      refine br_t e6 ⟨vp_in_iff.mpr (by decide), vp_in_iff.mpr (by decide), nm_e (nm_e (tr_body hb hn (tr_note (nm_r (e' := 1) (by decide) ⟨3, tr_up1 0 hw0 hw1 ?_⟩))))⟩
      rw [e6]
      have eR := tr_Rc _ h2 _ h3 _ h6 _ h7 _ hbi hd hd6
      have eT : t + tr_on (a6 2) + tr_on (a6 6) + 1 + tr_on (a6 7) + tr_on (a6 3) = t + tr_D (a6 2) (a6 3) (a6 6) (a6 7) := by
        unfold tr_D
        rw [if_neg hd, if_neg hal]
        grind
      have eA : ∀ c : Nat → Int32, c = upd (upd (upd a12 2 (a12 2 + tr_on (a6 2))) 6 (a12 6 + tr_on (a6 6))) 8 (upd (upd a12 2 (a12 2 + tr_on (a6 2))) 6 (a12 6 + tr_on (a6 6)) 8 + 1) → upd (upd c 7 (c 7 + tr_on (a6 7))) 3 (c 3 + tr_on (a6 3)) = fun j => a12 j + tr_dl (a6 2) (a6 3) (a6 6) (a6 7) j := by
        intro c hc
        subst hc
        funext j
        unfold tr_dl upd
        rw [if_neg hd, if_neg hd, if_neg hal]
        by_cases j2 : j = 2
        · subst j2; simp
        · by_cases j3 : j = 3
          · subst j3; simp
          · by_cases j6 : j = 6
            · subst j6; simp
            · by_cases j7 : j = 7
              · subst j7; simp
              · by_cases j8 : j = 8
                · subst j8; simp
                · simp [j2, j3, j6, j7, j8]
      rw [← eR, ← eT, ← eA _ rfl] at H
      exact H
end
end
section
/-- how many attempts are made -/
def tr_N (g : Nat → Int32) (b : Int32) : Int32 := if tr_al (g 0) (g 4) = 0 then 0 else if tr_R (g 2) (g 3) (g 6) (g 7) b = 2 then 2 else 1
/-- what the last run left: results, carried, made, total, out of the hooks g and the body's outcome b -/
def tr_F (g : Nat → Int32) (b t : Int32) (a11 a12 a13 : Nat → Int32) : Prop :=
  a11 0 = tr_ws (g 0) (g 1) ∧ a11 1 = (if tr_dn (g 0) = 0 then 0 else tr_ws (g 4) (g 5)) ∧ a11 2 = (if tr_al (g 0) (g 4) = 0 then 0 else tr_R (g 2) (g 3) (g 6) (g 7) b) ∧
  a12 0 = tr_on (g 0) ∧ a12 1 = tr_on (g 1) ∧ a12 4 = (if tr_dn (g 0) = 0 then 0 else tr_on (g 4)) ∧ a12 5 = (if tr_dn (g 0) = 0 then 0 else tr_on (g 5)) ∧
  a13 2 = tr_N g b ∧ a12 8 = (if tr_al (g 2) (g 6) = 0 then 0 else tr_N g b) ∧ a12 2 = tr_N g b * tr_on (g 2) ∧ a12 3 = tr_N g b * tr_on (g 3) ∧
  a12 6 = (if tr_dn (g 2) = 0 then 0 else tr_N g b * tr_on (g 6)) ∧ a12 7 = (if tr_dn (g 2) = 0 then 0 else tr_N g b * tr_on (g 7)) ∧
  t = tr_on (g 0) + tr_on (g 1) + (if tr_dn (g 0) = 0 then 0 else tr_on (g 4) + tr_on (g 5)) + tr_N g b * (tr_on (g 2) + tr_on (g 3)) + (if tr_dn (g 2) = 0 then 0 else tr_N g b * (tr_on (g 6) + tr_on (g 7))) + (if tr_al (g 2) (g 6) = 0 then 0 else tr_N g b)
section
variable {n t o s : Int32} {a1 a2 a3 a4 a5 a6 a7 a8 a9 a10 a11 a12 a13 a14 a15 : Nat → Int32}
theorem tr_runTest {post : St2 → Prop} {b : Int32} (hw0 : a15 0 = 0) (hw1 : a15 1 = 1)
    (h2 : a6 2 ∈ tr_l4) (h3 : a6 3 ∈ tr_l4) (h6 : a6 6 ∈ tr_l4) (h7 : a6 7 ∈ tr_l4) (hbi : b ∈ tr_l3) (ht : a7 2 = 2)
    (hb0 : (a8 2 >>> ((2 * 0) &&& 31)) &&& 3 = b) (hb1 : (a8 2 >>> ((2 * 1) &&& 31)) &&& 3 = b)
    (H1 : ¬ tr_R (a6 2) (a6 3) (a6 6) (a6 7) b = 2 → post (n, t + tr_D (a6 2) (a6 3) (a6 6) (a6 7), 2, tr_R (a6 2) (a6 3) (a6 6) (a6 7) b, a1, a2, a3, a4, a5, a6, a7, a8, a9, a10, upd a11 2 (tr_R (a6 2) (a6 3) (a6 6) (a6 7) b), fun j => a12 j + tr_dl (a6 2) (a6 3) (a6 6) (a6 7) j, upd a13 2 (a13 2 + 1), a14, a15))
    (H2 : tr_R (a6 2) (a6 3) (a6 6) (a6 7) b = 2 → post (n, t + tr_D (a6 2) (a6 3) (a6 6) (a6 7) + tr_D (a6 2) (a6 3) (a6 6) (a6 7), 2, tr_R (a6 2) (a6 3) (a6 6) (a6 7) b, a1, a2, a3, a4, a5, a6, a7, a8, a9, a10, upd a11 2 (tr_R (a6 2) (a6 3) (a6 6) (a6 7) b), fun j => a12 j + tr_dl (a6 2) (a6 3) (a6 6) (a6 7) j + tr_dl (a6 2) (a6 3) (a6 6) (a6 7) j, upd (upd a13 2 (a13 2 + 1)) 2 (upd a13 2 (a13 2 + 1) 2 + 1), a14, a15)) :
    wpX_runTest post (n, t, 2, s, a1, a2, a3, a4, a5, a6, a7, a8, a9, a10, a11, a12, a13, a14, a15) 2 := by
  have v2 : vp_in 2 24 := vp_in_iff.mpr (by decide)
  have et : a7 (2 : Int32).toNatClampNeg = 2 := ht
  unfold wpX_runTest
  dsimp only
  refine ⟨3, v2, br_f (by rw [et]; decide) (br_t rfl ?_)⟩
  refine tr_attempt hw0 hw1 h2 h3 h6 h7 hbi hb0 ?_
  refine ⟨v2, v2, nm_e (nm_r (e' := 1) (by decide) ⟨v2, br_f (by rw [et]; decide) (br_c (fun e => ?_) (fun e => ⟨v2, nm_e (H1 e)⟩))⟩)⟩
  refine tr_attempt hw0 hw1 h2 h3 h6 h7 hbi hb1 ?_
  exact ⟨v2, v2, nm_e (nm_r (e' := 2) (by decide) ⟨v2, br_t (by rw [et]; decide) ⟨v2, nm_e (H2 e)⟩⟩)⟩
theorem tr_enter {post : Int32 → St2 → Prop} {p0 : Int32} (k k4 ko : Nat) (hk : p0.toNatClampNeg = k) (hi : vp_in p0 24) (hk4 : (p0 * 4 + 0).toNatClampNeg = k4) (hi4 : vp_in (p0 * 4 + 0) 96) (hko : o.toNatClampNeg = ko) (hio : vp_in o 24)
    (H1 : tr_ws 1 (a6 k4) = 1 → post (a3 k) (n, t + tr_on (a6 k4), o + 1, s, a1, a2, a3, a4, a5, a6, a7, a8, a9, a10, upd a11 k (tr_ws 1 (a6 k4)), upd a12 k4 (a12 k4 + tr_on (a6 k4)), a13, a14, upd a15 ko p0))
    (H2 : ¬ tr_ws 1 (a6 k4) = 1 → post (-1) (n, t + tr_on (a6 k4), o + 1, s, a1, a2, a3, a4, a5, a6, a7, a8, a9, a10, upd a11 k (tr_ws 1 (a6 k4)), upd a12 k4 (a12 k4 + tr_on (a6 k4)), a13, a14, upd a15 ko p0)) :
    wpX_enter post (n, t, o, s, a1, a2, a3, a4, a5, a6, a7, a8, a9, a10, a11, a12, a13, a14, a15) p0 := by
  subst hk hko
  unfold wpX_enter
  dsimp only
  refine tr_carry k4 hk4 hi4 ?_
  refine tr_worse ?_
  refine ⟨hi, nm_e ⟨hio, nm_e (nm_e ⟨hi, br_c (fun z => ⟨hi, H1 ?_⟩) (fun z => H2 (fun y => z ?_))⟩)⟩⟩
  · rw [pk_us] at z
    exact z
  · rw [pk_us]
    exact y
theorem tr_leave {post : St2 → Prop} {p : Int32} (o' : Int32) (ko k k1 : Nat) (ho : o - 1 = o') (hio : vp_in o' 24) (hko : o'.toNatClampNeg = ko) (hp : a15 ko = p) (hk : p.toNatClampNeg = k) (hi : vp_in p 24) (hk1 : (p * 4 + 1).toNatClampNeg = k1) (hi1 : vp_in (p * 4 + 1) 96)
    (H : post (n, t + tr_on (a6 k1), o', s, a1, a2, a3, a4, a5, a6, a7, a8, a9, a10, upd a11 k (tr_ws (a11 k) (a6 k1)), upd a12 k1 (a12 k1 + tr_on (a6 k1)), a13, a14, a15)) : wpX_leave post (n, t, o, s, a1, a2, a3, a4, a5, a6, a7, a8, a9, a10, a11, a12, a13, a14, a15) := by
  subst hk hko
  unfold wpX_leave
  dsimp only
  refine nm_r ho ⟨hio, nm_r hp ?_⟩
  refine tr_carry k1 hk1 hi1 ?_
  refine ⟨hi, ?_⟩
  refine tr_worse ?_
  exact ⟨hi, nm_e H⟩
theorem tr_wa {post : St2 → Prop} {x2 : Int32} (f : Nat) (hx : ¬ 64 ≤ x2) (hw0 : a15 0 = 0) (hs0 : a5 0 = -1)
    (H : post (n, t + tr_on (a6 1), 0, s, a1, a2, a3, a4, a5, a6, a7, a8, a9, a10, upd a11 0 (tr_ws (a11 0) (a6 1)), upd a12 1 (a12 1 + tr_on (a6 1)), a13, a14, a15)) :
    wX_walk_13 post (f + 2) (-1) x2 n t 1 s a1 a2 a3 a4 a5 a6 a7 a8 a9 a10 a11 a12 a13 a14 a15 := by
  have v0 : vp_in 0 24 := vp_in_iff.mpr (by decide)
  refine br_f hx (br_f (show ¬ (1 : Int32) ≤ 0 by decide) (br_f (show ¬ (0 : Int32) ≤ -1 by decide) ⟨vp_in_iff.mpr (by decide), nm_r (e' := 0) hw0 ?_⟩))
  refine tr_leave 0 0 0 1 (by decide) v0 (by decide) hw0 (by decide) v0 (by decide) (vp_in_iff.mpr (by decide)) ?_
  refine ⟨v0, nm_r (e' := -1) hs0 (nm_e ?_)⟩
  exact br_c (fun _ => H) (fun _ => br_t (show (0 : Int32) ≤ 0 by decide) H)
theorem tr_wb {post : St2 → Prop} {x2 : Int32} (f : Nat) (hx : ¬ 64 ≤ x2) (hx1 : ¬ 64 ≤ x2 + 1) (hw0 : a15 0 = 0) (hw1 : a15 1 = 1) (hs0 : a5 0 = -1) (hs1 : a5 1 = -1)
    (H : post (n, t + tr_on (a6 5) + tr_on (a6 1), 0, s, a1, a2, a3, a4, a5, a6, a7, a8, a9, a10, upd (upd a11 1 (tr_ws (a11 1) (a6 5))) 0 (tr_ws (a11 0) (a6 1)), upd (upd a12 5 (a12 5 + tr_on (a6 5))) 1 (a12 1 + tr_on (a6 1)), a13, a14, a15)) :
    wX_walk_13 post (f + 3) (-1) x2 n t 2 s a1 a2 a3 a4 a5 a6 a7 a8 a9 a10 a11 a12 a13 a14 a15 := by
  have v1 : vp_in 1 24 := vp_in_iff.mpr (by decide)
  refine br_f hx (br_f (show ¬ (2 : Int32) ≤ 0 by decide) (br_f (show ¬ (0 : Int32) ≤ -1 by decide) ⟨vp_in_iff.mpr (by decide), nm_r (e' := 1) hw1 ?_⟩))
  refine tr_leave 1 1 1 5 (by decide) v1 (by decide) hw1 (by decide) v1 (by decide) (vp_in_iff.mpr (by decide)) ?_
  refine ⟨v1, nm_r (e' := -1) hs1 (nm_e ?_)⟩
  exact tr_wa f hx1 hw0 hs0 H
theorem tr_walk {post : St2 → Prop} {b : Int32} (g0 : a6 0 ∈ tr_l4) (g1 : a6 1 ∈ tr_l4) (g2 : a6 2 ∈ tr_l4) (g3 : a6 3 ∈ tr_l4) (g4 : a6 4 ∈ tr_l4) (g5 : a6 5 ∈ tr_l4) (g6 : a6 6 ∈ tr_l4) (g7 : a6 7 ∈ tr_l4) (hbi : b ∈ tr_l3) (ht : a7 2 = 2)
    (hb0 : (a8 2 >>> ((2 * 0) &&& 31)) &&& 3 = b) (hb1 : (a8 2 >>> ((2 * 1) &&& 31)) &&& 3 = b)
    (i1 : a1 1 = 0) (i2 : a1 2 = 1) (c0 : a3 0 = 1) (c1 : a3 1 = 2) (s0 : a5 0 = -1) (s1 : a5 1 = -1) (s2 : a5 2 = -1) (p1 : a14 1 = 1) (p2 : a14 2 = 1)
    (H : ∀ (t' o' s' : Int32) (b11 b12 b13 b15 : Nat → Int32), tr_F a6 b t' b11 b12 b13 → post (n, t', o', s', a1, a2, a3, a4, a5, a6, a7, a8, a9, a10, b11, b12, b13, a14, b15)) :
    wpX_walk post (n, 0, o, s, a1, a2, a3, a4, a5, a6, a7, a8, a9, a10, fun _ => 0, fun _ => 0, fun _ => 0, a14, a15) := by
  have v0 : vp_in 0 24 := vp_in_iff.mpr (by decide)
  have v1 : vp_in 1 24 := vp_in_iff.mpr (by decide)
  have v2 : vp_in 2 24 := vp_in_iff.mpr (by decide)
  unfold wpX_walk
  dsimp only
  refine tr_enter 0 0 0 (by decide) v0 (by decide) (vp_in_iff.mpr (by decide)) (by decide) v0 (fun e0 => ?_) (fun e0 => ?_)
  · have d0 : ¬ tr_dn (a6 0) = 0 := fun z => tr_dn_0 _ g0 z e0
    dsimp only
    rw [c0]
    refine ⟨6, br_f (show ¬ (64 : Int32) ≤ 0 by decide) (br_f (show ¬ (0 : Int32) + 1 ≤ 0 by decide) (br_t (show (0 : Int32) ≤ 1 by decide) ⟨v1, br_f (fun z => absurd (p1.symm.trans z) (by decide)) ⟨v1, br_t i1 ?_⟩⟩))⟩
    dsimp only
    refine tr_enter 1 4 1 (by decide) v1 (by decide) (vp_in_iff.mpr (by decide)) (by decide) (vp_in_iff.mpr (by decide)) (fun e4 => ?_) (fun e4 => ?_)
    · have d4 : ¬ tr_dn (a6 4) = 0 := fun z => tr_dn_0 _ g4 z e4
      have hal : ¬ tr_al (a6 0) (a6 4) = 0 := by
        unfold tr_al
        rw [if_neg d0]
        exact d4
      dsimp only
      rw [c1]
      refine nm_r (e' := 1) (by decide) ?_
      refine br_f (show ¬ (64 : Int32) ≤ 1 by decide) (br_f (show ¬ (0 : Int32) + 1 + 1 ≤ 0 by decide) (br_t (show (0 : Int32) ≤ 2 by decide) ⟨v2, br_f (fun z => absurd (p2.symm.trans z) (by decide)) ⟨v2, br_f (fun z => absurd (i2.symm.trans z) (by decide)) ?_⟩⟩))
      dsimp only
      refine tr_runTest rfl rfl g2 g3 g6 g7 hbi ht hb0 hb1 (fun eR => ?_) (fun eR => ?_)
      · refine ⟨v2, nm_r (e' := -1) s2 (nm_r (e' := 2) (by decide) ?_)⟩
        refine tr_wb 1 (by decide) (by decide) rfl rfl s0 s1 (H _ _ _ _ _ _ _ ?_)
        have w01 := tr_w1 _ g0 _ g1
        have w45 := tr_w1 _ g4 _ g5
        have hN : tr_N a6 b = 1 := by
          unfold tr_N
          rw [if_neg hal, if_neg eR]
        unfold tr_F
        rw [hN]
        refine ⟨?_, ?_, ?_, ?_, ?_, ?_, ?_, ?_, ?_, ?_, ?_, ?_, ?_, ?_⟩
        · simp [upd, w01]
        · simp [upd, w45, d0]
        · simp [upd, hal]
        · simp [upd, tr_dl]
        · simp [upd, tr_dl]
        · simp [upd, tr_dl, d0]
        · simp [upd, tr_dl, d0]
        · simp [upd]
        · simp [upd, tr_dl]
        · simp [upd, tr_dl]
        · simp [upd, tr_dl]
        · simp [upd, tr_dl]
        · simp [upd, tr_dl]
        · unfold tr_D
          by_cases p : tr_dn (a6 2) = 0
          · by_cases q : tr_al (a6 2) (a6 6) = 0
            · simp only [if_pos p, if_pos q, if_neg d0]
              grind
            · simp only [if_pos p, if_neg q, if_neg d0]
              grind
          · by_cases q : tr_al (a6 2) (a6 6) = 0
            · simp only [if_neg p, if_pos q, if_neg d0]
              grind
            · simp only [if_neg p, if_neg q, if_neg d0]
              grind
      · refine ⟨v2, nm_r (e' := -1) s2 (nm_r (e' := 2) (by decide) ?_)⟩
        refine tr_wb 1 (by decide) (by decide) rfl rfl s0 s1 (H _ _ _ _ _ _ _ ?_)
        have w01 := tr_w1 _ g0 _ g1
        have w45 := tr_w1 _ g4 _ g5
        have hN : tr_N a6 b = 2 := by
          unfold tr_N
          rw [if_neg hal, if_pos eR]
        unfold tr_F
        rw [hN]
        refine ⟨?_, ?_, ?_, ?_, ?_, ?_, ?_, ?_, ?_, ?_, ?_, ?_, ?_, ?_⟩
        · simp [upd, w01]
        · simp [upd, w45, d0]
        · simp [upd, hal]
        · simp [upd, tr_dl]
        · simp [upd, tr_dl]
        · simp [upd, tr_dl, d0]
        · simp [upd, tr_dl, d0]
        · simp [upd]
        · simp [upd, tr_dl]; grind
        · simp [upd, tr_dl]; grind
        · simp [upd, tr_dl]; grind
        · simp [upd, tr_dl]; grind
        · simp [upd, tr_dl]; grind
        · unfold tr_D
          by_cases p : tr_dn (a6 2) = 0
          · by_cases q : tr_al (a6 2) (a6 6) = 0
            · simp only [if_pos p, if_pos q, if_neg d0]
              grind
            · simp only [if_pos p, if_neg q, if_neg d0]
              grind
          · by_cases q : tr_al (a6 2) (a6 6) = 0
            · simp only [if_neg p, if_pos q, if_neg d0]
              grind
            · simp only [if_neg p, if_neg q, if_neg d0]
              grind
    · have d4 : tr_dn (a6 4) = 0 := by
        by_cases z : tr_dn (a6 4) = 0
        · exact z
        · exact absurd (tr_dn_1 _ g4 z) e4
      have hal : tr_al (a6 0) (a6 4) = 0 := by
        unfold tr_al
        rw [if_neg d0]
        exact d4
      refine nm_r (e' := 1) (by decide) ?_
      refine tr_wb 2 (by decide) (by decide) rfl rfl s0 s1 (H _ _ _ _ _ _ _ ?_)
      have w01 := tr_w1 _ g0 _ g1
      have w45 := tr_w1 _ g4 _ g5
      unfold tr_F tr_N
      simp [upd, w01, w45, d0, hal]
      try grind
  · have d0 : tr_dn (a6 0) = 0 := by
      by_cases z : tr_dn (a6 0) = 0
      · exact z
      · exact absurd (tr_dn_1 _ g0 z) e0
    have hal : tr_al (a6 0) (a6 4) = 0 := by
      unfold tr_al
      rw [if_pos d0]
    refine ⟨2, ?_⟩
    refine tr_wa 0 (by decide) rfl s0 (H _ _ _ _ _ _ _ ?_)
    have w01 := tr_w1 _ g0 _ g1
    unfold tr_F tr_N
    simp [upd, w01, d0, hal]
    try grind
end
end
section
section
variable {n t o s : Int32} {a1 a2 a3 a4 a5 a6 a7 a8 a9 a10 a11 a12 a13 a14 a15 : Nat → Int32}
theorem tr_child {post : Int32 → Prop} {p0 c : Int32} (k kc : Nat) (hk : p0.toNatClampNeg = k) (hi : vp_in p0 24) (hc : a3 k = c) (hn : ¬ c < 0) (hkc : c.toNatClampNeg = kc) (hic : vp_in c 24) (ht : ¬ a14 kc = 0) (H : post 1) :
    wpX_childTakesPart post (n, t, o, s, a1, a2, a3, a4, a5, a6, a7, a8, a9, a10, a11, a12, a13, a14, a15) p0 := by
  subst hk hkc
  unfold wpX_childTakesPart
  dsimp only
  exact ⟨hi, nm_r hc ⟨1, br_f (show ¬ (24 : Int32) ≤ 0 by decide) (br_f hn ⟨hic, br_f ht H⟩)⟩⟩
theorem tr_choose {post : St2 → Prop} (i0 : a1 0 = 0) (i1 : a1 1 = 0) (i2 : a1 2 = 1) (u1 : a2 1 = 0) (u2 : a2 2 = 1) (c0 : a3 0 = 1) (c1 : a3 1 = 2) (g2 : a9 2 = 1) (d0 : a10 0 = 0) (d1 : a10 1 = 0) (d2 : a10 2 = 0)
    (H : ∀ b14 : Nat → Int32, b14 0 = 1 → b14 1 = 1 → b14 2 = 1 → post (3, t, o, s, a1, a2, a3, a4, a5, a6, a7, a8, a9, a10, a11, a12, a13, b14, a15)) : wpX_choose post (3, t, o, s, a1, a2, a3, a4, a5, a6, a7, a8, a9, a10, a11, a12, a13, a14, a15) 1 := by
  have v0 : vp_in 0 24 := vp_in_iff.mpr (by decide)
  have v1 : vp_in 1 24 := vp_in_iff.mpr (by decide)
  have v2 : vp_in 2 24 := vp_in_iff.mpr (by decide)
  have n10 : ¬ (1 : Int32) = 0 := by decide
  unfold wpX_choose
  dsimp only
  refine ⟨4, br_f (show ¬ (3 : Int32) ≤ 0 by decide) ⟨v0, br_t d0 (br_t (show (0 : Int32) ≤ 0 by decide) (br_t rfl ⟨v0, nm_e (nm_r (e' := 1) (by decide) ?_)⟩))⟩⟩
  refine br_f (show ¬ (3 : Int32) ≤ 1 by decide) ⟨v1, br_t d1 (br_f (show ¬ (1 : Int32) ≤ 0 by decide) ⟨v1, ?_⟩)⟩
  rw [show a2 (1 : Int32).toNatClampNeg = 0 from u1]
  refine ⟨v0, br_f n10 (br_t rfl ⟨v1, nm_e (nm_r (e' := 2) (by decide) ?_)⟩)⟩
  refine br_f (show ¬ (3 : Int32) ≤ 2 by decide) ⟨v2, br_t d2 (br_f (show ¬ (2 : Int32) ≤ 0 by decide) ⟨v2, ?_⟩)⟩
  rw [show a2 (2 : Int32).toNatClampNeg = 1 from u2]
  refine ⟨v1, br_f n10 (br_t rfl ⟨v2, nm_e (nm_r (e' := 3) (by decide) ?_)⟩)⟩
  refine br_t (show (3 : Int32) ≤ 3 by decide) (nm_r (e' := 2) (by decide) ⟨4, ?_⟩)
  refine br_f (show ¬ (2 : Int32) < 0 by decide) ⟨v2, br_f (fun z => absurd (i2.symm.trans z) (by decide)) ⟨v2, br_f n10 ⟨v2, br_f ?_ ⟨v2, nm_e (nm_r (e' := 1) (by decide) ?_)⟩⟩⟩⟩
  · rw [show a9 (2 : Int32).toNatClampNeg = 1 from g2]
    decide
  refine br_f (show ¬ (1 : Int32) < 0 by decide) ⟨v1, br_t i1 ⟨v1, br_f n10 ?_⟩⟩
  refine tr_child 1 2 (by decide) v1 c1 (by decide) (by decide) v2 n10 ?_
  refine br_f n10 ⟨v1, nm_e (nm_r (e' := 0) (by decide) ?_)⟩
  refine br_f (show ¬ (0 : Int32) < 0 by decide) ⟨v0, br_t i0 ⟨v0, br_f n10 ?_⟩⟩
  refine tr_child 0 1 (by decide) v0 c0 (by decide) (by decide) v1 n10 ?_
  refine br_f n10 ⟨v0, nm_e (nm_r (e' := -1) (by decide) ?_)⟩
  exact br_t (show (-1 : Int32) < 0 by decide) (H _ rfl rfl rfl)
theorem tr_count {post : Int32 → Prop} {v : Int32} (i0 : a1 0 = 0) (i1 : a1 1 = 0) (i2 : a1 2 = 1) (hv : v ∈ tr_l3) (H : post (if a11 2 = v then 1 else 0)) :
    wpX_count post (3, t, o, s, a1, a2, a3, a4, a5, a6, a7, a8, a9, a10, a11, a12, a13, a14, a15) v := by
  have v0 : vp_in 0 24 := vp_in_iff.mpr (by decide)
  have v1 : vp_in 1 24 := vp_in_iff.mpr (by decide)
  have v2 : vp_in 2 24 := vp_in_iff.mpr (by decide)
  have hlo : ∀ w ∈ tr_l3, ¬ w < 1 := by decide
  have hhi : ∀ w ∈ tr_l3, w ≤ 3 := by decide
  unfold wpX_count
  dsimp only
  refine br_f (hlo v hv) (br_t (hhi v hv) ⟨4, ?_⟩)
  refine br_f (show ¬ (3 : Int32) ≤ 0 by decide) ⟨v0, br_t i0 (nm_r (e' := 1) (by decide) ?_)⟩
  refine br_f (show ¬ (3 : Int32) ≤ 1 by decide) ⟨v1, br_t i1 (nm_r (e' := 2) (by decide) ?_)⟩
  refine br_f (show ¬ (3 : Int32) ≤ 2 by decide) ⟨v2, br_f (fun z => absurd (i2.symm.trans z) (by decide)) ⟨v2, br_c (fun e => nm_r (e' := 1) (by decide) (nm_r (e' := 3) (by decide) ?_)) (fun e => nm_r (e' := 3) (by decide) ?_)⟩⟩
  · rw [if_pos (show a11 2 = v from e)] at H
    exact br_t (show (3 : Int32) ≤ 3 by decide) H
  · rw [if_neg (show ¬ a11 2 = v from e)] at H
    exact br_t (show (3 : Int32) ≤ 3 by decide) H
theorem tr_run {post : Int32 → St2 → Prop} {b : Int32} (g0 : a6 0 ∈ tr_l4) (g1 : a6 1 ∈ tr_l4) (g2 : a6 2 ∈ tr_l4) (g3 : a6 3 ∈ tr_l4) (g4 : a6 4 ∈ tr_l4) (g5 : a6 5 ∈ tr_l4) (g6 : a6 6 ∈ tr_l4) (g7 : a6 7 ∈ tr_l4) (hbi : b ∈ tr_l3) (ht : a7 2 = 2)
    (hb0 : (a8 2 >>> ((2 * 0) &&& 31)) &&& 3 = b) (hb1 : (a8 2 >>> ((2 * 1) &&& 31)) &&& 3 = b)
    (i0 : a1 0 = 0) (i1 : a1 1 = 0) (i2 : a1 2 = 1) (u1 : a2 1 = 0) (u2 : a2 2 = 1) (c0 : a3 0 = 1) (c1 : a3 1 = 2) (s0 : a5 0 = -1) (s1 : a5 1 = -1) (s2 : a5 2 = -1) (hg2 : a9 2 = 1) (d0 : a10 0 = 0) (d1 : a10 1 = 0) (d2 : a10 2 = 0)
    (H : ∀ (t' o' s' : Int32) (b11 b12 b13 b14 b15 : Nat → Int32), tr_F a6 b t' b11 b12 b13 → post (if b11 2 = 2 then 1 else 0) (3, t', o', s', a1, a2, a3, a4, a5, a6, a7, a8, a9, a10, b11, b12, b13, b14, b15)) :
    wpX_run post (3, t, o, s, a1, a2, a3, a4, a5, a6, a7, a8, a9, a10, fun _ => 0, fun _ => 0, fun _ => 0, a14, a15) 1 := by
  have E30 : ∃ f, wX_run_30 post 1 3 t o s f 0 a1 a2 a3 a4 a5 a6 a7 a8 a9 a10 (fun _ => 0) (fun _ => 0) (fun _ => 0) a14 a15 := by
    refine pk_loop (σ := Unit) (fun f i _ => wX_run_30 post 1 3 t o s f (nI i) a1 a2 a3 a4 a5 a6 a7 a8 a9 a10 (fun _ => 0) (fun _ => 0) (fun _ => 0) a14 a15) (fun _ _ => True) 96 0 () (by omega) trivial (fun f _ _ => ?_) (fun f i _ hi _ hw => ?_)
    · refine br_t (show (96 : Int32) ≤ nI 96 by decide) ?_
      refine tr_choose i0 i1 i2 u1 u2 c0 c1 hg2 d0 d1 d2 (fun b14 e0 e1 e2 => ?_)
      refine br_f (fun z => absurd (e0.symm.trans z) (by decide)) ?_
      refine tr_walk g0 g1 g2 g3 g4 g5 g6 g7 hbi ht hb0 hb1 i1 i2 c0 c1 s0 s1 s2 e1 e2 (fun t' o' s' b11 b12 b13 b15 hF => ?_)
      exact tr_count i0 i1 i2 (by decide) (H t' o' s' b11 b12 b13 b14 b15 hF)
    · exact pk_le 96 i (fun z => absurd z (by omega)) (fun _ => ⟨pk_in i 96 hi, nm_r (tr_us (fun _ => 0) _) (nm_r (nI_1 i) (hw () trivial))⟩)
  unfold wpX_run
  dsimp only
  refine pk_loop (σ := Unit) (fun f i _ => wX_run_2 post 1 3 t o s f (nI i) a1 a2 a3 a4 a5 a6 a7 a8 a9 a10 (fun _ => 0) (fun _ => 0) (fun _ => 0) a14 a15) (fun _ _ => True) 24 0 () (by omega) trivial (fun f _ _ => ?_) (fun f i _ hi _ hw => ?_)
  · exact br_t (show (24 : Int32) ≤ nI 24 by decide) E30
  · exact pk_le 24 i (fun z => absurd z (by omega)) (fun _ => ⟨pk_in i 24 hi, nm_r (tr_us (fun _ => 0) _) ⟨pk_in i 24 hi, nm_r (tr_us (fun _ => 0) _) (nm_r (nI_1 i) (hw () trivial))⟩⟩)
end
end
section
section
variable {n t o s : Int32} {a1 a2 a3 a4 a5 a6 a7 a8 a9 a10 a11 a12 a13 a14 a15 : Nat → Int32}
variable {post : Int32 → St0 → Prop} {mc ms kc ks : Nat} {x4 x5 x6 x7 x8 x9 x10 x11 x12 x13 x14 x15 x16 x17 x18 x19 z0 z1 : Int32}
/-- the law's own names, and what it reads of the runner -/
def tr_K (x4 x5 x6 x7 x8 x9 x10 x11 x12 x13 x14 x15 x16 x17 x18 x19 t : Int32) (a1 a11 a12 a13 : Nat → Int32) : Prop :=
  (a1 0 = 0 ∧ a1 1 = 0 ∧ a1 2 = 1) ∧ (x13 = tr_dn x5 ∧ x14 = tr_al x5 x9 ∧ x16 = tr_dn x7 ∧ x17 = tr_al x7 x11 ∧ x18 = tr_R x7 x8 x11 x12 x4 ∧ x18 ∈ tr_l3 ∧ x19 = (if x14 = 0 then 0 else if x18 = 2 then 2 else 1)) ∧
  (x15 = (if x19 = 2 then 1 else 0)) ∧
  (a11 0 = tr_ws x5 x6 ∧ a11 1 = (if x13 = 0 then 0 else tr_ws x9 x10) ∧ a11 2 = (if x14 = 0 then 0 else x18)) ∧
  (a12 0 = tr_on x5 ∧ a12 1 = tr_on x6 ∧ a12 4 = (if x13 = 0 then 0 else tr_on x9) ∧ a12 5 = (if x13 = 0 then 0 else tr_on x10)) ∧
  (a13 2 = x19 ∧ a12 8 = (if x17 = 0 then 0 else x19) ∧ a12 2 = x19 * tr_on x7 ∧ a12 3 = x19 * tr_on x8 ∧ a12 6 = (if x16 = 0 then 0 else x19 * tr_on x11) ∧ a12 7 = (if x16 = 0 then 0 else x19 * tr_on x12)) ∧
  t = tr_on x5 + tr_on x6 + (if x13 = 0 then 0 else tr_on x9 + tr_on x10) + x19 * (tr_on x7 + tr_on x8) + (if x16 = 0 then 0 else x19 * (tr_on x11 + tr_on x12)) + (if x17 = 0 then 0 else x19)
theorem tr_result {post : Int32 → Prop} {p : Int32} (k : Nat) (hk : p.toNatClampNeg = k) (hi : vp_in p 24) (h0 : ¬ p < 0) (hn : p < 3) (H : post (a11 k)) : wpX_result post (3, t, o, s, a1, a2, a3, a4, a5, a6, a7, a8, a9, a10, a11, a12, a13, a14, a15) p := by
  subst hk
  unfold wpX_result wpX_noNode
  dsimp only
  exact br_f h0 (br_t hn (br_t rfl ⟨hi, H⟩))
theorem tr_attempts {post : Int32 → Prop} {p : Int32} (k : Nat) (hk : p.toNatClampNeg = k) (hi : vp_in p 24) (h0 : ¬ p < 0) (hn : p < 3) (H : post (a13 k)) : wpX_attempts post (3, t, o, s, a1, a2, a3, a4, a5, a6, a7, a8, a9, a10, a11, a12, a13, a14, a15) p := by
  subst hk
  unfold wpX_attempts wpX_noNode
  dsimp only
  exact br_f h0 (br_t hn (br_t rfl ⟨hi, H⟩))
theorem tr_times {post : Int32 → Prop} {p q : Int32} (k : Nat) (hk : (p * 4 + q).toNatClampNeg = k) (hi : vp_in (p * 4 + q) 96) (h0 : ¬ p < 0) (hn : p < 3) (q0 : ¬ q < 0) (q3 : q ≤ 3) (H : post (a12 k)) : wpX_times post (3, t, o, s, a1, a2, a3, a4, a5, a6, a7, a8, a9, a10, a11, a12, a13, a14, a15) p q := by
  subst hk
  unfold wpX_times wpX_noNode
  dsimp only
  exact br_f h0 (br_t hn (br_t rfl (br_f q0 (br_t q3 ⟨hi, H⟩))))
theorem tr_672 (hp : post 1 ()) (K : tr_K x4 x5 x6 x7 x8 x9 x10 x11 x12 x13 x14 x15 x16 x17 x18 x19 t a1 a11 a12 a13) (hz : z1 = z0) : wL_lawOf_672 post mc ms x14 x18 z0 z1 kc ks 3 t o s a1 a2 a3 a4 a5 a6 a7 a8 a9 a10 a11 a12 a13 a14 a15 := by
  obtain ⟨⟨i0, i1, i2⟩, ⟨_, _, _, _, _, h18, _⟩, _, ⟨_, _, r2⟩, _⟩ := K
  unfold wL_lawOf_672
  refine br_t hz ?_
  refine tr_count i0 i1 i2 h18 ?_
  have n18 : ¬ (0 : Int32) = x18 := by
    intro z
    rw [← z] at h18
    exact absurd h18 (by decide)
  by_cases e : x14 = 0
  · rw [if_pos e] at r2
    refine br_t e (br_t ?_ hp)
    rw [r2, if_neg n18]
  · rw [if_neg e] at r2
    refine br_f e (br_t ?_ hp)
    rw [r2, if_pos rfl]
theorem tr_651 (hp : post 1 ()) (K : tr_K x4 x5 x6 x7 x8 x9 x10 x11 x12 x13 x14 x15 x16 x17 x18 x19 t a1 a11 a12 a13)
    (hz : z0 = tr_on x5 + tr_on x6 + (if x13 = 0 then 0 else tr_on x9 + tr_on x10) + x19 * (tr_on x7 + tr_on x8) + (if x16 = 0 then 0 else x19 * (tr_on x11 + tr_on x12))) :
    wL_lawOf_651 post mc ms x14 x17 x18 x19 z0 kc ks 3 t o s a1 a2 a3 a4 a5 a6 a7 a8 a9 a10 a11 a12 a13 a14 a15 := by
  have ht := K.2.2.2.2.2.2
  unfold wL_lawOf_651 wpX_steps
  dsimp only
  rw [← hz] at ht
  refine br_c (fun e => tr_672 hp K ?_) (fun e => tr_672 hp K ?_)
  · rw [if_pos e, Int32.add_zero] at ht
    exact ht
  · rw [if_neg e] at ht
    exact ht
theorem tr_606 (hp : post 1 ()) (K : tr_K x4 x5 x6 x7 x8 x9 x10 x11 x12 x13 x14 x15 x16 x17 x18 x19 t a1 a11 a12 a13)
    (h1 : z1 = tr_on x5 + tr_on x6) (h0 : z0 = (if x13 = 0 then 0 else tr_on x9 + tr_on x10)) :
    wL_lawOf_606 post mc ms x7 x8 x11 x12 x14 x16 x17 x18 x19 z0 z1 kc ks 3 t o s a1 a2 a3 a4 a5 a6 a7 a8 a9 a10 a11 a12 a13 a14 a15 := by
  unfold wL_lawOf_606
  refine tr_once ?_
  refine tr_once ?_
  refine nm_e (br_c (fun e => ?_) (fun e => ?_))
  · refine tr_651 hp K ?_
    rw [h1, h0, if_pos e, Int32.add_zero]
  · refine tr_once ?_
    refine tr_once ?_
    refine tr_651 hp K ?_
    rw [h1, h0, if_neg e]
theorem tr_570 (hp : post 1 ()) (K : tr_K x4 x5 x6 x7 x8 x9 x10 x11 x12 x13 x14 x15 x16 x17 x18 x19 t a1 a11 a12 a13) (hz : z1 = z0) :
    wL_lawOf_570 post mc ms x5 x6 x7 x8 x9 x10 x11 x12 x13 x14 x16 x17 x18 x19 z0 z1 kc ks 3 t o s a1 a2 a3 a4 a5 a6 a7 a8 a9 a10 a11 a12 a13 a14 a15 := by
  unfold wL_lawOf_570
  refine br_t hz ?_
  refine tr_once ?_
  refine tr_once ?_
  refine br_c (fun e => ?_) (fun e => ?_)
  · exact tr_606 hp K rfl (by rw [if_pos e])
  · refine tr_once ?_
    refine tr_once ?_
    exact tr_606 hp K rfl (by rw [if_neg e])
theorem tr_544 (hp : post 1 ()) (K : tr_K x4 x5 x6 x7 x8 x9 x10 x11 x12 x13 x14 x15 x16 x17 x18 x19 t a1 a11 a12 a13) (hz : z1 = z0) :
    wL_lawOf_544 post mc ms x5 x6 x7 x8 x9 x10 x11 x12 x13 x14 x16 x17 x18 x19 z0 z1 kc ks 3 t o s a1 a2 a3 a4 a5 a6 a7 a8 a9 a10 a11 a12 a13 a14 a15 := by
  have h := K.2.2.2.2.2.1.2.2.2.2.2
  unfold wL_lawOf_544
  refine br_t hz ?_
  refine tr_times 7 (by decide) (vp_in_iff.mpr (by decide)) (by decide) (by decide) (by decide) (by decide) ?_
  refine br_c (fun e => ?_) (fun e => ?_)
  · rw [if_pos e] at h
    exact tr_570 hp K h
  · rw [if_neg e] at h
    refine tr_once ?_
    exact tr_570 hp K h
theorem tr_480 (hp : post 1 ()) (K : tr_K x4 x5 x6 x7 x8 x9 x10 x11 x12 x13 x14 x15 x16 x17 x18 x19 t a1 a11 a12 a13) (hz : z1 = z0) :
    wL_lawOf_480 post mc ms x5 x6 x7 x8 x9 x10 x11 x12 x13 x14 x16 x17 x18 x19 z0 z1 kc ks 3 t o s a1 a2 a3 a4 a5 a6 a7 a8 a9 a10 a11 a12 a13 a14 a15 := by
  obtain ⟨_, _, h2, h3, h6, _⟩ := K.2.2.2.2.2.1
  unfold wL_lawOf_480
  refine br_t hz ?_
  refine tr_times 2 (by decide) (vp_in_iff.mpr (by decide)) (by decide) (by decide) (by decide) (by decide) ?_
  refine tr_once ?_
  refine br_t h2 ?_
  refine tr_times 3 (by decide) (vp_in_iff.mpr (by decide)) (by decide) (by decide) (by decide) (by decide) ?_
  refine tr_once ?_
  refine br_t h3 ?_
  refine tr_times 6 (by decide) (vp_in_iff.mpr (by decide)) (by decide) (by decide) (by decide) (by decide) ?_
  refine br_c (fun e => ?_) (fun e => ?_)
  · rw [if_pos e] at h6
    exact tr_544 hp K h6
  · rw [if_neg e] at h6
    refine tr_once ?_
    exact tr_544 hp K h6
theorem tr_460 (hp : post 1 ()) (K : tr_K x4 x5 x6 x7 x8 x9 x10 x11 x12 x13 x14 x15 x16 x17 x18 x19 t a1 a11 a12 a13) (hz : z1 = z0) :
    wL_lawOf_460 post mc ms x5 x6 x7 x8 x9 x10 x11 x12 x13 x14 x16 x17 x18 x19 z0 z1 kc ks 3 t o s a1 a2 a3 a4 a5 a6 a7 a8 a9 a10 a11 a12 a13 a14 a15 := by
  have h := K.2.2.2.2.2.1.2.1
  unfold wL_lawOf_460
  refine br_t hz ?_
  refine tr_times 8 (by decide) (vp_in_iff.mpr (by decide)) (by decide) (by decide) (by decide) (by decide) ?_
  refine br_c (fun e => ?_) (fun e => ?_)
  · rw [if_pos e] at h
    exact tr_480 hp K h
  · rw [if_neg e] at h
    exact tr_480 hp K h
theorem tr_434 (hp : post 1 ()) (K : tr_K x4 x5 x6 x7 x8 x9 x10 x11 x12 x13 x14 x15 x16 x17 x18 x19 t a1 a11 a12 a13) (hz : z1 = z0) :
    wL_lawOf_434 post mc ms x5 x6 x7 x8 x9 x10 x11 x12 x13 x14 x15 x16 x17 x18 x19 z0 z1 kc ks 3 t o s a1 a2 a3 a4 a5 a6 a7 a8 a9 a10 a11 a12 a13 a14 a15 := by
  have h := K.2.2.2.2.2.1.1
  have h15 := K.2.2.1
  unfold wL_lawOf_434
  refine br_t hz ?_
  refine tr_attempts 2 (by decide) (vp_in_iff.mpr (by decide)) (by decide) (by decide) ?_
  refine br_t h (br_c (fun e => ?_) (fun e => ?_))
  · rw [if_pos e] at h15
    exact tr_460 hp K h15
  · rw [if_neg e] at h15
    exact tr_460 hp K h15
theorem tr_416 (hp : post 1 ()) (K : tr_K x4 x5 x6 x7 x8 x9 x10 x11 x12 x13 x14 x15 x16 x17 x18 x19 t a1 a11 a12 a13) (hz : z0 = x19) :
    wL_lawOf_416 post mc ms x5 x6 x7 x8 x9 x10 x11 x12 x13 x14 x15 x16 x17 x18 z0 kc ks 3 t o s a1 a2 a3 a4 a5 a6 a7 a8 a9 a10 a11 a12 a13 a14 a15 := by
  have h := K.2.2.2.1.2.2
  subst hz
  unfold wL_lawOf_416
  refine tr_result 2 (by decide) (vp_in_iff.mpr (by decide)) (by decide) (by decide) ?_
  refine br_c (fun e => ?_) (fun e => ?_)
  · rw [if_pos e] at h
    exact tr_434 hp K h
  · rw [if_neg e] at h
    exact tr_434 hp K h
theorem tr_394 (hp : post 1 ()) (K : tr_K x4 x5 x6 x7 x8 x9 x10 x11 x12 x13 x14 x15 x16 x17 x18 x19 t a1 a11 a12 a13) (hz : z0 = x18) :
    wL_lawOf_394 post mc ms x5 x6 x7 x8 x9 x10 x11 x12 x13 x14 x15 x16 x17 z0 kc ks 3 t o s a1 a2 a3 a4 a5 a6 a7 a8 a9 a10 a11 a12 a13 a14 a15 := by
  have h := K.2.1.2.2.2.2.2.2
  subst hz
  unfold wL_lawOf_394
  refine br_c (fun e => ?_) (fun e => br_c (fun e2 => ?_) (fun e2 => ?_))
  · rw [if_pos e] at h
    exact tr_416 hp K h.symm
  · rw [if_neg e, if_pos e2] at h
    exact tr_416 hp K h.symm
  · rw [if_neg e, if_neg e2] at h
    exact tr_416 hp K h.symm
theorem tr_328 (hp : post 1 ()) (K : tr_K x4 x5 x6 x7 x8 x9 x10 x11 x12 x13 x14 x15 x16 x17 x18 x19 t a1 a11 a12 a13) (hz : z0 = x17) :
    wL_lawOf_328 post mc ms x4 x5 x6 x7 x8 x9 x10 x11 x12 x13 x14 x15 x16 z0 kc ks 3 t o s a1 a2 a3 a4 a5 a6 a7 a8 a9 a10 a11 a12 a13 a14 a15 := by
  obtain ⟨_, _, h16, h17, h18, _⟩ := K.2.1
  subst hz
  unfold wL_lawOf_328
  refine tr_worseL ?_
  refine br_c (fun e => ?_) (fun e => ?_)
  · have e' := e
    rw [h16] at e'
    have e17 : z0 = 0 := by
      rw [h17]
      unfold tr_al
      rw [if_pos e']
    unfold wL_lawOf_356
    refine br_t e ?_
    unfold wL_lawOf_375
    refine br_t e17 ?_
    refine tr_394 hp K ?_
    rw [h18]
    unfold tr_R
    rw [if_pos e']
  · have e' := e
    rw [h16] at e'
    refine tr_worseL ?_
    unfold wL_lawOf_356
    refine br_f e ?_
    refine tr_worseL ?_
    unfold wL_lawOf_375
    refine br_c (fun f => ?_) (fun f => ?_)
    · refine tr_394 hp K ?_
      rw [h17] at f
      rw [h18]
      unfold tr_R
      rw [if_neg e', if_pos f]
    · refine tr_worseL ?_
      refine tr_394 hp K ?_
      rw [h17] at f
      rw [h18]
      unfold tr_R
      rw [if_neg e', if_neg f]
theorem tr_310 (hp : post 1 ()) (K : tr_K x4 x5 x6 x7 x8 x9 x10 x11 x12 x13 x14 x15 x16 x17 x18 x19 t a1 a11 a12 a13) (hz : z0 = x16) :
    wL_lawOf_310 post mc ms x4 x5 x6 x7 x8 x9 x10 x11 x12 x13 x14 x15 z0 kc ks 3 t o s a1 a2 a3 a4 a5 a6 a7 a8 a9 a10 a11 a12 a13 a14 a15 := by
  obtain ⟨_, _, h16, h17, _⟩ := K.2.1
  subst hz
  unfold tr_al at h17
  rw [← h16] at h17
  unfold wL_lawOf_310 wL_lawOf_327
  refine br_c (fun e => ?_) (fun e => br_c (fun f => ?_) (fun f => ?_))
  · rw [if_pos e] at h17
    exact tr_328 hp K h17.symm
  · rw [if_neg e, show tr_dn x11 = 0 from if_pos f] at h17
    exact tr_328 hp K h17.symm
  · rw [if_neg e, show tr_dn x11 = 1 from if_neg f] at h17
    exact tr_328 hp K h17.symm
theorem tr_294 (hp : post 1 ()) (K : tr_K x4 x5 x6 x7 x8 x9 x10 x11 x12 x13 x14 x15 x16 x17 x18 x19 t a1 a11 a12 a13) (hz : z1 = z0) :
    wL_lawOf_294 post mc ms x4 x5 x6 x7 x8 x9 x10 x11 x12 x13 x14 x15 z0 z1 kc ks 3 t o s a1 a2 a3 a4 a5 a6 a7 a8 a9 a10 a11 a12 a13 a14 a15 := by
  have h := K.2.1.2.2.1
  unfold wL_lawOf_294
  refine br_t hz (br_c (fun e => ?_) (fun e => ?_))
  · rw [show tr_dn x7 = 0 from if_pos e] at h
    exact tr_310 hp K h.symm
  · rw [show tr_dn x7 = 1 from if_neg e] at h
    exact tr_310 hp K h.symm
theorem tr_271 (hp : post 1 ()) (K : tr_K x4 x5 x6 x7 x8 x9 x10 x11 x12 x13 x14 x15 x16 x17 x18 x19 t a1 a11 a12 a13) (hz : z1 = z0) :
    wL_lawOf_271 post mc ms x4 x5 x6 x7 x8 x9 x10 x11 x12 x13 x14 x15 z0 z1 kc ks 3 t o s a1 a2 a3 a4 a5 a6 a7 a8 a9 a10 a11 a12 a13 a14 a15 := by
  have h := K.2.2.2.2.1.2.2.2
  unfold wL_lawOf_271
  refine br_t hz ?_
  refine tr_times 5 (by decide) (vp_in_iff.mpr (by decide)) (by decide) (by decide) (by decide) (by decide) ?_
  refine br_c (fun e => ?_) (fun e => ?_)
  · rw [if_pos e] at h
    exact tr_294 hp K h
  · rw [if_neg e] at h
    refine tr_once ?_
    exact tr_294 hp K h
theorem tr_248 (hp : post 1 ()) (K : tr_K x4 x5 x6 x7 x8 x9 x10 x11 x12 x13 x14 x15 x16 x17 x18 x19 t a1 a11 a12 a13) (hz : z1 = z0) :
    wL_lawOf_248 post mc ms x4 x5 x6 x7 x8 x9 x10 x11 x12 x13 x14 x15 z0 z1 kc ks 3 t o s a1 a2 a3 a4 a5 a6 a7 a8 a9 a10 a11 a12 a13 a14 a15 := by
  have h := K.2.2.2.2.1.2.2.1
  unfold wL_lawOf_248
  refine br_t hz ?_
  refine tr_times 4 (by decide) (vp_in_iff.mpr (by decide)) (by decide) (by decide) (by decide) (by decide) ?_
  refine br_c (fun e => ?_) (fun e => ?_)
  · rw [if_pos e] at h
    exact tr_271 hp K h
  · rw [if_neg e] at h
    refine tr_once ?_
    exact tr_271 hp K h
end
end
section
section
variable {n t o s : Int32} {a1 a2 a3 a4 a5 a6 a7 a8 a9 a10 a11 a12 a13 a14 a15 : Nat → Int32}
variable {mc ms kc ks : Nat} {x4 x5 x13 z0 : Int32}
theorem tr_173 {post : Int32 → St0 → Prop} (hp : post 1 ()) (g0 : a6 0 ∈ tr_l4) (g1 : a6 1 ∈ tr_l4) (g2 : a6 2 ∈ tr_l4) (g3 : a6 3 ∈ tr_l4) (g4 : a6 4 ∈ tr_l4) (g5 : a6 5 ∈ tr_l4) (g6 : a6 6 ∈ tr_l4) (g7 : a6 7 ∈ tr_l4) (hbi : x4 ∈ tr_l3) (ht : a7 2 = 2)
    (hb0 : (a8 2 >>> ((2 * 0) &&& 31)) &&& 3 = x4) (hb1 : (a8 2 >>> ((2 * 1) &&& 31)) &&& 3 = x4)
    (i0 : a1 0 = 0) (i1 : a1 1 = 0) (i2 : a1 2 = 1) (u1 : a2 1 = 0) (u2 : a2 2 = 1) (c0 : a3 0 = 1) (c1 : a3 1 = 2) (s0 : a5 0 = -1) (s1 : a5 1 = -1) (s2 : a5 2 = -1) (hg2 : a9 2 = 1) (d0 : a10 0 = 0) (d1 : a10 1 = 0) (d2 : a10 2 = 0)
    (h13 : x13 = tr_dn (a6 0)) (hz : z0 = tr_al (a6 0) (a6 4)) :
    wL_lawOf_173 post mc ms x4 (a6 0) (a6 1) (a6 2) (a6 3) (a6 4) (a6 5) (a6 6) (a6 7) x13 z0 kc ks 3 t o s a1 a2 a3 a4 a5 a6 a7 a8 a9 a10 (fun _ => 0) (fun _ => 0) (fun _ => 0) a14 a15 := by
  unfold wL_lawOf_173
  refine tr_run g0 g1 g2 g3 g4 g5 g6 g7 hbi ht hb0 hb1 i0 i1 i2 u1 u2 c0 c1 s0 s1 s2 hg2 d0 d1 d2 (fun t' o' s' b11 b12 b13 b14 b15 hF => ?_)
  obtain ⟨r0, r1, r2, k0, k1, k4, k5, m2, k8, k2, k3, k6, k7, et⟩ := hF
  have h15 : (if b11 2 = 2 then (1 : Int32) else 0) = (if tr_N a6 x4 = 2 then 1 else 0) := by
    unfold tr_N
    rw [r2]
    by_cases e : tr_al (a6 0) (a6 4) = 0
    · rw [if_pos e, if_pos e]
    · rw [if_neg e, if_neg e]
      by_cases f : tr_R (a6 2) (a6 3) (a6 6) (a6 7) x4 = 2
      · rw [if_pos f, if_pos f, if_pos rfl]
      · rw [if_neg f, if_neg f, if_neg (by decide)]
  have K : tr_K x4 (a6 0) (a6 1) (a6 2) (a6 3) (a6 4) (a6 5) (a6 6) (a6 7) x13 z0 (if b11 2 = 2 then (1 : Int32) else 0) (tr_dn (a6 2)) (tr_al (a6 2) (a6 6)) (tr_R (a6 2) (a6 3) (a6 6) (a6 7) x4) (tr_N a6 x4) t' a1 b11 b12 b13 := by
    subst h13 hz
    exact ⟨⟨i0, i1, i2⟩, ⟨rfl, rfl, rfl, rfl, rfl, tr_Rin _ g2 _ g3 _ g6 _ g7 _ hbi, rfl⟩, h15, ⟨r0, r1, r2⟩, ⟨k0, k1, k4, k5⟩, ⟨m2, k8, k2, k3, k6, k7⟩, et⟩
  refine tr_result 0 (by decide) (vp_in_iff.mpr (by decide)) (by decide) (by decide) ?_
  refine tr_worseL ?_
  refine br_t r0 ?_
  refine tr_times 0 (by decide) (vp_in_iff.mpr (by decide)) (by decide) (by decide) (by decide) (by decide) ?_
  refine tr_once ?_
  refine br_t k0 ?_
  refine tr_times 1 (by decide) (vp_in_iff.mpr (by decide)) (by decide) (by decide) (by decide) (by decide) ?_
  refine tr_once ?_
  refine br_t k1 ?_
  refine tr_result 1 (by decide) (vp_in_iff.mpr (by decide)) (by decide) (by decide) ?_
  rw [← h13] at r1
  refine br_c (fun e => ?_) (fun e => ?_)
  · rw [if_pos e] at r1
    exact tr_248 hp K r1
  · rw [if_neg e] at r1
    refine tr_worseL ?_
    exact tr_248 hp K r1
theorem tr_155 {post : Int32 → St0 → Prop} (hp : post 1 ()) (g0 : a6 0 ∈ tr_l4) (g1 : a6 1 ∈ tr_l4) (g2 : a6 2 ∈ tr_l4) (g3 : a6 3 ∈ tr_l4) (g4 : a6 4 ∈ tr_l4) (g5 : a6 5 ∈ tr_l4) (g6 : a6 6 ∈ tr_l4) (g7 : a6 7 ∈ tr_l4) (hbi : x4 ∈ tr_l3) (ht : a7 2 = 2)
    (hb0 : (a8 2 >>> ((2 * 0) &&& 31)) &&& 3 = x4) (hb1 : (a8 2 >>> ((2 * 1) &&& 31)) &&& 3 = x4)
    (i0 : a1 0 = 0) (i1 : a1 1 = 0) (i2 : a1 2 = 1) (u1 : a2 1 = 0) (u2 : a2 2 = 1) (c0 : a3 0 = 1) (c1 : a3 1 = 2) (s0 : a5 0 = -1) (s1 : a5 1 = -1) (s2 : a5 2 = -1) (hg2 : a9 2 = 1) (d0 : a10 0 = 0) (d1 : a10 1 = 0) (d2 : a10 2 = 0)
    (hz : z0 = tr_dn (a6 0)) :
    wL_lawOf_155 post mc ms x4 (a6 0) (a6 1) (a6 2) (a6 3) (a6 4) (a6 5) (a6 6) (a6 7) z0 kc ks 3 t o s a1 a2 a3 a4 a5 a6 a7 a8 a9 a10 (fun _ => 0) (fun _ => 0) (fun _ => 0) a14 a15 := by
  unfold wL_lawOf_155 wL_lawOf_172
  refine br_c (fun e => ?_) (fun e => br_c (fun f => ?_) (fun f => ?_))
  · refine tr_173 hp g0 g1 g2 g3 g4 g5 g6 g7 hbi ht hb0 hb1 i0 i1 i2 u1 u2 c0 c1 s0 s1 s2 hg2 d0 d1 d2 hz ?_
    unfold tr_al
    rw [← hz, if_pos e]
  · refine tr_173 hp g0 g1 g2 g3 g4 g5 g6 g7 hbi ht hb0 hb1 i0 i1 i2 u1 u2 c0 c1 s0 s1 s2 hg2 d0 d1 d2 hz ?_
    unfold tr_al
    rw [← hz, if_neg e]
    unfold tr_dn
    rw [if_pos f]
  · refine tr_173 hp g0 g1 g2 g3 g4 g5 g6 g7 hbi ht hb0 hb1 i0 i1 i2 u1 u2 c0 c1 s0 s1 s2 hg2 d0 d1 d2 hz ?_
    unfold tr_al
    rw [← hz, if_neg e]
    unfold tr_dn
    rw [if_neg f]
theorem tr_m (x : Int32) : x &&& 3 ∈ tr_l4 := by
  obtain ⟨j, hj, e⟩ := pk_andE x (m := 3) 2 (by decide)
  rw [e]
  have h : ∀ j, j < 4 → nI j ∈ tr_l4 := by decide
  exact h j hj
theorem tr_b : ∀ v ∈ tr_l4, 1 + (v - v / 3 * 3) ∈ tr_l3 := by decide +kernel
theorem tr_b0 : ∀ v ∈ tr_l3, ((v + 4 * v) >>> ((2 * 0) &&& 31)) &&& 3 = v := by decide +kernel
theorem tr_b1 : ∀ v ∈ tr_l3, ((v + 4 * v) >>> ((2 * 1) &&& 31)) &&& 3 = v := by decide +kernel
theorem tr_hook {post : Int32 → St2 → Prop} {p0 p1 p2 : Int32} (k kk : Nat) (hk : p0.toNatClampNeg = k) (hi : vp_in p0 24) (h0 : ¬ p0 < 0) (hn : p0 < 3) (h1 : a1 k = 0) (q0 : ¬ p1 < 0) (q3 : ¬ 3 < p1) (hv : p2 ∈ tr_l4) (hkk : (p0 * 4 + p1).toNatClampNeg = kk) (hik : vp_in (p0 * 4 + p1) 96)
    (H : post (a6 kk) (3, t, o, s, a1, a2, a3, a4, a5, upd a6 kk p2, a7, a8, a9, a10, a11, a12, a13, a14, a15)) : wpX_hook post (3, t, o, s, a1, a2, a3, a4, a5, a6, a7, a8, a9, a10, a11, a12, a13, a14, a15) p0 p1 p2 := by
  have hlo : ∀ w ∈ tr_l4, ¬ w < 0 := by decide
  have hhi : ∀ w ∈ tr_l4, w ≤ 3 := by decide
  subst hk hkk
  unfold wpX_hook wpX_noContainer wpX_noNode
  dsimp only
  exact br_f h0 (br_t hn (br_t rfl ⟨hi, br_t h1 (br_t rfl (br_f q0 (br_f q3 (br_f (hlo _ hv) (br_t (hhi _ hv) ⟨hik, nm_e ⟨hik, nm_e H⟩⟩)))))⟩))
theorem tr_step {post : Int32 → St0 → Prop} {x0 x1 : Int32} {f : Nat} (y : Int32) (k0 k1 : Nat) (hx : ¬ 4 ≤ x5) (i0 : a1 0 = 0) (i1 : a1 1 = 0) (q0 : ¬ x5 < 0) (q3 : ¬ 3 < x5) (hk0 : (0 * 4 + x5).toNatClampNeg = k0) (v0 : vp_in (0 * 4 + x5) 96) (hk1 : (1 * 4 + x5).toNatClampNeg = k1) (v1 : vp_in (1 * 4 + x5) 96) (hy : x5 + 1 = y)
    (H : wL_lawOf_46 post mc ms x0 x1 x4 kc ks f y 3 t o s a1 a2 a3 a4 a5 (upd (upd a6 k0 ((x0 >>> ((2 * x5) &&& 31)) &&& 3)) k1 ((x1 >>> ((2 * x5) &&& 31)) &&& 3)) a7 a8 a9 a10 a11 a12 a13 a14 a15) :
    wL_lawOf_46 post mc ms x0 x1 x4 kc ks (f + 1) x5 3 t o s a1 a2 a3 a4 a5 a6 a7 a8 a9 a10 a11 a12 a13 a14 a15 := by
  refine br_f hx ?_
  refine tr_hook 0 k0 (by decide) (vp_in_iff.mpr (by decide)) (by decide) (by decide) i0 q0 q3 (tr_m _) hk0 v0 ?_
  refine tr_hook 1 k1 (by decide) (vp_in_iff.mpr (by decide)) (by decide) (by decide) i1 q0 q3 (tr_m _) hk1 v1 ?_
  exact nm_r hy H
theorem tr_46 {post : Int32 → St0 → Prop} {x0 x1 : Int32} (hp : post 1 ()) (hbi : x4 ∈ tr_l3) (ht : a7 2 = 2)
    (hb0 : (a8 2 >>> ((2 * 0) &&& 31)) &&& 3 = x4) (hb1 : (a8 2 >>> ((2 * 1) &&& 31)) &&& 3 = x4)
    (i0 : a1 0 = 0) (i1 : a1 1 = 0) (i2 : a1 2 = 1) (u1 : a2 1 = 0) (u2 : a2 2 = 1) (c0 : a3 0 = 1) (c1 : a3 1 = 2) (s0 : a5 0 = -1) (s1 : a5 1 = -1) (s2 : a5 2 = -1) (hg2 : a9 2 = 1) (d0 : a10 0 = 0) (d1 : a10 1 = 0) (d2 : a10 2 = 0) :
    wL_lawOf_46 post mc ms x0 x1 x4 kc ks 5 0 3 t o s a1 a2 a3 a4 a5 a6 a7 a8 a9 a10 (fun _ => 0) (fun _ => 0) (fun _ => 0) a14 a15 := by
  refine tr_step 1 0 4 (by decide) i0 i1 (by decide) (by decide) (by decide) (vp_in_iff.mpr (by decide)) (by decide) (vp_in_iff.mpr (by decide)) (by decide) ?_
  refine tr_step 2 1 5 (by decide) i0 i1 (by decide) (by decide) (by decide) (vp_in_iff.mpr (by decide)) (by decide) (vp_in_iff.mpr (by decide)) (by decide) ?_
  refine tr_step 3 2 6 (by decide) i0 i1 (by decide) (by decide) (by decide) (vp_in_iff.mpr (by decide)) (by decide) (vp_in_iff.mpr (by decide)) (by decide) ?_
  refine tr_step 4 3 7 (by decide) i0 i1 (by decide) (by decide) (by decide) (vp_in_iff.mpr (by decide)) (by decide) (vp_in_iff.mpr (by decide)) (by decide) ?_
  have z0 : ∀ x : Int32, x &&& 3 = (x >>> (((2 : Int32) * 0) &&& 31)) &&& 3 := by
    intro x
    rw [show ((2 : Int32) * 0) = 0 by decide, sb_shr0]
  have z1 : ((2 : Int32) * 1) = 2 := by decide
  have z2 : ((2 : Int32) * 2) = 4 := by decide
  have z3 : ((2 : Int32) * 3) = 6 := by decide
  rw [z1, z2, z3]
  generalize hg : (fun _ => 0 : Nat → Int32) = zz
  have E : ∀ g : Nat → Int32, g 0 = x0 &&& 3 → g 1 = (x0 >>> ((2 : Int32) &&& 31)) &&& 3 → g 2 = (x0 >>> ((4 : Int32) &&& 31)) &&& 3 → g 3 = (x0 >>> ((6 : Int32) &&& 31)) &&& 3 →
      g 4 = x1 &&& 3 → g 5 = (x1 >>> ((2 : Int32) &&& 31)) &&& 3 → g 6 = (x1 >>> ((4 : Int32) &&& 31)) &&& 3 → g 7 = (x1 >>> ((6 : Int32) &&& 31)) &&& 3 →
      wL_lawOf_46 post mc ms x0 x1 x4 kc ks 1 4 3 t o s a1 a2 a3 a4 a5 g a7 a8 a9 a10 zz zz zz a14 a15 := by
    subst hg
    intro g e0 e1 e2 e3 e4 e5 e6 e7
    have g0 : g 0 ∈ tr_l4 := by rw [e0]; exact tr_m _
    have g1 : g 1 ∈ tr_l4 := by rw [e1]; exact tr_m _
    have g2 : g 2 ∈ tr_l4 := by rw [e2]; exact tr_m _
    have g3 : g 3 ∈ tr_l4 := by rw [e3]; exact tr_m _
    have g4 : g 4 ∈ tr_l4 := by rw [e4]; exact tr_m _
    have g5 : g 5 ∈ tr_l4 := by rw [e5]; exact tr_m _
    have g6 : g 6 ∈ tr_l4 := by rw [e6]; exact tr_m _
    have g7 : g 7 ∈ tr_l4 := by rw [e7]; exact tr_m _
    refine br_t (show (4 : Int32) ≤ 4 by decide) (nm_r e0.symm (nm_r e1.symm (nm_r e2.symm (nm_r e3.symm (nm_r e4.symm (nm_r e5.symm (nm_r e6.symm (nm_r e7.symm ?_))))))))
    refine br_c (fun e => ?_) (fun e => ?_)
    · exact tr_155 hp g0 g1 g2 g3 g4 g5 g6 g7 hbi ht hb0 hb1 i0 i1 i2 u1 u2 c0 c1 s0 s1 s2 hg2 d0 d1 d2 (if_pos e).symm
    · exact tr_155 hp g0 g1 g2 g3 g4 g5 g6 g7 hbi ht hb0 hb1 i0 i1 i2 u1 u2 c0 c1 s0 s1 s2 hg2 d0 d1 d2 (if_neg e).symm
  exact E _ (z0 x0).symm rfl rfl rfl (z0 x1).symm rfl rfl rfl
end
end
section
section
variable {n t o s : Int32} {a1 a2 a3 a4 a5 a6 a7 a8 a9 a10 a11 a12 a13 a14 a15 : Nat → Int32}
theorem tr_clear {post : St2 → Prop} {p0 p1 p2 : Int32} (k : Nat) (hk : p0.toNatClampNeg = k) (hi : vp_in p0 24)
    (H : post (n, t, o, s, upd a1 k (vp_nar .boolean p2), upd a2 k p1, upd a3 k (-1), upd a4 k (-1), upd a5 k (-1), a6, upd a7 k 1, upd a8 k 1, upd a9 k 1, a10, a11, a12, a13, a14, a15)) : wpX_clearNode post (n, t, o, s, a1, a2, a3, a4, a5, a6, a7, a8, a9, a10, a11, a12, a13, a14, a15) p0 p1 p2 := by
  subst hk
  unfold wpX_clearNode
  dsimp only
  exact ⟨hi, nm_e ⟨hi, nm_e ⟨hi, nm_e ⟨hi, nm_e ⟨hi, nm_e ⟨hi, nm_e ⟨hi, nm_e ⟨hi, nm_e H⟩⟩⟩⟩⟩⟩⟩⟩
theorem tr_add {post : Int32 → St2 → Prop} {p0 p1 : Int32} (k kn : Nat) (hk : p0.toNatClampNeg = k) (hi : vp_in p0 24) (h0 : ¬ p0 < 0) (hn : p0 < n) (h1 : a1 k = 0) (hm : n < 24) (hkn : n.toNatClampNeg = kn) (hin : vp_in n 24) (hl : ¬ 0 ≤ upd a4 kn (-1) k)
    (H : post n (n + 1, t, o, s, upd a1 kn (vp_nar .boolean p1), upd a2 kn p0, upd (upd a3 kn (-1)) k n, upd (upd a4 kn (-1)) k n, upd a5 kn (-1), a6, upd a7 kn 1, upd a8 kn 1, upd a9 kn 1, a10, a11, a12, a13, a14, a15)) : wpX_add post (n, t, o, s, a1, a2, a3, a4, a5, a6, a7, a8, a9, a10, a11, a12, a13, a14, a15) p0 p1 := by
  subst hk
  unfold wpX_add wpX_noContainer wpX_noNode
  dsimp only
  refine br_f h0 (br_t hn (br_t rfl ⟨hi, br_t h1 (br_t rfl (br_t hm ?_))⟩))
  refine tr_clear kn hkn hin ?_
  exact ⟨hi, br_f hl ⟨hi, nm_e ⟨hi, nm_e (nm_e H)⟩⟩⟩
theorem tr_setBody {post : Int32 → St2 → Prop} {v : Int32} (i2 : a1 2 = 1) (H : post 0 (3, t, o, s, a1, a2, a3, a4, a5, a6, upd a7 2 2, upd a8 2 v, a9, a10, a11, a12, a13, a14, a15)) : wpX_body post (3, t, o, s, a1, a2, a3, a4, a5, a6, a7, a8, a9, a10, a11, a12, a13, a14, a15) 2 2 v := by
  have v2 : vp_in 2 24 := vp_in_iff.mpr (by decide)
  unfold wpX_body wpX_noTest wpX_noNode
  dsimp only
  exact br_f (show ¬ (2 : Int32) < 0 by decide) (br_t (show (2 : Int32) < 3 by decide) (br_t rfl ⟨v2, br_f (fun z => absurd (i2.symm.trans z) (by decide)) (br_t rfl (br_f (show ¬ (2 : Int32) < 1 by decide) (br_t (show (2 : Int32) ≤ 4 by decide) ⟨v2, nm_e ⟨v2, nm_e H⟩⟩)))⟩))
end
theorem tr_lawOf {post : Int32 → St0 → Prop} (hp : post 1 ()) (x y w : Int32) : wpL_lawOf post 266 4256 () x y w := by
  unfold wpL_lawOf
  refine ⟨by decide, by decide, 100, 1000, by decide, by decide, ?_⟩
  unfold wpX_init
  dsimp only
  refine ⟨by decide, ?_⟩
  refine ⟨by decide, ?_⟩
  refine ⟨by decide, ?_⟩
  refine ⟨by decide, ?_⟩
  refine ⟨by decide, ?_⟩
  refine ⟨by decide, ?_⟩
  refine ⟨by decide, ?_⟩
  refine ⟨by decide, ?_⟩
  refine ⟨by decide, ?_⟩
  refine ⟨by decide, ?_⟩
  refine ⟨by decide, ?_⟩
  refine ⟨by decide, ?_⟩
  refine ⟨by decide, ?_⟩
  refine ⟨by decide, ?_⟩
  refine ⟨by decide, ?_⟩
  refine ⟨by decide, ?_⟩
  refine ⟨by decide, ?_⟩
  refine ⟨by decide, ?_⟩
  refine ⟨by decide, ?_⟩
  refine ⟨by decide, ?_⟩
  refine ⟨by decide, ?_⟩
  refine ⟨by decide, ?_⟩
  refine ⟨by decide, ?_⟩
  refine ⟨by decide, ?_⟩
  refine ⟨by decide, ?_⟩
  refine ⟨by decide, ?_⟩
  refine ⟨by decide, ?_⟩
  refine ⟨by decide, ?_⟩
  refine ⟨by decide, ?_⟩
  refine ⟨by decide, ?_⟩
  refine tr_clear 0 (by decide) (vp_in_iff.mpr (by decide)) ?_
  unfold wpX_container
  dsimp only
  refine tr_add 0 1 (by decide) (vp_in_iff.mpr (by decide)) (by decide) (by decide) rfl (by decide) (by decide) (vp_in_iff.mpr (by decide)) (by decide) ?_
  unfold wpX_test
  dsimp only
  refine tr_add 1 2 (by decide) (vp_in_iff.mpr (by decide)) (by decide) (by decide) rfl (by decide) (by decide) (vp_in_iff.mpr (by decide)) (by decide) ?_
  refine ⟨by decide, nm_e ?_⟩
  have hb := tr_b _ (tr_m w)
  generalize 1 + ((w &&& 3) - (w &&& 3) / 3 * 3) = b at hb ⊢
  refine tr_setBody rfl ?_
  exact ⟨5, tr_46 hp hb rfl (tr_b0 b hb) (tr_b1 b hb) rfl rfl rfl rfl rfl rfl rfl rfl rfl rfl rfl rfl rfl rfl⟩
theorem tr_cell {post : Int32 → Prop} {L : Nat} {xs : Nat → Int32} (i : Nat) (hL : L ≤ 3) (hi : i < 3) (h : ∀ v, post v) : wpL_cellAt post L xs () (nI i) := by
  unfold wpL_cellAt
  exact pk_le L i (fun _ => h _) (fun z => ⟨pk_in i L z, h _⟩)
theorem i_vc (xs : Nat → Int32) (L : Nat) (hL : L ≤ 3) : wpL_law (fun r => r = 1) L xs := by
  unfold wpL_law
  refine tr_cell 0 hL (by omega) (fun x => ?_)
  refine tr_cell 1 hL (by omega) (fun y => ?_)
  refine tr_cell 2 hL (by omega) (fun w => ?_)
  exact ⟨266, 4256, by decide, by decide, tr_lawOf rfl x y w⟩
end
