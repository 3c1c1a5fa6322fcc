section
/-- the word of a form of level 0 or 1 -/
def gw_W (R : Nat → List Nat) (f : Nat) : List Nat := if f % 13 = 0 then [f / 13] else R (f / 13)
/-- the word of a row of forms -/
def gw_w (R : Nat → List Nat) (st : List Nat) : List Nat := st.flatMap (gw_W R)
/-- the rules, as they lie in ruleSize and rules -/
def gw_R (R : Nat → List Nat) (a1 a2 : Nat → Int32) : Prop := ∀ c, c < 6 → (R c).length ≤ 4 ∧ a1 c = nI (R c).length ∧ ∀ i, i < (R c).length → (R c).getD i 0 < 6 ∧ a2 (4 * c + i) = nI ((R c).getD i 0)
/-- the first word, as it lies in firstSize and first -/
def gw_F (F : List Nat) (f1 : Int32) (a3 : Nat → Int32) : Prop := F.length ≤ 8 ∧ f1 = nI F.length ∧ ∀ i, i < F.length → F.getD i 0 < 6 ∧ a3 i = nI (F.getD i 0)
/-- what is known of one form of level 0 or 1 -/
def gw_N1 (R : Nat → List Nat) (a5 a6 : Nat → Int32) (c l : Nat) : Prop := a5 (13 * c + l) = nI (gw_W R (13 * c + l)).length ∧ ∀ d, d < 6 → a6 (6 * (13 * c + l) + d) = nI ((gw_W R (13 * c + l)).count d)
/-- known: all forms below level lv, and at level lv those of the first k letters -/
def gw_N (R : Nat → List Nat) (lv k : Nat) (a5 a6 : Nat → Int32) : Prop := ∀ c l, c < 6 → l ≤ 1 → (l < lv ∨ l = lv ∧ c < k) → gw_N1 R a5 a6 c l
/-- the state while forms are learned -/
def gw_I (R : Nat → List Nat) (lv k : Nat) (a1 a2 a5 a6 : Nat → Int32) : Prop := gw_R R a1 a2 ∧ gw_N R lv k a5 a6

theorem gw_ix (k a b : Nat) : nI k * nI a + nI b = nI (k * a + b) := by
  rw [pk_mul, nI_add]
theorem gw_form {post : Int32 → Prop} {x y : Int32} {n : Nat} (e : (13 : Int32) * x + y = nI n) (h : post (nI n)) : wpX_form post () x y := by
  unfold wpX_form
  rw [e]
  exact h
theorem gw_W0 (R : Nat → List Nat) (c : Nat) : gw_W R (13 * c) = [c] := by
  unfold gw_W
  rw [if_pos (by omega), show 13 * c / 13 = c by omega]
theorem gw_W1 (R : Nat → List Nat) (c : Nat) : gw_W R (13 * c + 1) = R c := by
  unfold gw_W
  rw [if_neg (by omega), show (13 * c + 1) / 13 = c by omega]
theorem gw_c1 (c d : Nat) : nI ([c].count d) = if d = c then 1 else 0 := by
  by_cases h : d = c
  · rw [if_pos h, h, List.count_singleton_self]
    rfl
  · have h' : ¬ c = d := fun z => h z.symm
    rw [if_neg h, List.count_singleton, if_neg (by simpa using h')]
    rfl

theorem gw_getD {α : Type} (l : List α) (d : α) {i : Nat} (h : i < l.length) : l.getD i d = l[i] := by
  rw [List.getD_eq_getElem?_getD, List.getElem?_eq_getElem h]
  rfl
theorem gw_drop {α : Type} (l : List α) (d : α) {i : Nat} (h : i < l.length) : l.drop i = l.getD i d :: l.drop (i + 1) := by
  rw [List.drop_eq_getElem_cons h, gw_getD _ _ h]
theorem gw_take {α : Type} (l : List α) (d : α) {i : Nat} (h : i < l.length) : l.take (i + 1) = l.take i ++ [l.getD i d] := by
  rw [List.take_succ_eq_append_getElem h, gw_getD _ _ h]

section
variable {f1 f2 f3 f4 f5 f6 f7 f8 f9 f10 f11 f12 f13 f14 f15 f16 f17 : Int32} {a1 a2 a3 a4 a5 a6 a7 a8 a9 a10 a11 a12 a13 a14 a15 a16 a17 a18 a19 a20 a21 a22 a23 a24 a25 : Nat → Int32}
theorem gw_tX {post : Int32 → Prop} {x y d : Int32} (h : ∀ r, post r) : wpX_turnedX post () x y d :=
  br_c (fun _ => h _) (fun _ => br_c (fun _ => h _) (fun _ => br_c (fun _ => h _) (fun _ => br_c (fun _ => h _) (fun _ => br_c (fun _ => h _) (fun _ => trivial)))))
theorem gw_tY {post : Int32 → Prop} {x y d : Int32} (h : ∀ r, post r) : wpX_turnedY post () x y d :=
  br_c (fun _ => h _) (fun _ => br_c (fun _ => h _) (fun _ => br_c (fun _ => h _) (fun _ => br_c (fun _ => h _) (fun _ => br_c (fun _ => h _) (fun _ => trivial)))))
theorem gw_reach {post : St2 → Prop} {x y : Int32} (h : ∀ x8 x9 x10 x11, post (f1, f2, f3, f4, f5, f6, f7, x8, x9, x10, x11, f12, f13, f14, f15, f16, f17, a1, a2, a3, a4, a5, a6, a7, a8, a9, a10, a11, a12, a13, a14, a15, a16, a17, a18, a19, a20, a21, a22, a23, a24, a25)) : wpX_reach post (f1, f2, f3, f4, f5, f6, f7, f8, f9, f10, f11, f12, f13, f14, f15, f16, f17, a1, a2, a3, a4, a5, a6, a7, a8, a9, a10, a11, a12, a13, a14, a15, a16, a17, a18, a19, a20, a21, a22, a23, a24, a25) x y := by
  have h57 : ∀ z0 x8 x9 x10 x11, wX_reach_57 post y z0 f1 f2 f3 f4 f5 f6 f7 x8 x9 x10 x11 f12 f13 f14 f15 f16 f17 a1 a2 a3 a4 a5 a6 a7 a8 a9 a10 a11 a12 a13 a14 a15 a16 a17 a18 a19 a20 a21 a22 a23 a24 a25 := fun z0 x8 x9 x10 x11 => br_c (fun _ => h _ _ _ _) (fun _ => h _ _ _ _)
  have h37 : ∀ z0 x8 x9 x10 x11, wX_reach_37 post y z0 f1 f2 f3 f4 f5 f6 f7 x8 x9 x10 x11 f12 f13 f14 f15 f16 f17 a1 a2 a3 a4 a5 a6 a7 a8 a9 a10 a11 a12 a13 a14 a15 a16 a17 a18 a19 a20 a21 a22 a23 a24 a25 := fun z0 x8 x9 x10 x11 => br_c (fun _ => h57 _ _ _ _ _) (fun _ => h57 _ _ _ _ _)
  have h17 : ∀ z0 x8 x9 x10 x11, wX_reach_17 post x y z0 f1 f2 f3 f4 f5 f6 f7 x8 x9 x10 x11 f12 f13 f14 f15 f16 f17 a1 a2 a3 a4 a5 a6 a7 a8 a9 a10 a11 a12 a13 a14 a15 a16 a17 a18 a19 a20 a21 a22 a23 a24 a25 := fun z0 x8 x9 x10 x11 => br_c (fun _ => h37 _ _ _ _ _) (fun _ => h37 _ _ _ _ _)
  exact br_c (fun _ => h17 _ _ _ _ _) (fun _ => h17 _ _ _ _ _)
theorem gw_draw {post : St2 → Prop} {p : Nat} (hp : p < 78) (h : ∀ x5 x6 x7 x8 x9 x10 x11, post (f1, f2, f3, f4, x5, x6, x7, x8, x9, x10, x11, f12, f13, f14, f15, f16, f17, a1, a2, a3, a4, a5, a6, a7, a8, a9, a10, a11, a12, a13, a14, a15, a16, a17, a18, a19, a20, a21, a22, a23, a24, a25)) : wpX_drawForm post (f1, f2, f3, f4, f5, f6, f7, f8, f9, f10, f11, f12, f13, f14, f15, f16, f17, a1, a2, a3, a4, a5, a6, a7, a8, a9, a10, a11, a12, a13, a14, a15, a16, a17, a18, a19, a20, a21, a22, a23, a24, a25) (nI p) := by
  have i : vp_in (nI p) 78 := vp_in_nI hp (by decide)
  refine And.intro i ⟨i, gw_tX (fun _ => nm_e ⟨i, i, gw_tY (fun _ => nm_e ⟨i, i, gw_tX (fun _ => nm_e ⟨i, i, gw_tY (fun _ => nm_e (gw_reach (fun _ _ _ _ => gw_reach (fun _ _ _ _ => ?_))))⟩)⟩)⟩)⟩
  exact ⟨i, i, gw_tX (fun _ => nm_e ⟨i, i, gw_tY (fun _ => nm_e ⟨i, nm_e (h _ _ _ _ _ _ _)⟩)⟩)⟩
theorem gw_join {post : St2 → Prop} {p : Nat} (hp : p < 78) (h : ∀ y12 y13 y14 y15 y16 y17, y17 = f17 + a5 p → post (f1, f2, f3, f4, f5, f6, f7, f8, f9, f10, f11, y12, y13, y14, y15, y16, y17, a1, a2, a3, a4, a5, a6, a7, a8, a9, a10, a11, a12, a13, a14, a15, a16, a17, a18, a19, a20, a21, a22, a23, a24, a25)) : wpX_joinRuns post (f1, f2, f3, f4, f5, f6, f7, f8, f9, f10, f11, f12, f13, f14, f15, f16, f17, a1, a2, a3, a4, a5, a6, a7, a8, a9, a10, a11, a12, a13, a14, a15, a16, a17, a18, a19, a20, a21, a22, a23, a24, a25) (nI p) := by
  have i : vp_in (nI p) 78 := vp_in_nI hp (by decide)
  have e : (nI p).toNatClampNeg = p := nI_clamp (by omega)
  have h226 : ∀ z0 y12 y13 y14 y15 y16, wX_joinRuns_226 post (nI p) z0 f1 f2 f3 f4 f5 f6 f7 f8 f9 f10 f11 y12 y13 y14 y15 y16 f17 a1 a2 a3 a4 a5 a6 a7 a8 a9 a10 a11 a12 a13 a14 a15 a16 a17 a18 a19 a20 a21 a22 a23 a24 a25 := fun z0 y12 y13 y14 y15 y16 => And.intro i (fun x ex => h _ _ _ _ _ _ (by rw [ex, e]))
  have h196 : ∀ z0 y12 y13 y14 y15 y16, wX_joinRuns_196 post (nI p) z0 f1 f2 f3 f4 f5 f6 f7 f8 f9 f10 f11 y12 y13 y14 y15 y16 f17 a1 a2 a3 a4 a5 a6 a7 a8 a9 a10 a11 a12 a13 a14 a15 a16 a17 a18 a19 a20 a21 a22 a23 a24 a25 := fun z0 y12 y13 y14 y15 y16 => And.intro i (br_c (fun _ => h226 _ _ _ _ _ _) (fun _ => ⟨i, h226 _ _ _ _ _ _⟩))
  have h166 : ∀ x3 z0 y12 y13 y14 y15 y16, wX_joinRuns_166 post (nI p) x3 z0 f1 f2 f3 f4 f5 f6 f7 f8 f9 f10 f11 y12 y13 y14 y15 y16 f17 a1 a2 a3 a4 a5 a6 a7 a8 a9 a10 a11 a12 a13 a14 a15 a16 a17 a18 a19 a20 a21 a22 a23 a24 a25 := fun x3 z0 y12 y13 y14 y15 y16 => And.intro i (nm_e (br_c (fun _ => h196 _ _ _ _ _ _) (fun _ => h196 _ _ _ _ _ _)))
  have h160 : ∀ x3 y12 y13 y14 y15 y16, wX_joinRuns_160 post (nI p) x3 f1 f2 f3 f4 f5 f6 f7 f8 f9 f10 f11 y12 y13 y14 y15 y16 f17 a1 a2 a3 a4 a5 a6 a7 a8 a9 a10 a11 a12 a13 a14 a15 a16 a17 a18 a19 a20 a21 a22 a23 a24 a25 := fun x3 y12 y13 y14 y15 y16 => And.intro i (h166 _ _ _ _ _ _ _)
  have h134 : ∀ x2 x3 z0 y12 y13 y14 y15 y16, wX_joinRuns_134 post (nI p) x2 x3 z0 f1 f2 f3 f4 f5 f6 f7 f8 f9 f10 f11 y12 y13 y14 y15 y16 f17 a1 a2 a3 a4 a5 a6 a7 a8 a9 a10 a11 a12 a13 a14 a15 a16 a17 a18 a19 a20 a21 a22 a23 a24 a25 := fun x2 x3 z0 y12 y13 y14 y15 y16 => br_c (fun _ => h160 _ _ _ _ _ _) (fun _ => br_c (fun _ => h160 _ _ _ _ _ _) (fun _ => ⟨i, h166 _ _ _ _ _ _ _⟩))
  have h114 : ∀ x2 x3 y12 y13 y14 y15 y16, wX_joinRuns_114 post (nI p) x2 x3 f1 f2 f3 f4 f5 f6 f7 f8 f9 f10 f11 y12 y13 y14 y15 y16 f17 a1 a2 a3 a4 a5 a6 a7 a8 a9 a10 a11 a12 a13 a14 a15 a16 a17 a18 a19 a20 a21 a22 a23 a24 a25 := fun x2 x3 y12 y13 y14 y15 y16 => And.intro i ⟨i, br_c (fun _ => h134 _ _ _ _ _ _ _ _) (fun _ => h134 _ _ _ _ _ _ _ _)⟩
  have h53 : ∀ x2 z0 y12 y13 y14 y15 y16, wX_joinRuns_53 post (nI p) x2 z0 f1 f2 f3 f4 f5 f6 f7 f8 f9 f10 f11 y12 y13 y14 y15 y16 f17 a1 a2 a3 a4 a5 a6 a7 a8 a9 a10 a11 a12 a13 a14 a15 a16 a17 a18 a19 a20 a21 a22 a23 a24 a25 := fun x2 z0 y12 y13 y14 y15 y16 => br_c (fun _ => ⟨i, nm_e ⟨i, nm_e (h114 _ _ _ _ _ _ _)⟩⟩) (fun _ => br_c (fun _ => br_c (fun _ => h114 _ _ _ _ _ _ _) (fun _ => ⟨i, nm_e (h114 _ _ _ _ _ _ _)⟩)) (fun _ => h114 _ _ _ _ _ _ _))
  have h28 : ∀ z0 y12 y13 y14 y15 y16, wX_joinRuns_28 post (nI p) z0 f1 f2 f3 f4 f5 f6 f7 f8 f9 f10 f11 y12 y13 y14 y15 y16 f17 a1 a2 a3 a4 a5 a6 a7 a8 a9 a10 a11 a12 a13 a14 a15 a16 a17 a18 a19 a20 a21 a22 a23 a24 a25 := fun z0 y12 y13 y14 y15 y16 => br_c (fun _ => ⟨i, h53 _ _ _ _ _ _ _⟩) (fun _ => ⟨i, h53 _ _ _ _ _ _ _⟩)
  refine And.intro i (br_c (fun z => h _ _ _ _ _ _ ?_) (fun _ => ⟨i, br_c (fun _ => h28 _ _ _ _ _ _) (fun _ => h28 _ _ _ _ _ _)⟩))
  rw [e] at z
  rw [z, Int32.add_zero]
theorem gw_add {post : St2 → Prop} {f q : Nat} (hf : f < 78) (hq : q < 78) (hn : f ≠ q) (H : ∀ s, (∀ d, d < 6 → s (6 * f + d) = a6 (6 * f + d) + a6 (6 * q + d)) → (∀ j, (j < 6 * f ∨ 6 * f + 6 ≤ j) → s j = a6 j) → post (f1, f2, f3, f4, f5, f6, f7, f8, f9, f10, f11, f12, f13, f14, f15, f16, f17, a1, a2, a3, a4, a5, s, a7, a8, a9, a10, a11, a12, a13, a14, a15, a16, a17, a18, a19, a20, a21, a22, a23, a24, a25)) : wpX_addNumbers post (f1, f2, f3, f4, f5, f6, f7, f8, f9, f10, f11, f12, f13, f14, f15, f16, f17, a1, a2, a3, a4, a5, a6, a7, a8, a9, a10, a11, a12, a13, a14, a15, a16, a17, a18, a19, a20, a21, a22, a23, a24, a25) (nI f) (nI q) := by
  refine pk_loop (fun n i s => wX_addNumbers_2 post (nI f) (nI q) f1 f2 f3 f4 f5 f6 f7 f8 f9 f10 f11 f12 f13 f14 f15 f16 f17 n (nI i) a1 a2 a3 a4 a5 s a7 a8 a9 a10 a11 a12 a13 a14 a15 a16 a17 a18 a19 a20 a21 a22 a23 a24 a25) (fun i s => (∀ d, d < i → s (6 * f + d) = a6 (6 * f + d) + a6 (6 * q + d)) ∧ (∀ j, (j < 6 * f ∨ 6 * f + i ≤ j) → s j = a6 j)) 6 0 a6 (by omega) ⟨fun d hd => absurd hd (by omega), fun _ _ => rfl⟩ ?_ ?_
  · intro n s h
    exact pk_le 6 6 (fun _ => H s h.1 h.2) (fun z => absurd z (by omega))
  · intro n i s hi h hw
    have ef : (6 : Int32) * nI f + nI i = nI (6 * f + i) := gw_ix 6 f i
    have eq : (6 : Int32) * nI q + nI i = nI (6 * q + i) := gw_ix 6 q i
    refine pk_le 6 i (fun z => absurd z (by omega)) (fun _ => ⟨pk_in (6 * f + i) 468 (by omega) ef, pk_in (6 * q + i) 468 (by omega) eq, pk_in (6 * f + i) 468 (by omega) ef, nm_r (e' := upd s (6 * f + i) (a6 (6 * f + i) + a6 (6 * q + i))) ?_ (nm_r (nI_1 i) (hw _ ⟨?_, ?_⟩))⟩)
    · rw [pk_cl (6 * f + i) ef, pk_cl (6 * q + i) eq, h.2 (6 * f + i) (by omega), h.2 (6 * q + i) (by omega)]
    · intro d hd
      by_cases e : d = i
      · rw [e, pk_us]
      · rw [pk_un (by omega)]
        exact h.1 d (by omega)
    · intro j hj
      rw [pk_un (by omega)]
      exact h.2 j (by omega)
end
end
section
section
variable {f1 f2 f3 f4 f5 f6 f7 f8 f9 f10 f11 f12 f13 f14 f15 f16 f17 : Int32} {a1 a2 a3 a4 a5 a6 a7 a8 a9 a10 a11 a12 a13 a14 a15 a16 a17 a18 a19 a20 a21 a22 a23 a24 a25 : Nat → Int32}
theorem gw_ll110 {post : St2 → Prop} {c f : Nat} {z0 : Int32} (hf : f < 78) (H : ∀ b9 b10 b11 b12 b13 b14 b15 b16 b17 b18, post (f1, f2, f3, f4, f5, f6, f7, f8, f9, f10, f11, f12, f13, f14, f15, f16, f17, a1, a2, a3, a4, a5, a6, a7, a8, b9, b10, b11, b12, b13, b14, b15, b16, b17, b18, a19, a20, a21, a22, a23, a24, a25)) : wX_layLetter_110 post (nI c) (nI f) z0 (nI f) f1 f2 f3 f4 f5 f6 f7 f8 f9 f10 f11 f12 f13 f14 f15 f16 f17 a1 a2 a3 a4 a5 a6 a7 a8 a9 a10 a11 a12 a13 a14 a15 a16 a17 a18 a19 a20 a21 a22 a23 a24 a25 := by
  have i : vp_in (nI f) 78 := vp_in_nI hf (by decide)
  exact And.intro i (nm_e ⟨i, nm_e ⟨i, i, nm_e ⟨i, nm_e ⟨i, nm_e ⟨i, nm_e ⟨i, nm_e ⟨i, nm_e ⟨i, nm_e ⟨i, nm_e (H _ _ _ _ _ _ _ _ _ _)⟩⟩⟩⟩⟩⟩⟩⟩⟩)
theorem gw_ll68 {post : St2 → Prop} {c f : Nat} {z0 : Int32} (hc : c < 6) (hf : f < 78) (H : ∀ b7 b8 b9 b10 b11 b12 b13 b14 b15 b16 b17 b18, post (f1, f2, f3, f4, f5, f6, f7, f8, f9, f10, f11, f12, f13, f14, f15, f16, f17, a1, a2, a3, a4, a5, a6, b7, b8, b9, b10, b11, b12, b13, b14, b15, b16, b17, b18, a19, a20, a21, a22, a23, a24, a25)) : wX_layLetter_68 post (nI c) (nI f) z0 (nI f) f1 f2 f3 f4 f5 f6 f7 f8 f9 f10 f11 f12 f13 f14 f15 f16 f17 a1 a2 a3 a4 a5 a6 a7 a8 a9 a10 a11 a12 a13 a14 a15 a16 a17 a18 a19 a20 a21 a22 a23 a24 a25 := by
  have i : vp_in (nI f) 78 := vp_in_nI hf (by decide)
  have k : vp_in (nI c) 6 := vp_in_nI hc (by decide)
  have g : ∀ z b7 b8, wX_layLetter_110 post (nI c) (nI f) z (nI f) f1 f2 f3 f4 f5 f6 f7 f8 f9 f10 f11 f12 f13 f14 f15 f16 f17 a1 a2 a3 a4 a5 a6 b7 b8 a9 a10 a11 a12 a13 a14 a15 a16 a17 a18 a19 a20 a21 a22 a23 a24 a25 := fun z b7 b8 => gw_ll110 hf (fun _ _ _ _ _ _ _ _ _ _ => H _ _ _ _ _ _ _ _ _ _ _ _)
  exact And.intro i (nm_e ⟨i, nm_e ⟨k, br_c (fun _ => g _ _ _) (fun _ => ⟨k, br_c (fun _ => g _ _ _) (fun _ => g _ _ _)⟩)⟩⟩)
theorem gw_ll15 {post : St2 → Prop} {c : Nat} (hc : c < 6) (H : ∀ b6 b7 b8 b9 b10 b11 b12 b13 b14 b15 b16 b17 b18, (∀ d, d < 6 → b6 (6 * (13 * c) + d) = if d = c then 1 else 0) → (∀ j, (j < 6 * (13 * c) ∨ 6 * (13 * c) + 6 ≤ j) → b6 j = a6 j) → post (f1, f2, f3, f4, f5, f6, f7, f8, f9, f10, f11, f12, f13, f14, f15, f16, f17, a1, a2, a3, a4, a5, b6, b7, b8, b9, b10, b11, b12, b13, b14, b15, b16, b17, b18, a19, a20, a21, a22, a23, a24, a25)) : ∃ n, wX_layLetter_15 post (nI c) (nI (13 * c)) f1 f2 f3 f4 f5 f6 f7 f8 f9 f10 f11 f12 f13 f14 f15 f16 f17 n 0 a1 a2 a3 a4 a5 a6 a7 a8 a9 a10 a11 a12 a13 a14 a15 a16 a17 a18 a19 a20 a21 a22 a23 a24 a25 := by
  have k : vp_in (nI c) 6 := vp_in_nI hc (by decide)
  refine pk_loop (fun n i s => wX_layLetter_15 post (nI c) (nI (13 * c)) f1 f2 f3 f4 f5 f6 f7 f8 f9 f10 f11 f12 f13 f14 f15 f16 f17 n (nI i) a1 a2 a3 a4 a5 s a7 a8 a9 a10 a11 a12 a13 a14 a15 a16 a17 a18 a19 a20 a21 a22 a23 a24 a25) (fun i s => (∀ d, d < i → s (6 * (13 * c) + d) = if d = c then 1 else 0) ∧ (∀ j, (j < 6 * (13 * c) ∨ 6 * (13 * c) + i ≤ j) → s j = a6 j)) 6 0 a6 (by omega) ⟨fun d hd => absurd hd (by omega), fun _ _ => rfl⟩ ?_ ?_
  · intro n s h
    have g : ∀ z, wX_layLetter_68 post (nI c) (nI (13 * c)) z (nI (13 * c)) f1 f2 f3 f4 f5 f6 f7 f8 f9 f10 f11 f12 f13 f14 f15 f16 f17 a1 a2 a3 a4 a5 s a7 a8 a9 a10 a11 a12 a13 a14 a15 a16 a17 a18 a19 a20 a21 a22 a23 a24 a25 := fun z => gw_ll68 hc (by omega) (fun _ _ _ _ _ _ _ _ _ _ _ _ => H _ _ _ _ _ _ _ _ _ _ _ _ _ h.1 h.2)
    exact pk_le 6 6 (fun _ => ⟨k, br_c (fun _ => g _) (fun _ => g _)⟩) (fun z => absurd z (by omega))
  · intro n i s hi h hw
    have u : ∀ x, (x = if i = c then 1 else 0) → (∀ d, d < i + 1 → upd s (6 * (13 * c) + i) x (6 * (13 * c) + d) = if d = c then 1 else 0) ∧ (∀ j, (j < 6 * (13 * c) ∨ 6 * (13 * c) + (i + 1) ≤ j) → upd s (6 * (13 * c) + i) x j = a6 j) := by
      intro x hx
      constructor
      · intro d hd
        by_cases e : d = i
        · rw [e, pk_us, hx]
        · rw [pk_un (by omega)]
          exact h.1 d (by omega)
      · intro j hj
        rw [pk_un (by omega)]
        exact h.2 j (by omega)
    have e6 : (6 : Int32) * nI (13 * c) + nI i = nI (6 * (13 * c) + i) := gw_ix 6 (13 * c) i
    have v : vp_in ((6 : Int32) * nI (13 * c) + nI i) 468 := pk_in (6 * (13 * c) + i) 468 (by omega) e6
    have q : ((6 : Int32) * nI (13 * c) + nI i).toNatClampNeg = 6 * (13 * c) + i := pk_cl _ e6
    refine pk_le 6 i (fun z => absurd z (by omega)) (fun _ => pk_eq i c (fun z => ⟨v, nm_r (congrArg (fun m => upd s m 1) q) (nm_r (nI_1 i) (hw _ (u 1 (by rw [if_pos z]))))⟩) (fun z => ⟨v, nm_r (congrArg (fun m => upd s m 0) q) (nm_r (nI_1 i) (hw _ (u 0 (by rw [if_neg z]))))⟩))
theorem gw_layL {post : St2 → Prop} {R : Nat → List Nat} {c : Nat} (hc : c < 6) (hI : gw_I R 0 c a1 a2 a5 a6) (H : ∀ b5 b6 b7 b8 b9 b10 b11 b12 b13 b14 b15 b16 b17 b18, gw_I R 0 (c + 1) a1 a2 b5 b6 → post (f1, f2, f3, f4, f5, f6, f7, f8, f9, f10, f11, f12, f13, f14, f15, f16, f17, a1, a2, a3, a4, b5, b6, b7, b8, b9, b10, b11, b12, b13, b14, b15, b16, b17, b18, a19, a20, a21, a22, a23, a24, a25)) : wpX_layLetter post (f1, f2, f3, f4, f5, f6, f7, f8, f9, f10, f11, f12, f13, f14, f15, f16, f17, a1, a2, a3, a4, a5, a6, a7, a8, a9, a10, a11, a12, a13, a14, a15, a16, a17, a18, a19, a20, a21, a22, a23, a24, a25) (nI c) := by
  have e0 : (13 : Int32) * nI c + 0 = nI (13 * c) := gw_ix 13 c 0
  show vp_in ((13 : Int32) * nI c + 0) 78 ∧ _
  rw [e0]
  refine ⟨pk_in (13 * c) 78 (by omega), nm_r (e' := upd a5 (13 * c) 1) (by rw [nI_clamp (by omega)]) (gw_ll15 hc (fun b6 _ _ _ _ _ _ _ _ _ _ _ _ h1 h2 => H _ _ _ _ _ _ _ _ _ _ _ _ _ _ ⟨hI.1, ?_⟩))⟩
  intro k l hk hl ho
  obtain ⟨o1, o2⟩ : l = 0 ∧ k < c + 1 := by omega
  by_cases e : k = c
  · subst e
    subst o1
    constructor
    · show upd a5 (13 * k) 1 (13 * k) = nI (gw_W R (13 * k)).length
      rw [pk_us, gw_W0]
      rfl
    · intro d hd
      show b6 (6 * (13 * k) + d) = nI ((gw_W R (13 * k)).count d)
      rw [h1 d hd, gw_W0, gw_c1]
  · have q := hI.2 k l hk hl (by omega)
    constructor
    · rw [pk_un (by omega)]
      exact q.1
    · intro d hd
      rw [h2 _ (by omega)]
      exact q.2 d hd
theorem gw_lf46 {post : St2 → Prop} {R : Nat → List Nat} {c lv : Nat} {a : Nat → Int32} (hc : c < 6) (h1 : 1 ≤ lv) (h13 : lv < 13) (hR : gw_R R a1 a2) (hN : lv = 1 → ∀ k, k < 6 → gw_N1 R a5 a k 0)
    (H : ∀ y5 y6 y7 y8 y9 y10 y11 y12 y13 y14 y15 y16 y17 s b7 b8 b9 b10 b11 b12 b13 b14 b15 b16 b17 b18, (lv = 1 → y17 = nI (R c).length ∧ ∀ d, d < 6 → s (6 * (13 * c + lv) + d) = nI ((R c).count d)) → (∀ j, (j < 6 * (13 * c + lv) ∨ 6 * (13 * c + lv) + 6 ≤ j) → s j = a j) → post (f1, f2, f3, f4, y5, y6, y7, y8, y9, y10, y11, y12, y13, y14, y15, y16, y17, a1, a2, a3, a4, upd a5 (13 * c + lv) y17, s, b7, b8, b9, b10, b11, b12, b13, b14, b15, b16, b17, b18, a19, a20, a21, a22, a23, a24, a25)) :
    ∀ k i, i + k = (R c).length → ∀ y5 y6 y7 y8 y9 y10 y11 y12 y13 y14 y15 y16 y17 s, (lv = 1 → y17 = nI i ∧ ∀ d, d < 6 → s (6 * (13 * c + lv) + d) = nI (((R c).take i).count d)) → (∀ j, (j < 6 * (13 * c + lv) ∨ 6 * (13 * c + lv) + 6 ≤ j) → s j = a j) → wX_layForm_46 post (nI c) (nI lv) (nI (13 * c + lv)) (k + 1) (nI i) f1 f2 f3 f4 y5 y6 y7 y8 y9 y10 y11 y12 y13 y14 y15 y16 y17 a1 a2 a3 a4 a5 s a7 a8 a9 a10 a11 a12 a13 a14 a15 a16 a17 a18 a19 a20 a21 a22 a23 a24 a25 := by
  have ic : vp_in (nI c) 6 := vp_in_nI hc (by decide)
  have v : vp_in (nI (13 * c + lv)) 78 := vp_in_nI (by omega) (by decide)
  have ec : a1 (nI c).toNatClampNeg = nI (R c).length := by
    rw [nI_clamp (by omega)]
    exact (hR c hc).2.1
  have hl := (hR c hc).1
  intro k
  induction k with
  | zero =>
    intro i hi y5 y6 y7 y8 y9 y10 y11 y12 y13 y14 y15 y16 y17 s g1 g2
    have g1' : lv = 1 → y17 = nI (R c).length ∧ ∀ d, d < 6 → s (6 * (13 * c + lv) + d) = nI ((R c).count d) := by
      intro z
      have g := g1 z
      rw [List.take_of_length_le (by omega), show i = (R c).length by omega] at g
      exact g
    refine And.intro ic (pk_le (R c).length i (fun _ => ?_) (fun z => absurd z (by omega)) ec)
    exact ⟨v, nm_r (by rw [nI_clamp (by omega)]) ⟨v, nm_e ⟨v, nm_e ⟨v, nm_e ⟨v, nm_e ⟨v, nm_e ⟨v, nm_e ⟨v, nm_e ⟨v, nm_e ⟨v, nm_e ⟨v, nm_e ⟨v, nm_e ⟨v, nm_e (H y5 y6 y7 y8 y9 y10 y11 y12 y13 y14 y15 y16 y17 s _ _ _ _ _ _ _ _ _ _ _ _ g1' g2)⟩⟩⟩⟩⟩⟩⟩⟩⟩⟩⟩⟩⟩
  | succ k ih =>
    intro i hi y5 y6 y7 y8 y9 y10 y11 y12 y13 y14 y15 y16 y17 s g1 g2
    obtain ⟨r1, r2⟩ := (hR c hc).2.2 i (by omega)
    have e4 : (4 : Int32) * nI c + nI i = nI (4 * c + i) := gw_ix 4 c i
    have ep : (13 : Int32) * a2 ((4 : Int32) * nI c + nI i).toNatClampNeg + (nI lv - 1) = nI (13 * (R c).getD i 0 + (lv - 1)) := by
      rw [pk_cl (4 * c + i) e4, r2, show nI lv - 1 = nI (lv - 1) from pk_sub (b := 1) h1]
      exact gw_ix 13 _ _
    refine And.intro ic (pk_le (R c).length i (fun z => absurd z (by omega)) (fun _ => ⟨pk_in (4 * c + i) 24 (by omega) e4, ?_⟩) ec)
    refine gw_form ep ?_
    have hq : 13 * (R c).getD i 0 + (lv - 1) < 78 := by omega
    refine gw_draw hq (fun _ _ _ _ _ _ _ => gw_join hq (fun _ _ _ _ _ t et => gw_add (by omega) hq (by omega) (fun s' k1 k2 => nm_r (nI_1 i) (ih (i + 1) (by omega) _ _ _ _ _ _ _ _ _ _ _ _ _ _ (fun z => ?_) (fun j hj => ?_)))))
    · obtain ⟨u1, u2⟩ := g1 z
      obtain ⟨n1, n2⟩ := hN z _ r1
      subst z
      constructor
      · rw [et, u1, show a5 (13 * (R c).getD i 0 + (1 - 1)) = nI 1 from by rw [show 13 * (R c).getD i 0 + (1 - 1) = 13 * (R c).getD i 0 + 0 by omega, n1, Nat.add_zero, gw_W0]; rfl, nI_add]
      · intro d hd
        rw [k1 d hd, u2 d hd, g2 (6 * (13 * (R c).getD i 0 + (1 - 1)) + d) (by omega), show 13 * (R c).getD i 0 + (1 - 1) = 13 * (R c).getD i 0 + 0 by omega, n2 d hd, Nat.add_zero, gw_W0, nI_add, ← List.count_append]
        rw [gw_take (R c) 0 (show i < (R c).length by omega)]
    · rw [k2 j hj]
      exact g2 j hj
theorem gw_layF {post : St2 → Prop} {R : Nat → List Nat} {c lv : Nat} (hc : c < 6) (h1 : 1 ≤ lv) (h13 : lv < 13) (hI : gw_I R lv c a1 a2 a5 a6) (H : ∀ (y5 y6 y7 y8 y9 y10 y11 y12 y13 y14 y15 y16 y17 : Int32) (b5 b6 b7 b8 b9 b10 b11 b12 b13 b14 b15 b16 b17 b18 : Nat → Int32), gw_I R lv (c + 1) a1 a2 b5 b6 → post (f1, f2, f3, f4, y5, y6, y7, y8, y9, y10, y11, y12, y13, y14, y15, y16, y17, a1, a2, a3, a4, b5, b6, b7, b8, b9, b10, b11, b12, b13, b14, b15, b16, b17, b18, a19, a20, a21, a22, a23, a24, a25)) : wpX_layForm post (f1, f2, f3, f4, f5, f6, f7, f8, f9, f10, f11, f12, f13, f14, f15, f16, f17, a1, a2, a3, a4, a5, a6, a7, a8, a9, a10, a11, a12, a13, a14, a15, a16, a17, a18, a19, a20, a21, a22, a23, a24, a25) (nI c) (nI lv) := by
  have ef : (13 : Int32) * nI c + nI lv = nI (13 * c + lv) := gw_ix 13 c lv
  show ∃ n, wX_layForm_17 post (nI c) (nI lv) ((13 : Int32) * nI c + nI lv) f1 f2 f3 f4 0 0 0 0 0 0 0 (-1) 0 (-1) 0 0 0 n 0 a1 a2 a3 a4 a5 a6 a7 a8 a9 a10 a11 a12 a13 a14 a15 a16 a17 a18 a19 a20 a21 a22 a23 a24 a25
  rw [ef]
  refine pk_loop (fun n i s => wX_layForm_17 post (nI c) (nI lv) (nI (13 * c + lv)) f1 f2 f3 f4 0 0 0 0 0 0 0 (-1) 0 (-1) 0 0 0 n (nI i) a1 a2 a3 a4 a5 s a7 a8 a9 a10 a11 a12 a13 a14 a15 a16 a17 a18 a19 a20 a21 a22 a23 a24 a25) (fun i s => (∀ d, d < i → s (6 * (13 * c + lv) + d) = 0) ∧ (∀ j, (j < 6 * (13 * c + lv) ∨ 6 * (13 * c + lv) + i ≤ j) → s j = a6 j)) 6 0 a6 (by omega) ⟨fun d hd => absurd hd (by omega), fun _ _ => rfl⟩ ?_ ?_
  · intro n s h
    refine pk_le 6 6 (fun _ => ⟨(R c).length + 1, ?_⟩) (fun z => absurd z (by omega))
    have hN : lv = 1 → ∀ k, k < 6 → gw_N1 R a5 a6 k 0 := fun z k hk => hI.2 k 0 hk (by omega) (Or.inl (by omega))
    refine gw_lf46 (R := R) (a := a6) hc h1 h13 hI.1 hN (fun _ _ _ _ _ _ _ _ _ _ _ _ y17 s' _ _ _ _ _ _ _ _ _ _ _ _ k1 k2 => H _ _ _ _ _ _ _ _ _ _ _ _ _ _ _ _ _ _ _ _ _ _ _ _ _ _ _ ⟨hI.1, ?_⟩) (R c).length 0 (by omega) _ _ _ _ _ _ _ _ _ _ _ _ _ s (fun _ => ⟨rfl, fun d hd => ?_⟩) (fun j hj => h.2 j hj)
    · intro k l hk hl ho
      by_cases e : l = lv ∧ k = c
      · obtain ⟨e1, e2⟩ := e
        subst e2
        have z : lv = 1 := by omega
        subst z
        subst e1
        obtain ⟨k3, k4⟩ := k1 rfl
        constructor
        · rw [pk_us, k3, gw_W1]
        · intro d hd
          rw [k4 d hd, gw_W1]
      · have q := hI.2 k l hk hl (by omega)
        constructor
        · rw [pk_un (by omega)]
          exact q.1
        · intro d hd
          rw [k2 _ (by omega)]
          exact q.2 d hd
    · rw [h.1 d hd]
      rfl
  · intro n i s hi h hw
    have e6 : (6 : Int32) * nI (13 * c + lv) + nI i = nI (6 * (13 * c + lv) + i) := gw_ix 6 (13 * c + lv) i
    refine pk_le 6 i (fun z => absurd z (by omega)) (fun _ => ⟨pk_in (6 * (13 * c + lv) + i) 468 (by omega) e6, nm_r (e' := upd s (6 * (13 * c + lv) + i) 0) (by rw [pk_cl _ e6]) (nm_r (nI_1 i) (hw _ ⟨fun d hd => ?_, fun j hj => ?_⟩))⟩)
    · by_cases e : d = i
      · rw [e, pk_us]
      · rw [pk_un (by omega)]
        exact h.1 d (by omega)
    · rw [pk_un (by omega)]
      exact h.2 j (by omega)
theorem gw_le23 {post : St2 → Prop} {R : Nat → List Nat} {J : Int32 → Int32 → Int32 → Int32 → Int32 → Int32 → Int32 → Int32 → Int32 → Int32 → Int32 → Int32 → Int32 → Int32 → Int32 → Int32 → Int32 → Int32 → (Nat → Int32) → (Nat → Int32) → (Nat → Int32) → (Nat → Int32) → (Nat → Int32) → (Nat → Int32) → (Nat → Int32) → (Nat → Int32) → (Nat → Int32) → (Nat → Int32) → (Nat → Int32) → (Nat → Int32) → (Nat → Int32) → (Nat → Int32) → (Nat → Int32) → (Nat → Int32) → (Nat → Int32) → (Nat → Int32) → (Nat → Int32) → (Nat → Int32) → (Nat → Int32) → (Nat → Int32) → (Nat → Int32) → (Nat → Int32) → (Nat → Int32) → Prop} {lv : Nat} (h13 : lv < 13)
    (H : ∀ (y5 y6 y7 y8 y9 y10 y11 y12 y13 y14 y15 y16 y17 : Int32) (b5 b6 b7 b8 b9 b10 b11 b12 b13 b14 b15 b16 b17 b18 : Nat → Int32), gw_I R (lv + 1) 0 a1 a2 b5 b6 → J (nI (lv + 1)) f1 f2 f3 f4 y5 y6 y7 y8 y9 y10 y11 y12 y13 y14 y15 y16 y17 a1 a2 a3 a4 b5 b6 b7 b8 b9 b10 b11 b12 b13 b14 b15 b16 b17 b18 a19 a20 a21 a22 a23 a24 a25) :
    ∀ k i, i + k = 6 → ∀ (y5 y6 y7 y8 y9 y10 y11 y12 y13 y14 y15 y16 y17 : Int32) (b5 b6 b7 b8 b9 b10 b11 b12 b13 b14 b15 b16 b17 b18 : Nat → Int32), gw_I R lv i a1 a2 b5 b6 → wX_learn_23 post J (nI lv) (k + 1) (nI i) f1 f2 f3 f4 y5 y6 y7 y8 y9 y10 y11 y12 y13 y14 y15 y16 y17 a1 a2 a3 a4 b5 b6 b7 b8 b9 b10 b11 b12 b13 b14 b15 b16 b17 b18 a19 a20 a21 a22 a23 a24 a25 := by
  intro k
  induction k with
  | zero =>
    intro i hi y5 y6 y7 y8 y9 y10 y11 y12 y13 y14 y15 y16 y17 b5 b6 b7 b8 b9 b10 b11 b12 b13 b14 b15 b16 b17 b18 h
    refine pk_le 6 i (fun _ => nm_r (nI_1 lv) (H _ _ _ _ _ _ _ _ _ _ _ _ _ _ _ _ _ _ _ _ _ _ _ _ _ _ _ ⟨h.1, fun c l hc hl ho => h.2 c l hc hl (by omega)⟩)) (fun z => absurd z (by omega))
  | succ k ih =>
    intro i hi y5 y6 y7 y8 y9 y10 y11 y12 y13 y14 y15 y16 y17 b5 b6 b7 b8 b9 b10 b11 b12 b13 b14 b15 b16 b17 b18 h
    refine pk_le 6 i (fun z => absurd z (by omega)) (fun _ => pk_eq lv 0 (fun z => ?_) (fun z => ?_))
    · subst z
      exact gw_layL (by omega) h (fun _ _ _ _ _ _ _ _ _ _ _ _ _ _ h' => nm_r (nI_1 i) (ih (i + 1) (by omega) _ _ _ _ _ _ _ _ _ _ _ _ _ _ _ _ _ _ _ _ _ _ _ _ _ _ _ h'))
    · exact gw_layF (by omega) (by omega) h13 h (fun _ _ _ _ _ _ _ _ _ _ _ _ _ _ _ _ _ _ _ _ _ _ _ _ _ _ _ h' => nm_r (nI_1 i) (ih (i + 1) (by omega) _ _ _ _ _ _ _ _ _ _ _ _ _ _ _ _ _ _ _ _ _ _ _ _ _ _ _ h'))
theorem gw_le15 {post : St2 → Prop} {R : Nat → List Nat} (H : ∀ (y5 y6 y7 y8 y9 y10 y11 y12 y13 y14 y15 y16 y17 : Int32) (b5 b6 b7 b8 b9 b10 b11 b12 b13 b14 b15 b16 b17 b18 : Nat → Int32), gw_I R 13 0 a1 a2 b5 b6 → post (f1, f2, f3, f4, y5, y6, y7, y8, y9, y10, y11, y12, y13, y14, y15, y16, y17, a1, a2, a3, a4, b5, b6, b7, b8, b9, b10, b11, b12, b13, b14, b15, b16, b17, b18, a19, a20, a21, a22, a23, a24, a25)) :
    ∀ k lv, lv + k = 13 → ∀ (y5 y6 y7 y8 y9 y10 y11 y12 y13 y14 y15 y16 y17 : Int32) (b5 b6 b7 b8 b9 b10 b11 b12 b13 b14 b15 b16 b17 b18 : Nat → Int32), gw_I R lv 0 a1 a2 b5 b6 → wX_learn_15 post (k + 1) (nI lv) f1 f2 f3 f4 y5 y6 y7 y8 y9 y10 y11 y12 y13 y14 y15 y16 y17 a1 a2 a3 a4 b5 b6 b7 b8 b9 b10 b11 b12 b13 b14 b15 b16 b17 b18 a19 a20 a21 a22 a23 a24 a25 := by
  intro k
  induction k with
  | zero =>
    intro lv hl y5 y6 y7 y8 y9 y10 y11 y12 y13 y14 y15 y16 y17 b5 b6 b7 b8 b9 b10 b11 b12 b13 b14 b15 b16 b17 b18 h
    rw [show lv = 13 by omega] at h ⊢
    exact pk_le 13 13 (fun _ => H _ _ _ _ _ _ _ _ _ _ _ _ _ _ _ _ _ _ _ _ _ _ _ _ _ _ _ h) (fun z => absurd z (by omega))
  | succ k ih =>
    intro lv hl y5 y6 y7 y8 y9 y10 y11 y12 y13 y14 y15 y16 y17 b5 b6 b7 b8 b9 b10 b11 b12 b13 b14 b15 b16 b17 b18 h
    exact pk_le 13 lv (fun z => absurd z (by omega)) (fun _ => ⟨6 + 1, gw_le23 (by omega) (fun _ _ _ _ _ _ _ _ _ _ _ _ _ _ _ _ _ _ _ _ _ _ _ _ _ _ _ h' => ih (lv + 1) (by omega) _ _ _ _ _ _ _ _ _ _ _ _ _ _ _ _ _ _ _ _ _ _ _ _ _ _ _ h') 6 0 (by omega) _ _ _ _ _ _ _ _ _ _ _ _ _ _ _ _ _ _ _ _ _ _ _ _ _ _ _ h⟩)
theorem gw_learn {post : St2 → Prop} {R : Nat → List Nat} (h2 : f2 = 0) (hR : gw_R R a1 a2) (H : ∀ (y5 y6 y7 y8 y9 y10 y11 y12 y13 y14 y15 y16 y17 : Int32) (b5 b6 b7 b8 b9 b10 b11 b12 b13 b14 b15 b16 b17 b18 : Nat → Int32), gw_I R 13 0 a1 a2 b5 b6 → post (f1, 1, f3, f4, y5, y6, y7, y8, y9, y10, y11, y12, y13, y14, y15, y16, y17, a1, a2, a3, a4, b5, b6, b7, b8, b9, b10, b11, b12, b13, b14, b15, b16, b17, b18, a19, a20, a21, a22, a23, a24, a25)) : wpX_learn post (f1, f2, f3, f4, f5, f6, f7, f8, f9, f10, f11, f12, f13, f14, f15, f16, f17, a1, a2, a3, a4, a5, a6, a7, a8, a9, a10, a11, a12, a13, a14, a15, a16, a17, a18, a19, a20, a21, a22, a23, a24, a25) :=
  br_t h2 ⟨13 + 1, gw_le15 H 13 0 (by omega) _ _ _ _ _ _ _ _ _ _ _ _ _ _ _ _ _ _ _ _ _ _ _ _ _ _ _ ⟨hR, fun c l _ _ ho => absurd ho (by omega)⟩⟩
theorem gw_learned {post : St2 → Prop} (h2 : f2 = 1) (H : post (f1, f2, f3, f4, f5, f6, f7, f8, f9, f10, f11, f12, f13, f14, f15, f16, f17, a1, a2, a3, a4, a5, a6, a7, a8, a9, a10, a11, a12, a13, a14, a15, a16, a17, a18, a19, a20, a21, a22, a23, a24, a25)) : wpX_learn post (f1, f2, f3, f4, f5, f6, f7, f8, f9, f10, f11, f12, f13, f14, f15, f16, f17, a1, a2, a3, a4, a5, a6, a7, a8, a9, a10, a11, a12, a13, a14, a15, a16, a17, a18, a19, a20, a21, a22, a23, a24, a25) :=
  br_f (by rw [h2]; decide) H
end
end
section
/-- forms that lie on a reader's pile, the next one first -/
def gw_pl (r : Nat) (p : Nat → Int32) : List Nat → Prop
  | [] => True
  | f :: st => p (64 * r + st.length) = nI f ∧ gw_pl r p st
def gw_ok (R : Nat → List Nat) (f : Nat) : Prop := f < 78 ∧ f % 13 ≤ 1 ∧ 0 < (gw_W R f).length
/-- reader r holds the forms st -/
def gw_K (R : Nat → List Nat) (r : Nat) (t p : Nat → Int32) (st : List Nat) : Prop := t r = nI st.length ∧ gw_pl r p st ∧ (∀ f, f ∈ st → gw_ok R f) ∧ (gw_w R st).length ≤ 60
/-- what the other reader holds stays -/
def gw_fr (R : Nat → List Nat) (r : Nat) (t p t' p' : Nat → Int32) : Prop := ∀ q st, q < 2 → q ≠ r → gw_K R q t p st → gw_K R q t' p' st
def gw_hd : List Nat → Int32
  | [] => -1
  | f :: _ => nI f
def gw_push (R : Nat → List Nat) (f : Nat) (st : List Nat) : List Nat := if (gw_W R f).length = 0 then st else f :: st
/-- a bound for the turns that a pile is good for -/
def gw_mu (R : Nat → List Nat) : List Nat → Nat
  | [] => 0
  | f :: st => (if f % 13 = 0 then 1 else 1 + (gw_W R f).length) + gw_mu R st
/-- the word of generation n -/
def gw_g (R : Nat → List Nat) (F : List Nat) (n : Nat) : List Nat := gw_w R (F.map (fun c => 13 * c + n))
/-- the pile at the beginning -/
def gw_st (R : Nat → List Nat) (F : List Nat) (n : Nat) : List Nat := (F.map (fun c => 13 * c + n)).foldr (gw_push R) []
/-- all is known -/
def gw_L (R : Nat → List Nat) (F : List Nat) (f1 f2 : Int32) (a1 a2 a3 a5 a6 : Nat → Int32) : Prop := f2 = 1 ∧ gw_R R a1 a2 ∧ gw_F F f1 a3 ∧ gw_N R 13 0 a5 a6 ∧ ∀ n, n ≤ 1 → (gw_g R F n).length ≤ 60

theorem gw_wc (R : Nat → List Nat) (f : Nat) (st : List Nat) : gw_w R (f :: st) = gw_W R f ++ gw_w R st := by
  unfold gw_w
  rw [List.flatMap_cons]
theorem gw_wn (R : Nat → List Nat) : gw_w R [] = [] := rfl
theorem gw_wa (R : Nat → List Nat) (s st : List Nat) : gw_w R (s ++ st) = gw_w R s ++ gw_w R st := by
  unfold gw_w
  rw [List.flatMap_append]
theorem gw_w13 (R : Nat → List Nat) (l : List Nat) : gw_w R (l.map (fun c => 13 * c)) = l := by
  induction l with
  | nil => rfl
  | cons c l ih => rw [List.map_cons, gw_wc, ih, gw_W0]; rfl
theorem gw_len {R : Nat → List Nat} {st : List Nat} (h : ∀ f, f ∈ st → gw_ok R f) : st.length ≤ (gw_w R st).length := by
  induction st with
  | nil => exact Nat.zero_le _
  | cons f st ih =>
    have h1 := (h f (List.mem_cons_self ..)).2.2
    have h2 := ih (fun g hg => h g (List.mem_cons_of_mem _ hg))
    rw [gw_wc, List.length_cons, List.length_append]
    omega
theorem gw_plf {r : Nat} {p p' : Nat → Int32} {st : List Nat} (h : gw_pl r p st) (e : ∀ j, 64 * r ≤ j → j < 64 * r + st.length → p' j = p j) : gw_pl r p' st := by
  induction st with
  | nil => trivial
  | cons f st ih =>
    refine ⟨?_, ih h.2 (fun j h1 h2 => e j h1 (by rw [List.length_cons]; omega))⟩
    rw [e _ (by omega) (by rw [List.length_cons]; omega)]
    exact h.1
theorem gw_lvl {R : Nat → List Nat} {f : Nat} (h : f % 13 ≤ 1) (n : 1 < (gw_W R f).length) : f % 13 = 1 := by
  by_cases e : f % 13 = 0
  · unfold gw_W at n
    rw [if_pos e] at n
    exact absurd n (Nat.lt_irrefl 1)
  · omega
theorem gw_Wf {R : Nat → List Nat} {f : Nat} (h : f % 13 = 1) : gw_W R f = R (f / 13) := by
  unfold gw_W
  rw [if_neg (by omega)]
theorem gw_Wz {R : Nat → List Nat} {f : Nat} (h : f % 13 = 0) : gw_W R f = [f / 13] := by
  unfold gw_W
  rw [if_pos h]
theorem gw_mub {R : Nat → List Nat} {st : List Nat} (h : ∀ f, f ∈ st → gw_ok R f) : gw_mu R st ≤ 2 * (gw_w R st).length := by
  induction st with
  | nil => exact Nat.zero_le _
  | cons f st ih =>
    have h1 := (h f (List.mem_cons_self ..)).2.2
    have h2 := ih (fun g hg => h g (List.mem_cons_of_mem _ hg))
    rw [gw_wc, List.length_append]
    unfold gw_mu
    split <;> omega
theorem gw_muc (R : Nat → List Nat) (f : Nat) (st : List Nat) : gw_mu R (f :: st) = (if f % 13 = 0 then 1 else 1 + (gw_W R f).length) + gw_mu R st := rfl
theorem gw_mum (R : Nat → List Nat) (l st : List Nat) : gw_mu R (l.map (fun c => 13 * c) ++ st) = l.length + gw_mu R st := by
  induction l with
  | nil => show gw_mu R st = 0 + gw_mu R st; omega
  | cons c l ih =>
    rw [List.map_cons, List.cons_append, gw_muc, ih, if_pos (by omega), List.length_cons]
    omega
theorem gw_pushw (R : Nat → List Nat) (f : Nat) (st : List Nat) : gw_w R (gw_push R f st) = gw_W R f ++ gw_w R st := by
  unfold gw_push
  split
  · rename_i h
    rw [List.length_eq_zero_iff.mp h, List.nil_append]
  · exact gw_wc R f st
theorem gw_stw (R : Nat → List Nat) (l : List Nat) : gw_w R (l.foldr (gw_push R) []) = gw_w R l := by
  induction l with
  | nil => rfl
  | cons f l ih => rw [List.foldr_cons, gw_pushw, ih, gw_wc]
theorem gw_pop {R : Nat → List Nat} {r f : Nat} {t p : Nat → Int32} {st : List Nat} (k : gw_K R r t p (f :: st)) : gw_K R r (upd t r (t r - 1)) p st := by
  refine ⟨?_, k.2.1.2, fun g hg => k.2.2.1 g (List.mem_cons_of_mem _ hg), ?_⟩
  · rw [pk_us, k.1]
    exact nI_pred st.length
  · have := k.2.2.2
    rw [gw_wc, List.length_append] at this
    omega
theorem gw_n5 {R : Nat → List Nat} {a5 a6 : Nat → Int32} {f : Nat} (hN : gw_N R 13 0 a5 a6) (hf : f < 78) (hl : f % 13 ≤ 1) : a5 f = nI (gw_W R f).length ∧ ∀ d, d < 6 → a6 (6 * f + d) = nI ((gw_W R f).count d) := by
  have h := hN (f / 13) (f % 13) (by omega) hl (by omega)
  unfold gw_N1 at h
  rw [show 13 * (f / 13) + f % 13 = f by omega] at h
  exact h
theorem gw_m1 (i : Nat) : nI i + (-1) = nI i - 1 := (Int32.sub_eq_add_neg _ _).symm

section
variable {f1 f2 f3 f4 f5 f6 f7 f8 f9 f10 f11 f12 f13 f14 f15 f16 f17 : Int32} {a1 a2 a3 a4 a5 a6 a7 a8 a9 a10 a11 a12 a13 a14 a15 a16 a17 a18 a19 a20 a21 a22 a23 a24 a25 : Nat → Int32}
theorem gw_next {post : Int32 → Prop} {R : Nat → List Nat} {r : Nat} {st : List Nat} (hr : r < 2) (k : gw_K R r a23 a24 st) (h : post (gw_hd st)) : wpX_nextForm post (f1, f2, f3, f4, f5, f6, f7, f8, f9, f10, f11, f12, f13, f14, f15, f16, f17, a1, a2, a3, a4, a5, a6, a7, a8, a9, a10, a11, a12, a13, a14, a15, a16, a17, a18, a19, a20, a21, a22, a23, a24, a25) (nI r) := by
  have er : (nI r).toNatClampNeg = r := nI_clamp (by omega)
  have ir : vp_in (nI r) 2 := vp_in_nI hr (by decide)
  have et : a23 (nI r).toNatClampNeg = nI st.length := by
    rw [er]
    exact k.1
  have hl := gw_len k.2.2.1
  have hb := k.2.2.2
  refine And.intro ir (pk_eq st.length 0 (fun z => ?_) (fun z => ⟨ir, ?_⟩) et)
  · rw [List.length_eq_zero_iff.mp z] at h
    exact h
  · cases st with
    | nil => exact absurd rfl z
    | cons f st =>
      have e : (64 : Int32) * nI r + a23 (nI r).toNatClampNeg - 1 = nI (64 * r + st.length) := by
        rw [et, show (64 : Int32) * nI r + nI (f :: st).length = nI (64 * r + st.length + 1) from gw_ix 64 r (st.length + 1)]
        exact nI_pred _
      rw [List.length_cons] at hl
      refine ⟨pk_in (64 * r + st.length) 128 (by omega) e, ?_⟩
      rw [pk_cl (64 * r + st.length) e, k.2.1.1]
      exact h
theorem gw_pushF {post : St2 → Prop} {R : Nat → List Nat} {r f : Nat} {st : List Nat} (hr : r < 2) (hf : f < 78) (hl : f % 13 ≤ 1) (h5 : a5 f = nI (gw_W R f).length) (k : gw_K R r a23 a24 st) (hb : (gw_W R f).length + (gw_w R st).length ≤ 60)
    (H : ∀ t p, gw_K R r t p (gw_push R f st) → gw_fr R r a23 a24 t p → post (f1, f2, f3, f4, f5, f6, f7, f8, f9, f10, f11, f12, f13, f14, f15, f16, f17, a1, a2, a3, a4, a5, a6, a7, a8, a9, a10, a11, a12, a13, a14, a15, a16, a17, a18, a19, a20, a21, a22, t, p, a25)) : wpX_pushForm post (f1, f2, f3, f4, f5, f6, f7, f8, f9, f10, f11, f12, f13, f14, f15, f16, f17, a1, a2, a3, a4, a5, a6, a7, a8, a9, a10, a11, a12, a13, a14, a15, a16, a17, a18, a19, a20, a21, a22, a23, a24, a25) (nI r) (nI f) := by
  have er : (nI r).toNatClampNeg = r := nI_clamp (by omega)
  have ir : vp_in (nI r) 2 := vp_in_nI hr (by decide)
  have h5' : a5 (nI f).toNatClampNeg = nI (gw_W R f).length := by
    rw [nI_clamp (by omega)]
    exact h5
  have et : a23 (nI r).toNatClampNeg = nI st.length := by
    rw [er]
    exact k.1
  have hs := gw_len k.2.2.1
  have e : (64 : Int32) * nI r + a23 (nI r).toNatClampNeg = nI (64 * r + st.length) := by
    rw [et]
    exact gw_ix 64 r st.length
  refine And.intro (pk_in f 78 hf) (pk_le (gw_W R f).length 0 (fun z => H a23 a24 ?_ (fun _ _ _ _ h => h)) (fun z => ⟨ir, pk_in (64 * r + st.length) 128 (by omega) e, nm_r (e' := upd a24 (64 * r + st.length) (nI f)) (by rw [pk_cl _ e]) ⟨ir, ir, nm_r (e' := upd a23 r (nI (st.length + 1))) (by rw [et, er, nI_1]) (H _ _ ?_ ?_)⟩⟩) h5')
  · unfold gw_push
    rw [if_pos (by omega)]
    exact k
  · unfold gw_push
    rw [if_neg (by omega)]
    refine ⟨pk_us, ⟨pk_us, gw_plf k.2.1 (fun j h1 h2 => pk_un (by omega))⟩, fun g hg => ?_, ?_⟩
    · rcases List.mem_cons.mp hg with e1 | e1
      · rw [e1]
        exact ⟨hf, hl, by omega⟩
      · exact k.2.2.1 g e1
    · rw [gw_wc, List.length_append]
      exact hb
  · intro q s hq hn kq
    have hs' := gw_len kq.2.2.1
    have hb' := kq.2.2.2
    refine ⟨?_, gw_plf kq.2.1 (fun j h1 h2 => pk_un (by omega)), kq.2.2.1, hb'⟩
    rw [pk_un hn]
    exact kq.1
theorem gw_br14 {post : St2 → Prop} {R : Nat → List Nat} {F : List Nat} {r n : Nat} (hr : r < 2) (hn : n ≤ 1) (hF : gw_F F f1 a3) (hN : gw_N R 13 0 a5 a6) (hb : (gw_g R F n).length ≤ 60)
    (H : ∀ t p, gw_K R r t p (gw_st R F n) → gw_fr R r a23 a24 t p → post (f1, f2, f3, f4, f5, f6, f7, f8, f9, f10, f11, f12, f13, f14, f15, f16, f17, a1, a2, a3, a4, a5, a6, a7, a8, a9, a10, a11, a12, a13, a14, a15, a16, a17, a18, a19, a20, a21, a22, t, p, a25)) :
    ∀ i, i ≤ F.length → ∀ t p, gw_K R r t p (gw_st R (F.drop i) n) → gw_fr R r a23 a24 t p → wX_beginReader_14 post (nI r) (nI n) (i + 1) (nI i - 1) f1 f2 f3 f4 f5 f6 f7 f8 f9 f10 f11 f12 f13 f14 f15 f16 f17 a1 a2 a3 a4 a5 a6 a7 a8 a9 a10 a11 a12 a13 a14 a15 a16 a17 a18 a19 a20 a21 a22 t p a25 := by
  intro i
  induction i with
  | zero =>
    intro _ t p k fr
    exact br_t (by decide) (H t p k fr)
  | succ i ih =>
    intro hi t p k fr
    have h8 := hF.1
    obtain ⟨c6, ca⟩ := hF.2.2 i (by omega)
    have ei : F.drop i = F.getD i 0 :: F.drop (i + 1) := gw_drop F 0 (by omega)
    have e13 : (13 : Int32) * a3 (nI i).toNatClampNeg + nI n = nI (13 * F.getD i 0 + n) := by
      rw [nI_clamp (by omega), ca]
      exact gw_ix 13 _ _
    have hw : (gw_W R (13 * F.getD i 0 + n)).length + (gw_w R (gw_st R (F.drop (i + 1)) n)).length ≤ 60 := by
      have e1 : gw_g R F n = gw_g R (F.take i) n ++ gw_g R (F.drop i) n := by
        unfold gw_g
        rw [← gw_wa, ← List.map_append, List.take_append_drop]
      have e2 : gw_g R (F.drop i) n = gw_W R (13 * F.getD i 0 + n) ++ gw_w R (gw_st R (F.drop (i + 1)) n) := by
        unfold gw_g gw_st
        rw [gw_stw, ei, List.map_cons, gw_wc]
      rw [e1, e2, List.length_append, List.length_append] at hb
      omega
    rw [nI_pred]
    refine br_f (nI_pos (by omega)) ⟨pk_in i 8 (by omega), ?_⟩
    refine gw_form e13 ?_
    refine gw_pushF hr (by omega) (by omega) (gw_n5 hN (by omega) (by omega)).1 k hw (fun t' p' k' fr' => nm_r (gw_m1 i) (ih (by omega) t' p' ?_ (fun q s h1 h2 h3 => fr' q s h1 h2 (fr q s h1 h2 h3))))
    unfold gw_st
    rw [ei, List.map_cons, List.foldr_cons]
    exact k'
theorem gw_br {post : St2 → Prop} {R : Nat → List Nat} {F : List Nat} {r n : Nat} (hr : r < 2) (hn : n ≤ 1) (L : gw_L R F f1 f2 a1 a2 a3 a5 a6)
    (H : ∀ t p, gw_K R r t p (gw_st R F n) → gw_fr R r a23 a24 t p → post (f1, f2, f3, f4, f5, f6, f7, f8, f9, f10, f11, f12, f13, f14, f15, f16, f17, a1, a2, a3, a4, a5, a6, a7, a8, a9, a10, a11, a12, a13, a14, a15, a16, a17, a18, a19, a20, a21, a22, t, p, a25)) : wpX_beginReader post (f1, f2, f3, f4, f5, f6, f7, f8, f9, f10, f11, f12, f13, f14, f15, f16, f17, a1, a2, a3, a4, a5, a6, a7, a8, a9, a10, a11, a12, a13, a14, a15, a16, a17, a18, a19, a20, a21, a22, a23, a24, a25) (nI r) (nI n) := by
  have er : (nI r).toNatClampNeg = r := nI_clamp (by omega)
  have f0 : gw_fr R r a23 a24 (upd a23 r 0) a24 := by
    intro q s hq hn kq
    refine ⟨?_, kq.2⟩
    rw [pk_un hn]
    exact kq.1
  refine And.intro (pk_in r 2 hr) (nm_r (e' := upd a23 r 0) (by rw [er]) (nm_r (e' := nI F.length - 1) (by rw [L.2.2.1.2.1]) ⟨F.length + 1, ?_⟩))
  refine gw_br14 (a23 := upd a23 r 0) hr hn L.2.2.1 L.2.2.2.1 (L.2.2.2.2 n hn) (fun t p k fr => H t p k (fun q s h1 h2 h3 => fr q s h1 h2 (f0 q s h1 h2 h3))) F.length (Nat.le_refl _) (upd a23 r 0) a24 ?_ (fun q s h1 h2 h3 => h3)
  unfold gw_st
  rw [List.drop_length]
  exact ⟨pk_us, trivial, fun f hf => absurd hf List.not_mem_nil, Nat.zero_le _⟩
theorem gw_of37 {post : St2 → Prop} {R : Nat → List Nat} {r c : Nat} {s : List Nat} (hr : r < 2) (hc : c < 6) (hR : gw_R R a1 a2) (hN : gw_N R 13 0 a5 a6) (hb : (R c).length + (gw_w R s).length ≤ 60)
    (H : ∀ t p, gw_K R r t p ((R c).map (fun c => 13 * c) ++ s) → post (f1, f2, f3, f4, f5, f6, f7, f8, f9, f10, f11, f12, f13, f14, f15, f16, f17, a1, a2, a3, a4, a5, a6, a7, a8, a9, a10, a11, a12, a13, a14, a15, a16, a17, a18, a19, a20, a21, a22, t, p, a25)) :
    ∀ i, i ≤ (R c).length → ∀ t p, gw_K R r t p (((R c).drop i).map (fun c => 13 * c) ++ s) → wX_openForm_37 post (nI r) (nI c) (nI 1) (i + 1) (nI i - 1) f1 f2 f3 f4 f5 f6 f7 f8 f9 f10 f11 f12 f13 f14 f15 f16 f17 a1 a2 a3 a4 a5 a6 a7 a8 a9 a10 a11 a12 a13 a14 a15 a16 a17 a18 a19 a20 a21 a22 t p a25 := by
  intro i
  induction i with
  | zero =>
    intro _ t p k
    exact br_t (by decide) (H t p k)
  | succ i ih =>
    intro hi t p k
    have h4 := (hR c hc).1
    obtain ⟨c6, ca⟩ := (hR c hc).2.2 i (by omega)
    have ei : (R c).drop i = (R c).getD i 0 :: (R c).drop (i + 1) := gw_drop (R c) 0 (by omega)
    have e4 : (4 : Int32) * nI c + nI i = nI (4 * c + i) := gw_ix 4 c i
    have e13 : (13 : Int32) * a2 ((4 : Int32) * nI c + nI i).toNatClampNeg + (nI 1 - 1) = nI (13 * (R c).getD i 0) := by
      rw [pk_cl _ e4, ca]
      exact gw_ix 13 _ 0
    have hw : (gw_W R (13 * (R c).getD i 0)).length + (gw_w R (((R c).drop (i + 1)).map (fun c => 13 * c) ++ s)).length ≤ 60 := by
      rw [gw_W0, gw_wa, gw_w13, List.length_append, List.length_drop]
      show 1 + _ ≤ 60
      omega
    rw [nI_pred]
    refine br_f (nI_pos (by omega)) ⟨pk_in (4 * c + i) 24 (by omega) e4, ?_⟩
    refine gw_form e13 ?_
    refine gw_pushF hr (by omega) (by omega) (gw_n5 hN (by omega) (by omega)).1 k hw (fun t' p' k' _ => nm_r (gw_m1 i) (ih (by omega) t' p' ?_))
    unfold gw_push at k'
    rw [gw_W0, if_neg (show ¬ [(R c).getD i 0].length = 0 from Nat.one_ne_zero)] at k'
    rw [ei, List.map_cons, List.cons_append]
    exact k'
theorem gw_open {post : St2 → Prop} {R : Nat → List Nat} {r f : Nat} {s : List Nat} (hr : r < 2) (hR : gw_R R a1 a2) (hN : gw_N R 13 0 a5 a6) (hf : f % 13 = 1) (k : gw_K R r a23 a24 (f :: s))
    (H : ∀ t p, gw_K R r t p ((R (f / 13)).map (fun c => 13 * c) ++ s) → post (f1, f2, f3, f4, f5, f6, f7, f8, f9, f10, f11, f12, f13, f14, f15, f16, f17, a1, a2, a3, a4, a5, a6, a7, a8, a9, a10, a11, a12, a13, a14, a15, a16, a17, a18, a19, a20, a21, a22, t, p, a25)) : wpX_openForm post (f1, f2, f3, f4, f5, f6, f7, f8, f9, f10, f11, f12, f13, f14, f15, f16, f17, a1, a2, a3, a4, a5, a6, a7, a8, a9, a10, a11, a12, a13, a14, a15, a16, a17, a18, a19, a20, a21, a22, a23, a24, a25) (nI r) := by
  have er : (nI r).toNatClampNeg = r := nI_clamp (by omega)
  have ir : vp_in (nI r) 2 := vp_in_nI hr (by decide)
  have hk := (k.2.2.1 f (List.mem_cons_self ..)).1
  have ed : nI f / 13 = nI (f / 13) := pk_div (d := 13) (by omega) (by omega) (by omega)
  have em : nI f - nI f / 13 * 13 = nI 1 := by
    rw [← hf]
    exact pk_rem (d := 13) (by omega) (by omega) (by omega)
  have hb := k.2.2.2
  rw [gw_wc, gw_Wf hf, List.length_append] at hb
  have hc := hR (f / 13) (by omega)
  unfold wpX_openForm
  refine gw_next (st := f :: s) hr k ?_
  refine ⟨ir, ir, nm_r (e' := upd a23 r (a23 r - 1)) (by rw [er]) ?_⟩
  refine And.intro (by decide) (And.intro (by decide) ?_)
  show vp_in (nI f / 13) 6 ∧ (∀ x, x = a1 (nI f / 13).toNatClampNeg - 1 → ∃ n, wX_openForm_37 post (nI r) (nI f / 13) (nI f - nI f / 13 * 13) n x f1 f2 f3 f4 f5 f6 f7 f8 f9 f10 f11 f12 f13 f14 f15 f16 f17 a1 a2 a3 a4 a5 a6 a7 a8 a9 a10 a11 a12 a13 a14 a15 a16 a17 a18 a19 a20 a21 a22 (upd a23 r (a23 r - 1)) a24 a25)
  rw [em, ed]
  refine ⟨pk_in (f / 13) 6 (by omega), nm_r (e' := nI (R (f / 13)).length - 1) (by rw [nI_clamp (by omega), hc.2.1]) ⟨(R (f / 13)).length + 1, ?_⟩⟩
  refine gw_of37 (s := s) hr (by omega) hR hN hb H (R (f / 13)).length (Nat.le_refl _) _ _ ?_
  rw [List.drop_length]
  exact gw_pop k
end
end
section
/-- what letterAt answers over a word -/
def gw_at (w : List Nat) (x : Int32) : Int32 := if x < 0 then -3 else if x < nI w.length then nI (w.getD x.toNatClampNeg 0) else -3
theorem gw_dropA {w v : List Nat} {m : Nat} (h : w.length ≤ m) : (w ++ v).drop m = v.drop (m - w.length) := by
  rw [List.drop_append, List.drop_of_length_le h, List.nil_append]
theorem gw_takeA {w v : List Nat} {m : Nat} (h : w.length ≤ m) : (w ++ v).take m = w ++ v.take (m - w.length) := by
  rw [List.take_append, List.take_of_length_le h]
theorem gw_hdc (f : Nat) (st : List Nat) : gw_hd (f :: st) = nI f := rfl
theorem gw_stg (R : Nat → List Nat) (F : List Nat) (n : Nat) : gw_w R (gw_st R F n) = gw_g R F n := by
  unfold gw_st gw_g
  exact gw_stw R _

section
variable {f1 f2 f3 f4 f5 f6 f7 f8 f9 f10 f11 f12 f13 f14 f15 f16 f17 : Int32} {a1 a2 a3 a4 a5 a6 a7 a8 a9 a10 a11 a12 a13 a14 a15 a16 a17 a18 a19 a20 a21 a22 a23 a24 a25 : Nat → Int32}
theorem gw_sk12 {post : St2 → Prop} {R : Nat → List Nat} {r : Nat} {w : List Nat} (hr : r < 2) (hR : gw_R R a1 a2) (hN : gw_N R 13 0 a5 a6) (H : ∀ t p st, gw_K R r t p st → gw_w R st = w → post (f1, f2, f3, f4, f5, f6, f7, f8, f9, f10, f11, f12, f13, f14, f15, f16, f17, a1, a2, a3, a4, a5, a6, a7, a8, a9, a10, a11, a12, a13, a14, a15, a16, a17, a18, a19, a20, a21, a22, t, p, a25)) :
    ∀ k m i st t p, m < 1000 → gw_mu R st ≤ k → i + k ≤ 500 → gw_K R r t p st → (gw_w R st).drop m = w → wX_skip_12 post (nI r) (k + 1) (nI m) (gw_hd st) (nI i) f1 f2 f3 f4 f5 f6 f7 f8 f9 f10 f11 f12 f13 f14 f15 f16 f17 a1 a2 a3 a4 a5 a6 a7 a8 a9 a10 a11 a12 a13 a14 a15 a16 a17 a18 a19 a20 a21 a22 t p a25 := by
  have er : (nI r).toNatClampNeg = r := nI_clamp (by omega)
  have ir : vp_in (nI r) 2 := vp_in_nI hr (by decide)
  have nil : ∀ n m i t p, m < 1000 → i < 1000 → gw_K R r t p [] → (gw_w R []).drop m = w → wX_skip_12 post (nI r) (n + 1) (nI m) (gw_hd []) (nI i) f1 f2 f3 f4 f5 f6 f7 f8 f9 f10 f11 f12 f13 f14 f15 f16 f17 a1 a2 a3 a4 a5 a6 a7 a8 a9 a10 a11 a12 a13 a14 a15 a16 a17 a18 a19 a20 a21 a22 t p a25 := by
    intro n m i t p hm hi K hw
    have h := H t p [] K (by rw [← hw, gw_wn, List.drop_nil])
    exact pk_le 1000 i (fun z => absurd z (by omega)) (fun _ => pk_le m 0 (fun _ => h) (fun _ => br_t (show (-1 : Int32) < 0 by decide) h))
  intro k
  induction k with
  | zero =>
    intro m i st t p hm hk hi K hw
    cases st with
    | nil => exact nil _ m i t p hm (by omega) K hw
    | cons f st =>
      rw [gw_muc] at hk
      split at hk <;> omega
  | succ k ih =>
    intro m i st t p hm hk hi K hw
    cases st with
    | nil => exact nil _ m i t p hm (by omega) K hw
    | cons f st =>
      obtain ⟨o1, o2, o3⟩ := K.2.2.1 f (List.mem_cons_self ..)
      have e5 : a5 (nI f).toNatClampNeg = nI (gw_W R f).length := by
        rw [nI_clamp (by omega)]
        exact (gw_n5 hN o1 o2).1
      have hb := K.2.2.2
      rw [gw_wc, List.length_append] at hb
      rw [gw_hdc]
      refine pk_le 1000 i (fun z => absurd z (by omega)) (fun _ => pk_le m 0 (fun z => H t p (f :: st) K ?_) (fun z => br_f (nI_pos (by omega)) ⟨pk_in f 78 o1, pk_lt m (gw_W R f).length (fun z => ?_) (fun z => ?_) rfl e5⟩))
      · rw [show m = 0 by omega, List.drop_zero] at hw
        exact hw
      · have l1 : f % 13 = 1 := gw_lvl (R := R) o2 (by omega)
        refine gw_open hr hR hN l1 K (fun t' p' K' => ?_)
        unfold wX_skip_68
        refine gw_next hr K' (nm_r (nI_1 i) (ih m (i + 1) _ t' p' hm ?_ (by omega) K' ?_))
        · rw [gw_mum, ← gw_Wf (R := R) l1]
          rw [gw_muc] at hk
          rw [if_neg (by omega)] at hk
          omega
        · rw [gw_wa, gw_w13, ← gw_Wf (R := R) l1, ← gw_wc]
          exact hw
      · have K' := gw_pop K
        refine ⟨pk_in f 78 o1, nm_r (e' := nI (m - (gw_W R f).length)) (by rw [e5, pk_sub z]) ⟨ir, ir, nm_r (e' := upd t r (t r - 1)) (by rw [er]) ?_⟩⟩
        unfold wX_skip_68
        refine gw_next hr K' (nm_r (nI_1 i) (ih (m - (gw_W R f).length) (i + 1) st _ p (by omega) ?_ (by omega) K' ?_))
        · rw [gw_muc] at hk
          split at hk <;> omega
        · rw [gw_wc, gw_dropA z] at hw
          exact hw
theorem gw_skip {post : St2 → Prop} {R : Nat → List Nat} {r m : Nat} {st : List Nat} (hr : r < 2) (hR : gw_R R a1 a2) (hN : gw_N R 13 0 a5 a6) (hm : m < 1000) (K : gw_K R r a23 a24 st) (H : ∀ t p s, gw_K R r t p s → gw_w R s = (gw_w R st).drop m → post (f1, f2, f3, f4, f5, f6, f7, f8, f9, f10, f11, f12, f13, f14, f15, f16, f17, a1, a2, a3, a4, a5, a6, a7, a8, a9, a10, a11, a12, a13, a14, a15, a16, a17, a18, a19, a20, a21, a22, t, p, a25)) : wpX_skip post (f1, f2, f3, f4, f5, f6, f7, f8, f9, f10, f11, f12, f13, f14, f15, f16, f17, a1, a2, a3, a4, a5, a6, a7, a8, a9, a10, a11, a12, a13, a14, a15, a16, a17, a18, a19, a20, a21, a22, a23, a24, a25) (nI r) (nI m) := by
  have h1 := gw_mub K.2.2.1
  have h2 := K.2.2.2
  unfold wpX_skip
  exact gw_next hr K ⟨gw_mu R st + 1, gw_sk12 hr hR hN H (gw_mu R st) m 0 st a23 a24 hm (Nat.le_refl _) (by omega) K rfl⟩
theorem gw_read {post : Int32 → St2 → Prop} {R : Nat → List Nat} {r c : Nat} {st w : List Nat} (hr : r < 2) (hR : gw_R R a1 a2) (hN : gw_N R 13 0 a5 a6) (K : gw_K R r a23 a24 st) (hw : gw_w R st = c :: w) (H : ∀ t p, post (nI c) (f1, f2, f3, f4, f5, f6, f7, f8, f9, f10, f11, f12, f13, f14, f15, f16, f17, a1, a2, a3, a4, a5, a6, a7, a8, a9, a10, a11, a12, a13, a14, a15, a16, a17, a18, a19, a20, a21, a22, t, p, a25)) : wpX_read post (f1, f2, f3, f4, f5, f6, f7, f8, f9, f10, f11, f12, f13, f14, f15, f16, f17, a1, a2, a3, a4, a5, a6, a7, a8, a9, a10, a11, a12, a13, a14, a15, a16, a17, a18, a19, a20, a21, a22, a23, a24, a25) (nI r) := by
  have ir : vp_in (nI r) 2 := vp_in_nI hr (by decide)
  have step : ∀ n i f t p, i < 13 → f < 78 → f % 13 = 0 → f / 13 = c → wX_read_8 post (nI r) (n + 1) (nI f) (nI i) f1 f2 f3 f4 f5 f6 f7 f8 f9 f10 f11 f12 f13 f14 f15 f16 f17 a1 a2 a3 a4 a5 a6 a7 a8 a9 a10 a11 a12 a13 a14 a15 a16 a17 a18 a19 a20 a21 a22 t p a25 := by
    intro n i f t p hi h78 h0 hc
    have ed : nI f / 13 = nI c := by
      rw [← hc]
      exact pk_div (d := 13) (by omega) (by omega) (by omega)
    have em : nI f - nI f / 13 * 13 = nI (f % 13) := pk_rem (d := 13) (by omega) (by omega) (by omega)
    have h42 : wX_read_42 post (nI r) (nI f) f1 f2 f3 f4 f5 f6 f7 f8 f9 f10 f11 f12 f13 f14 f15 f16 f17 a1 a2 a3 a4 a5 a6 a7 a8 a9 a10 a11 a12 a13 a14 a15 a16 a17 a18 a19 a20 a21 a22 t p a25 := by
      refine br_t (nI_pos' (by omega)) ⟨ir, ir, nm_e (And.intro (by decide) ?_)⟩
      show post (nI f / 13) _
      rw [ed]
      exact H _ _
    exact pk_le 13 i (fun z => absurd z (by omega)) (fun _ => br_f (nI_pos (by omega)) (And.intro (by decide) (pk_le (f % 13) 0 (fun _ => h42) (fun z => absurd z (by omega)) em)))
  unfold wpX_read
  refine gw_next hr K ?_
  cases st with
  | nil =>
    rw [gw_wn] at hw
    cases hw
  | cons f st =>
    obtain ⟨o1, o2, o3⟩ := K.2.2.1 f (List.mem_cons_self ..)
    rw [gw_wc] at hw
    by_cases h0 : f % 13 = 0
    · rw [gw_Wz h0, List.singleton_append] at hw
      exact ⟨0 + 1, step 0 0 f a23 a24 (by omega) o1 h0 (List.cons.inj hw).1⟩
    · have l1 : f % 13 = 1 := by omega
      have em : nI f - nI f / 13 * 13 = nI (f % 13) := pk_rem (d := 13) (by omega) (by omega) (by omega)
      refine ⟨1 + 1, pk_le 13 0 (fun z => absurd z (by omega)) (fun _ => br_f (nI_pos (by omega)) (And.intro (by decide) (pk_le (f % 13) 0 (fun z => absurd z (by omega)) (fun _ => ?_) em)))⟩
      refine gw_open hr hR hN l1 K (fun t p K' => gw_next hr K' (nm_r (nI_1 0) ?_))
      rw [gw_Wf l1] at hw o3
      cases hc : R (f / 13) with
      | nil =>
        rw [hc] at o3
        exact absurd o3 (by decide)
      | cons c' l =>
        rw [hc, List.cons_append] at hw
        have e := (List.cons.inj hw).1
        subst e
        have c6 := ((hR (f / 13) (by omega)).2.2 0 (by rw [hc, List.length_cons]; omega)).1
        rw [hc] at c6
        have c6' : c' < 6 := c6
        exact step 0 1 (13 * c') t p (by omega) (by omega) (by omega) (by omega)
theorem gw_lon {post : Int32 → St2 → Prop} {R : Nat → List Nat} {F : List Nat} {n m : Nat} (hn : n ≤ 1) (L : gw_L R F f1 f2 a1 a2 a3 a5 a6) (hm : m < (gw_g R F n).length) (H : ∀ t p, post (nI ((gw_g R F n).getD m 0)) (f1, f2, f3, f4, f5, f6, f7, f8, f9, f10, f11, f12, f13, f14, f15, f16, f17, a1, a2, a3, a4, a5, a6, a7, a8, a9, a10, a11, a12, a13, a14, a15, a16, a17, a18, a19, a20, a21, a22, t, p, a25)) : wpX_letterOn post (f1, f2, f3, f4, f5, f6, f7, f8, f9, f10, f11, f12, f13, f14, f15, f16, f17, a1, a2, a3, a4, a5, a6, a7, a8, a9, a10, a11, a12, a13, a14, a15, a16, a17, a18, a19, a20, a21, a22, a23, a24, a25) (nI n) (nI m) := by
  have hb := L.2.2.2.2 n hn
  unfold wpX_letterOn
  refine gw_br (r := 0) (by omega) hn L (fun t p K _ => ?_)
  refine gw_skip (r := 0) (by omega) L.2.1 L.2.2.2.1 (by omega) K (fun t' p' st K' hw => ?_)
  rw [gw_stg, gw_drop _ 0 hm] at hw
  exact gw_read (r := 0) (by omega) L.2.1 L.2.2.2.1 K' hw H
theorem gw_lenOf {post : Int32 → Prop} {R : Nat → List Nat} {F : List Nat} {n : Nat} (hn : n ≤ 1) (L : gw_L R F f1 f2 a1 a2 a3 a5 a6) (h : post (nI (gw_g R F n).length)) : wpX_lengthOf post (f1, f2, f3, f4, f5, f6, f7, f8, f9, f10, f11, f12, f13, f14, f15, f16, f17, a1, a2, a3, a4, a5, a6, a7, a8, a9, a10, a11, a12, a13, a14, a15, a16, a17, a18, a19, a20, a21, a22, a23, a24, a25) (nI n) := by
  have h8 := L.2.2.1.1
  have e1 := L.2.2.1.2.1
  have main := pk_loop (σ := Unit) (fun k i _ => wX_lengthOf_4 post (nI n) f1 f2 f3 f4 f5 f6 f7 f8 f9 f10 f11 f12 f13 f14 f15 f16 f17 a1 a2 a3 a4 a5 a6 a7 a8 a9 a10 a11 a12 a13 a14 a15 a16 a17 a18 a19 a20 a21 a22 a23 a24 a25 k (nI (gw_g R (F.take i) n).length) (nI i)) (fun _ _ => True) F.length 0 () (Nat.zero_le _) trivial ?_ ?_
  · obtain ⟨k, hk⟩ := main
    exact ⟨k, hk⟩
  · intro k _ _
    show wX_lengthOf_4 post (nI n) f1 f2 f3 f4 f5 f6 f7 f8 f9 f10 f11 f12 f13 f14 f15 f16 f17 a1 a2 a3 a4 a5 a6 a7 a8 a9 a10 a11 a12 a13 a14 a15 a16 a17 a18 a19 a20 a21 a22 a23 a24 a25 (k + 1) (nI (gw_g R (F.take F.length) n).length) (nI F.length)
    rw [List.take_length]
    exact pk_le F.length F.length (fun _ => h) (fun z => absurd z (by omega)) e1
  · intro k i _ hi _ hw
    obtain ⟨c6, ca⟩ := L.2.2.1.2.2 i hi
    have e13 : (13 : Int32) * a3 (nI i).toNatClampNeg + nI n = nI (13 * F.getD i 0 + n) := by
      rw [nI_clamp (by omega), ca]
      exact gw_ix 13 _ _
    refine pk_le F.length i (fun z => absurd z (by omega)) (fun _ => ⟨pk_in i 8 (by omega), ?_⟩) e1
    refine gw_form e13 ?_
    refine ⟨pk_in (13 * F.getD i 0 + n) 78 (by omega), nm_r (e' := nI (gw_g R (F.take (i + 1)) n).length) ?_ (nm_r (nI_1 i) (hw () trivial))⟩
    rw [nI_clamp (by omega), (gw_n5 L.2.2.2.1 (show 13 * F.getD i 0 + n < 78 by omega) (by omega)).1, nI_add, gw_take F 0 hi]
    unfold gw_g
    rw [List.map_append, gw_wa, List.length_append, List.map_singleton, gw_wc, gw_wn, List.append_nil]
theorem gw_ref18 {post : Int32 → St2 → Prop} {R : Nat → List Nat} {F : List Nat} {n : Nat} (hn : n ≤ 1) (L : gw_L R F f1 f2 a1 a2 a3 a5 a6) (H : post 0 (f1, f2, f3, f4, f5, f6, f7, f8, f9, f10, f11, f12, f13, f14, f15, f16, f17, a1, a2, a3, a4, a5, a6, a7, a8, a9, a10, a11, a12, a13, a14, a15, a16, a17, a18, a19, a20, a21, a22, a23, a24, a25)) : ∃ k, wX_refusal_18 post (nI n) f1 f2 f3 f4 f5 f6 f7 f8 f9 f10 f11 f12 f13 f14 f15 f16 f17 a1 a2 a3 a4 a5 a6 a7 a8 a9 a10 a11 a12 a13 a14 a15 a16 a17 a18 a19 a20 a21 a22 a23 a24 a25 k 0 := by
  refine pk_loop (σ := Unit) (fun k i _ => wX_refusal_18 post (nI n) f1 f2 f3 f4 f5 f6 f7 f8 f9 f10 f11 f12 f13 f14 f15 f16 f17 a1 a2 a3 a4 a5 a6 a7 a8 a9 a10 a11 a12 a13 a14 a15 a16 a17 a18 a19 a20 a21 a22 a23 a24 a25 k (nI i)) (fun _ _ => True) (n + 1) 0 () (by omega) trivial ?_ ?_
  · intro k _ _
    exact pk_lt n (n + 1) (fun _ => H) (fun z => absurd z (by omega))
  · intro k i _ hi _ hw
    have hb := L.2.2.2.2 i (by omega)
    exact pk_lt n i (fun z => absurd z (by omega)) (fun _ => gw_lenOf (n := i) (by omega) L (pk_le (gw_g R F i).length 3000 (fun _ => nm_r (nI_1 i) (hw () trivial)) (fun z => absurd z (by omega))))
theorem gw_ref {post : Int32 → St2 → Prop} {R : Nat → List Nat} {F : List Nat} {n : Nat} (hn : n ≤ 1) (L : gw_L R F f1 f2 a1 a2 a3 a5 a6) (H : post 0 (f1, f2, f3, f4, f5, f6, f7, f8, f9, f10, f11, f12, f13, f14, f15, f16, f17, a1, a2, a3, a4, a5, a6, a7, a8, a9, a10, a11, a12, a13, a14, a15, a16, a17, a18, a19, a20, a21, a22, a23, a24, a25)) : wpX_refusal post (f1, f2, f3, f4, f5, f6, f7, f8, f9, f10, f11, f12, f13, f14, f15, f16, f17, a1, a2, a3, a4, a5, a6, a7, a8, a9, a10, a11, a12, a13, a14, a15, a16, a17, a18, a19, a20, a21, a22, a23, a24, a25) (nI n) :=
  br_f (nI_pos (by omega)) (br_t (nI_lt (b := 13) (by omega) (by omega)) (gw_learned L.1 (gw_ref18 hn L H)))
theorem gw_ref0 {post : Int32 → St2 → Prop} {R : Nat → List Nat} {F : List Nat} {n : Nat} (hn : n ≤ 1) (h2 : f2 = 0) (hR : gw_R R a1 a2) (hF : gw_F F f1 a3) (hg : ∀ n, n ≤ 1 → (gw_g R F n).length ≤ 60) (H : ∀ (y5 y6 y7 y8 y9 y10 y11 y12 y13 y14 y15 y16 y17 : Int32) (b5 b6 b7 b8 b9 b10 b11 b12 b13 b14 b15 b16 b17 b18 : Nat → Int32), gw_L R F f1 1 a1 a2 a3 b5 b6 → post 0 (f1, 1, f3, f4, y5, y6, y7, y8, y9, y10, y11, y12, y13, y14, y15, y16, y17, a1, a2, a3, a4, b5, b6, b7, b8, b9, b10, b11, b12, b13, b14, b15, b16, b17, b18, a19, a20, a21, a22, a23, a24, a25)) : wpX_refusal post (f1, f2, f3, f4, f5, f6, f7, f8, f9, f10, f11, f12, f13, f14, f15, f16, f17, a1, a2, a3, a4, a5, a6, a7, a8, a9, a10, a11, a12, a13, a14, a15, a16, a17, a18, a19, a20, a21, a22, a23, a24, a25) (nI n) :=
  br_f (nI_pos (by omega)) (br_t (nI_lt (b := 13) (by omega) (by omega)) (gw_learn h2 hR (fun y5 y6 y7 y8 y9 y10 y11 y12 y13 y14 y15 y16 y17 b5 b6 b7 b8 b9 b10 b11 b12 b13 b14 b15 b16 b17 b18 hI => gw_ref18 (R := R) (F := F) hn ⟨rfl, hR, hF, hI.2, hg⟩ (H y5 y6 y7 y8 y9 y10 y11 y12 y13 y14 y15 y16 y17 b5 b6 b7 b8 b9 b10 b11 b12 b13 b14 b15 b16 b17 b18 ⟨rfl, hR, hF, hI.2, hg⟩))))
theorem gw_length0 {post : Int32 → St2 → Prop} {R : Nat → List Nat} {F : List Nat} {n : Nat} (hn : n ≤ 1) (h2 : f2 = 0) (hR : gw_R R a1 a2) (hF : gw_F F f1 a3) (hg : ∀ n, n ≤ 1 → (gw_g R F n).length ≤ 60) (H : ∀ (y5 y6 y7 y8 y9 y10 y11 y12 y13 y14 y15 y16 y17 : Int32) (b5 b6 b7 b8 b9 b10 b11 b12 b13 b14 b15 b16 b17 b18 : Nat → Int32), gw_L R F f1 1 a1 a2 a3 b5 b6 → post (nI (gw_g R F n).length) (f1, 1, f3, f4, y5, y6, y7, y8, y9, y10, y11, y12, y13, y14, y15, y16, y17, a1, a2, a3, a4, b5, b6, b7, b8, b9, b10, b11, b12, b13, b14, b15, b16, b17, b18, a19, a20, a21, a22, a23, a24, a25)) : wpX_length post (f1, f2, f3, f4, f5, f6, f7, f8, f9, f10, f11, f12, f13, f14, f15, f16, f17, a1, a2, a3, a4, a5, a6, a7, a8, a9, a10, a11, a12, a13, a14, a15, a16, a17, a18, a19, a20, a21, a22, a23, a24, a25) (nI n) := by
  unfold wpX_length
  refine gw_ref0 hn h2 hR hF hg (fun y5 y6 y7 y8 y9 y10 y11 y12 y13 y14 y15 y16 y17 b5 b6 b7 b8 b9 b10 b11 b12 b13 b14 b15 b16 b17 b18 L => ?_)
  exact br_t rfl (gw_lenOf hn L (H y5 y6 y7 y8 y9 y10 y11 y12 y13 y14 y15 y16 y17 b5 b6 b7 b8 b9 b10 b11 b12 b13 b14 b15 b16 b17 b18 L))
theorem gw_lat {post : Int32 → St2 → Prop} {R : Nat → List Nat} {F : List Nat} {n : Nat} {x : Int32} (hn : n ≤ 1) (L : gw_L R F f1 f2 a1 a2 a3 a5 a6) (H : ∀ t p, post (gw_at (gw_g R F n) x) (f1, f2, f3, f4, f5, f6, f7, f8, f9, f10, f11, f12, f13, f14, f15, f16, f17, a1, a2, a3, a4, a5, a6, a7, a8, a9, a10, a11, a12, a13, a14, a15, a16, a17, a18, a19, a20, a21, a22, t, p, a25)) : wpX_letterAt post (f1, f2, f3, f4, f5, f6, f7, f8, f9, f10, f11, f12, f13, f14, f15, f16, f17, a1, a2, a3, a4, a5, a6, a7, a8, a9, a10, a11, a12, a13, a14, a15, a16, a17, a18, a19, a20, a21, a22, a23, a24, a25) (nI n) x := by
  have hb := L.2.2.2.2 n hn
  unfold gw_at at H
  unfold wpX_letterAt
  refine gw_ref hn L ?_
  refine br_t rfl (br_c (fun z => ?_) (fun z => gw_lenOf hn L (br_c (fun z' => ?_) (fun z' => ?_))))
  · have h := H a23 a24
    rw [if_pos z] at h
    exact h
  · obtain ⟨j, hj, e⟩ := nI_of z
    subst e
    have hj' : j < (gw_g R F n).length := (nI_ltI hj (by omega)).mp z'
    refine gw_lon hn L hj' (fun t p => ?_)
    have h := H t p
    rw [if_neg z, if_pos z', nI_clamp hj] at h
    exact h
  · have h := H a23 a24
    rw [if_neg z, if_neg z'] at h
    exact h
theorem gw_cb22 {post : Int32 → St2 → Prop} {R : Nat → List Nat} {d tot : Nat} (hd : d < 6) (hR : gw_R R a1 a2) (hN : gw_N R 13 0 a5 a6) (H : ∀ t p, post (nI tot) (f1, f2, f3, f4, f5, f6, f7, f8, f9, f10, f11, f12, f13, f14, f15, f16, f17, a1, a2, a3, a4, a5, a6, a7, a8, a9, a10, a11, a12, a13, a14, a15, a16, a17, a18, a19, a20, a21, a22, t, p, a25)) :
    ∀ k m s i st t p, m < 1000 → gw_mu R st ≤ k → i + k ≤ 500 → gw_K R 0 t p st → s + ((gw_w R st).take m).count d = tot → wX_countBefore_22 post (nI d) (k + 1) (nI m) (nI s) (gw_hd st) (nI i) f1 f2 f3 f4 f5 f6 f7 f8 f9 f10 f11 f12 f13 f14 f15 f16 f17 a1 a2 a3 a4 a5 a6 a7 a8 a9 a10 a11 a12 a13 a14 a15 a16 a17 a18 a19 a20 a21 a22 t p a25 := by
  have nil : ∀ n m s i t p, m < 1000 → i < 1000 → s + ((gw_w R []).take m).count d = tot → wX_countBefore_22 post (nI d) (n + 1) (nI m) (nI s) (gw_hd []) (nI i) f1 f2 f3 f4 f5 f6 f7 f8 f9 f10 f11 f12 f13 f14 f15 f16 f17 a1 a2 a3 a4 a5 a6 a7 a8 a9 a10 a11 a12 a13 a14 a15 a16 a17 a18 a19 a20 a21 a22 t p a25 := by
    intro n m s i t p hm hi hw
    have h := H t p
    rw [gw_wn, List.take_nil, List.count_nil, Nat.add_zero] at hw
    rw [← hw] at h
    exact pk_le 1000 i (fun z => absurd z (by omega)) (fun _ => pk_le m 0 (fun _ => h) (fun _ => br_t (show (-1 : Int32) < 0 by decide) h))
  intro k
  induction k with
  | zero =>
    intro m s i st t p hm hk hi K hw
    cases st with
    | nil => exact nil _ m s i t p hm (by omega) hw
    | cons f st =>
      rw [gw_muc] at hk
      split at hk <;> omega
  | succ k ih =>
    intro m s i st t p hm hk hi K hw
    cases st with
    | nil => exact nil _ m s i t p hm (by omega) hw
    | cons f st =>
      obtain ⟨o1, o2, o3⟩ := K.2.2.1 f (List.mem_cons_self ..)
      have e5 : a5 (nI f).toNatClampNeg = nI (gw_W R f).length := by
        rw [nI_clamp (by omega)]
        exact (gw_n5 hN o1 o2).1
      have hb := K.2.2.2
      rw [gw_wc, List.length_append] at hb
      rw [gw_hdc]
      refine pk_le 1000 i (fun z => absurd z (by omega)) (fun _ => pk_le m 0 (fun z => ?_) (fun z => br_f (nI_pos (by omega)) ⟨pk_in f 78 o1, pk_lt m (gw_W R f).length (fun z => ?_) (fun z => ?_) rfl e5⟩))
      · rw [show m = 0 by omega, List.take_zero, List.count_nil, Nat.add_zero] at hw
        rw [hw]
        exact H t p
      · have l1 : f % 13 = 1 := gw_lvl (R := R) o2 (by omega)
        refine gw_open (r := 0) (by omega) hR hN l1 K (fun t' p' K' => ?_)
        unfold wX_countBefore_99
        refine gw_next (r := 0) (by omega) K' (nm_r (nI_1 i) (ih m s (i + 1) _ t' p' hm ?_ (by omega) K' ?_))
        · rw [gw_mum, ← gw_Wf (R := R) l1]
          rw [gw_muc] at hk
          rw [if_neg (by omega)] at hk
          omega
        · rw [gw_wa, gw_w13, ← gw_Wf (R := R) l1, ← gw_wc]
          exact hw
      · have K' := gw_pop K
        have e6 : (6 : Int32) * nI f + nI d = nI (6 * f + d) := gw_ix 6 f d
        refine ⟨pk_in f 78 o1, nm_r (e' := nI (m - (gw_W R f).length)) (by rw [e5, pk_sub z]) ⟨pk_in (6 * f + d) 468 (by omega) e6, nm_r (e' := nI (s + (gw_W R f).count d)) (by rw [pk_cl _ e6, (gw_n5 hN o1 o2).2 d hd, nI_add]) (nm_e ?_)⟩⟩
        unfold wX_countBefore_99
        refine gw_next (r := 0) (by omega) K' (nm_r (nI_1 i) (ih (m - (gw_W R f).length) _ (i + 1) st _ p (by omega) ?_ (by omega) K' ?_))
        · rw [gw_muc] at hk
          split at hk <;> omega
        · rw [gw_wc, gw_takeA z, List.count_append] at hw
          omega
theorem gw_cb {post : Int32 → St2 → Prop} {R : Nat → List Nat} {F : List Nat} {n d m : Nat} (hn : n ≤ 1) (hd : d < 6) (hm : m < 1000) (L : gw_L R F f1 f2 a1 a2 a3 a5 a6) (H : ∀ t p, post (nI (((gw_g R F n).take m).count d)) (f1, f2, f3, f4, f5, f6, f7, f8, f9, f10, f11, f12, f13, f14, f15, f16, f17, a1, a2, a3, a4, a5, a6, a7, a8, a9, a10, a11, a12, a13, a14, a15, a16, a17, a18, a19, a20, a21, a22, t, p, a25)) : wpX_countBefore post (f1, f2, f3, f4, f5, f6, f7, f8, f9, f10, f11, f12, f13, f14, f15, f16, f17, a1, a2, a3, a4, a5, a6, a7, a8, a9, a10, a11, a12, a13, a14, a15, a16, a17, a18, a19, a20, a21, a22, a23, a24, a25) (nI n) (nI d) (nI m) := by
  unfold wpX_countBefore
  refine gw_br (r := 0) (by omega) hn L (fun t p K _ => ?_)
  have h1 := gw_mub K.2.2.1
  have h2 := K.2.2.2
  refine gw_next (r := 0) (by omega) K ⟨gw_mu R (gw_st R F n) + 1, gw_cb22 hd L.2.1 L.2.2.2.1 H (gw_mu R (gw_st R F n)) m 0 0 (gw_st R F n) t p hm (Nat.le_refl _) (by omega) K ?_⟩
  rw [gw_stg, Nat.zero_add]
theorem gw_count {post : Int32 → St2 → Prop} {R : Nat → List Nat} {F : List Nat} {n d m : Nat} (hn : n ≤ 1) (hd : d < 6) (hm : m < 1000) (L : gw_L R F f1 f2 a1 a2 a3 a5 a6) (H : ∀ t p, post (nI (((gw_g R F n).take m).count d)) (f1, f2, f3, f4, f5, f6, f7, f8, f9, f10, f11, f12, f13, f14, f15, f16, f17, a1, a2, a3, a4, a5, a6, a7, a8, a9, a10, a11, a12, a13, a14, a15, a16, a17, a18, a19, a20, a21, a22, t, p, a25)) : wpX_count post (f1, f2, f3, f4, f5, f6, f7, f8, f9, f10, f11, f12, f13, f14, f15, f16, f17, a1, a2, a3, a4, a5, a6, a7, a8, a9, a10, a11, a12, a13, a14, a15, a16, a17, a18, a19, a20, a21, a22, a23, a24, a25) (nI n) (nI d) 0 (nI m) := by
  have hb := L.2.2.2.2 n hn
  have h60 : ∀ e, e < 1000 → (gw_g R F n).take e = (gw_g R F n).take m → wX_count_60 post (nI n) (nI d) 0 (nI e) f1 f2 f3 f4 f5 f6 f7 f8 f9 f10 f11 f12 f13 f14 f15 f16 f17 a1 a2 a3 a4 a5 a6 a7 a8 a9 a10 a11 a12 a13 a14 a15 a16 a17 a18 a19 a20 a21 a22 a23 a24 a25 := by
    intro e he ht
    refine pk_lt 0 e (fun _ => ?_) (fun z => ?_)
    · refine gw_cb (m := 0) hn hd (by omega) L (fun t p => ?_)
      refine gw_cb (m := e) hn hd he L (fun t' p' => ?_)
      have h := H t' p'
      rw [← ht] at h
      show post (nI (((gw_g R F n).take e).count d) - nI (((gw_g R F n).take 0).count d)) _
      rw [pk_sub (by rw [List.take_zero, List.count_nil]; omega), List.take_zero, List.count_nil, Nat.sub_zero]
      exact h
    · have h := H a23 a24
      rw [← ht, show e = 0 by omega, List.take_zero, List.count_nil] at h
      exact h
  unfold wpX_count
  refine gw_ref hn L ?_
  refine br_t rfl (br_f (nI_pos (by omega)) (br_t (nI_lt (b := 6) hd (by omega)) (gw_lenOf hn L (br_t (by decide) ?_))))
  refine pk_le m (gw_g R F n).length (fun z => h60 m hm rfl) (fun z => h60 _ (by omega) ?_)
  rw [List.take_of_length_le (Nat.le_refl _), List.take_of_length_le (by omega)]
theorem gw_mir {post : Int32 → St2 → Prop} {R : Nat → List Nat} {F : List Nat} {n : Nat} (hn : n ≤ 1) (L : gw_L R F f1 f2 a1 a2 a3 a5 a6) (h3 : (gw_g R F n).length = 3) (h6 : ∀ i, i < 3 → (gw_g R F n).getD i 0 < 6) (H : ∀ t p, post (if (gw_g R F n).getD 0 0 = (gw_g R F n).getD 2 0 then 1 else 0) (f1, f2, f3, f4, f5, f6, f7, f8, f9, f10, f11, f12, f13, f14, f15, f16, f17, a1, a2, a3, a4, a5, a6, a7, a8, a9, a10, a11, a12, a13, a14, a15, a16, a17, a18, a19, a20, a21, a22, t, p, a25)) : wpX_mirrored post (f1, f2, f3, f4, f5, f6, f7, f8, f9, f10, f11, f12, f13, f14, f15, f16, f17, a1, a2, a3, a4, a5, a6, a7, a8, a9, a10, a11, a12, a13, a14, a15, a16, a17, a18, a19, a20, a21, a22, a23, a24, a25) (nI n) := by
  unfold wpX_mirrored
  refine gw_ref hn L ?_
  refine br_t rfl (gw_lenOf hn L ⟨1 + 1, ?_⟩)
  rw [h3]
  have b0 := h6 0 (by omega)
  have b2 := h6 2 (by omega)
  refine And.intro (by decide) (pk_le 1 0 (fun z => absurd z (by omega)) (fun _ => ?_) (by decide))
  refine gw_lon (m := 0) hn L (by omega) (fun t p => ?_)
  refine gw_lon (m := 2) hn L (by omega) (fun t' p' => ?_)
  have h := H t' p'
  refine pk_eq ((gw_g R F n).getD 0 0) ((gw_g R F n).getD 2 0) (fun z => nm_r (nI_1 0) (And.intro (by decide) (pk_le 1 1 (fun _ => ?_) (fun z => absurd z (by omega)) (by decide)))) (fun z => ?_)
  · rw [if_pos z] at h
    exact h
  · rw [if_neg z] at h
    exact h
theorem gw_co79 {post : Int32 → St2 → Prop} {R : Nat → List Nat} {tot : Nat} (hN : gw_N R 13 0 a5 a6) (H : ∀ t p, post (nI tot) (f1, f2, f3, f4, f5, f6, f7, f8, f9, f10, f11, f12, f13, f14, f15, f16, f17, a1, a2, a3, a4, a5, a6, a7, a8, a9, a10, a11, a12, a13, a14, a15, a16, a17, a18, a19, a20, a21, a22, t, p, a25)) :
    ∀ st s i t p, i + st.length ≤ 1000 → gw_K R 0 t p st → gw_K R 1 t p st → s + (gw_w R st).length = tot → wX_common_79 post (st.length + 1) (nI s) (gw_hd st) (gw_hd st) (nI i) f1 f2 f3 f4 f5 f6 f7 f8 f9 f10 f11 f12 f13 f14 f15 f16 f17 a1 a2 a3 a4 a5 a6 a7 a8 a9 a10 a11 a12 a13 a14 a15 a16 a17 a18 a19 a20 a21 a22 t p a25 := by
  intro st
  induction st with
  | nil =>
    intro s i t p hi K0 K1 hs
    have h := H t p
    rw [gw_wn, List.length_nil, Nat.add_zero] at hs
    rw [← hs] at h
    have hi' : i < 400000 := by
      rw [List.length_nil] at hi
      omega
    exact pk_le 400000 i (fun z => absurd z (by omega)) (fun _ => br_t (show (-1 : Int32) < 0 by decide) h)
  | cons f st ih =>
    intro s i t p hi K0 K1 hs
    obtain ⟨o1, o2, o3⟩ := K0.2.2.1 f (List.mem_cons_self ..)
    rw [List.length_cons] at hi
    have e5 : a5 (nI f).toNatClampNeg = nI (gw_W R f).length := by
      rw [nI_clamp (by omega)]
      exact (gw_n5 hN o1 o2).1
    have k0 : gw_K R 0 (upd (upd t 0 (t 0 - 1)) 1 (upd t 0 (t 0 - 1) 1 - 1)) p st := by
      have k := gw_pop K0
      refine ⟨?_, k.2⟩
      rw [pk_un (by omega)]
      exact k.1
    have k1 : gw_K R 1 (upd (upd t 0 (t 0 - 1)) 1 (upd t 0 (t 0 - 1) 1 - 1)) p st := by
      have k := gw_pop K1
      refine ⟨?_, k.2⟩
      rw [pk_us, pk_un (by omega)]
      have e := k.1
      rw [pk_us] at e
      exact e
    rw [gw_hdc]
    refine pk_le 400000 i (fun z => absurd z (by omega)) (fun _ => br_f (nI_pos (by omega)) (br_f (nI_pos (by omega)) (br_t rfl ⟨pk_in f 78 o1, nm_r (e' := nI (s + (gw_W R f).length)) (by rw [e5, nI_add]) (nm_e (nm_e ?_))⟩)))
    unfold wX_common_191
    refine gw_next (r := 0) (by omega) k0 ?_
    refine gw_next (r := 1) (by omega) k1 (nm_r (nI_1 i) (ih _ (i + 1) _ p (by omega) k0 k1 ?_))
    rw [gw_wc, List.length_append] at hs
    omega
theorem gw_com {post : Int32 → St2 → Prop} {R : Nat → List Nat} {F : List Nat} {n : Nat} (hn : n ≤ 1) (L : gw_L R F f1 f2 a1 a2 a3 a5 a6) (H : ∀ t p, post (nI (gw_g R F n).length) (f1, f2, f3, f4, f5, f6, f7, f8, f9, f10, f11, f12, f13, f14, f15, f16, f17, a1, a2, a3, a4, a5, a6, a7, a8, a9, a10, a11, a12, a13, a14, a15, a16, a17, a18, a19, a20, a21, a22, t, p, a25)) : wpX_common post (f1, f2, f3, f4, f5, f6, f7, f8, f9, f10, f11, f12, f13, f14, f15, f16, f17, a1, a2, a3, a4, a5, a6, a7, a8, a9, a10, a11, a12, a13, a14, a15, a16, a17, a18, a19, a20, a21, a22, a23, a24, a25) (nI n) (nI n) := by
  refine br_f (nI_pos (by omega)) (br_f (nI_ge (b := 13) (by omega) (by omega)) (br_f (nI_pos (by omega)) (br_t (nI_lt (b := 13) (by omega) (by omega)) ?_)))
  refine gw_ref hn L ?_
  refine gw_ref hn L ?_
  refine br_t rfl (br_t rfl ?_)
  refine gw_br (r := 0) (by omega) hn L (fun t p K _ => ?_)
  refine gw_br (r := 1) (by omega) hn L (fun t' p' K1 fr => ?_)
  have K0 := fr 0 _ (by omega) (by omega) K
  have h1 := gw_len K0.2.2.1
  have h2 := K0.2.2.2
  refine gw_next (r := 0) (by omega) K0 ?_
  refine gw_next (r := 1) (by omega) K1 ⟨(gw_st R F n).length + 1, gw_co79 L.2.2.2.1 H (gw_st R F n) 0 0 t' p' (by omega) K0 K1 ?_⟩
  rw [gw_stg, Nat.zero_add]
end
end
section
/-- a word's number -/
def gw_num : List Nat → Nat
  | [] => 0
  | d :: ds => d + 1 + 7 * gw_num ds
theorem gw_init {post : St2 → Prop} {mc ms : Nat} (h1 : 25 ≤ mc) (h2 : 2524 ≤ ms) (H : ∀ s q : Nat → Int32, (∀ c, c < 6 → s c = 1 ∧ q (4 * c) = nI c) → post (1, 0, 0, 0, 0, 0, 0, 0, 0, 0, 0, 0, 0, 0, 0, 0, 0, s, q, (fun _ => 0), (fun _ => 0), (fun _ => 0), (fun _ => 0), (fun _ => 0), (fun _ => 0), (fun _ => 0), (fun _ => 0), (fun _ => 0), (fun _ => 0), (fun _ => 0), (fun _ => 0), (fun _ => 0), (fun _ => 0), (fun _ => 0), (fun _ => 0), (fun _ => 0), (fun _ => 0), (fun _ => 0), (fun _ => 0), (fun _ => 0), (fun _ => 0), (fun _ => 0))) : wpX_init post mc ms (0, 0, 0, 0, 0, 0, 0, 0, 0, 0, 0, 0, 0, 0, 0, 0, 0) := by
  refine And.intro (by omega) ⟨by omega, by omega, by omega, by omega, by omega, by omega, by omega, by omega, by omega, by omega, by omega, by omega, by omega, by omega, by omega, by omega, by omega, by omega, by omega, by omega, by omega, by omega, by omega, by omega, by omega, by omega, by omega, by omega, by omega, by omega, by omega, by omega, by omega, by omega, by omega, by omega, by omega, by omega, by omega, by omega, by omega, by omega, by omega, by omega, by omega, by omega, by omega, by omega, by omega, ?_⟩
  refine pk_loop (fun n i (s : (Nat → Int32) × (Nat → Int32)) => wX_init_209 post mc ms 25 2524 0 0 0 0 0 0 0 0 0 0 0 0 0 0 0 0 0 n (nI i) s.1 s.2 (fun _ => 0) (fun _ => 0) (fun _ => 0) (fun _ => 0) (fun _ => 0) (fun _ => 0) (fun _ => 0) (fun _ => 0) (fun _ => 0) (fun _ => 0) (fun _ => 0) (fun _ => 0) (fun _ => 0) (fun _ => 0) (fun _ => 0) (fun _ => 0) (fun _ => 0) (fun _ => 0) (fun _ => 0) (fun _ => 0) (fun _ => 0) (fun _ => 0) (fun _ => 0)) (fun i s => ∀ c, c < i → s.1 c = 1 ∧ s.2 (4 * c) = nI c) 6 0 (fun _ => 0, fun _ => 0) (by omega) (fun c hc => absurd hc (by omega)) ?_ ?_
  · intro n s h
    exact pk_le 6 6 (fun _ => H s.1 s.2 h) (fun z => absurd z (by omega))
  · intro n i s hi h hw
    have e4 : (4 : Int32) * nI i = nI (4 * i) := pk_mul 4 i
    refine pk_le 6 i (fun z => absurd z (by omega)) (fun _ => ⟨pk_in i 6 hi, nm_r (e' := upd s.1 i 1) (by rw [nI_clamp (by omega)]) ⟨pk_in (4 * i) 24 (by omega) e4, nm_r (e' := upd s.2 (4 * i) (nI i)) (by rw [pk_cl _ e4]) (nm_r (nI_1 i) (hw (upd s.1 i 1, upd s.2 (4 * i) (nI i)) ?_))⟩⟩)
    intro c hc
    show upd s.1 i 1 c = 1 ∧ upd s.2 (4 * i) (nI i) (4 * c) = nI c
    by_cases e : c = i
    · rw [e, pk_us, pk_us]
      exact ⟨rfl, rfl⟩
    · rw [pk_un e, pk_un (by omega)]
      exact h c (by omega)
theorem gw_numb {ds : List Nat} (h : ∀ d, d ∈ ds → d < 6) : gw_num ds < 7 ^ ds.length := by
  induction ds with
  | nil => exact Nat.one_pos
  | cons d ds ih =>
    have h1 := h d (List.mem_cons_self ..)
    have h2 := ih (fun x hx => h x (List.mem_cons_of_mem _ hx))
    unfold gw_num
    rw [List.length_cons, Nat.pow_succ]
    omega
theorem gw_numB {ds : List Nat} (h : ∀ d, d ∈ ds → d < 6) (hl : ds.length ≤ 8) : gw_num ds < 2 ^ 31 := by
  have h1 := gw_numb h
  have h2 : 7 ^ ds.length ≤ 7 ^ 8 := Nat.pow_le_pow_right (by omega) hl
  exact Nat.lt_of_lt_of_le h1 (Nat.le_trans h2 (by decide))
theorem gw_numm {d : Nat} {ds : List Nat} (h : d < 6) : gw_num (d :: ds) % 7 = d + 1 ∧ gw_num (d :: ds) / 7 = gw_num ds := by
  have e : gw_num (d :: ds) = d + 1 + 7 * gw_num ds := rfl
  rw [e]
  omega
theorem gw_memD {ds : List Nat} (h : ∀ d, d ∈ ds → d < 6) {i : Nat} (hi : i < ds.length) : ds.getD i 0 < 6 := by
  rw [gw_getD _ _ hi]
  exact h _ (List.getElem_mem hi)
theorem gw_so4 {post : Int32 → Prop} {most : Nat} (hm : most ≤ 8) : ∀ ds k, (∀ d, d ∈ ds → d < 6) → ds.length + k ≤ most → post (nI (ds.length + k)) → wX_sizeOf_4 post (nI most) (ds.length + 1) (nI (gw_num ds)) (nI k) := by
  intro ds
  induction ds with
  | nil =>
    intro k _ hk h
    rw [List.length_nil, Nat.zero_add] at hk h
    exact pk_le 0 0 (fun _ => br_t rfl (pk_lt most k (fun z => absurd z (by omega)) (fun _ => h))) (fun z => absurd z (by omega))
  | cons d ds ih =>
    intro k hd hk h
    have hB := gw_numB hd (by omega)
    obtain ⟨m1, m2⟩ := gw_numm (ds := ds) (hd d (List.mem_cons_self ..))
    have h6 := hd d (List.mem_cons_self ..)
    rw [List.length_cons] at hk h
    have er : nI (gw_num (d :: ds)) - nI (gw_num (d :: ds)) / 7 * 7 = nI (d + 1) := by
      rw [← m1]
      exact pk_rem (d := 7) hB (by omega) (by omega)
    have ed : nI (gw_num (d :: ds)) / 7 = nI (gw_num ds) := by
      rw [← m2]
      exact pk_div (d := 7) hB (by omega) (by omega)
    refine pk_le (gw_num (d :: ds)) 0 (fun z => absurd z ?_) (fun _ => pk_lt most k (fun z => absurd z (by omega)) (fun _ => ⟨by decide, pk_eq (d + 1) 0 (fun z => absurd z (by omega)) (fun _ => ⟨by decide, nm_r ed (nm_r (nI_1 k) (ih (k + 1) (fun x hx => hd x (List.mem_cons_of_mem _ hx)) (by omega) ?_))⟩) er⟩))
    · omega
    · rw [show ds.length + (k + 1) = ds.length + 1 + k by omega]
      exact h
theorem gw_so {post : Int32 → Prop} {most : Nat} {ds : List Nat} (hm : most ≤ 8) (hd : ∀ d, d ∈ ds → d < 6) (hl : ds.length ≤ most) (h : post (nI ds.length)) : wpX_sizeOf post () (nI (gw_num ds)) (nI most) :=
  ⟨ds.length + 1, gw_so4 hm ds 0 hd hl h⟩

section
variable {f1 f2 f3 f4 f5 f6 f7 f8 f9 f10 f11 f12 f13 f14 f15 f16 f17 : Int32} {a1 a2 a3 a4 a5 a6 a7 a8 a9 a10 a11 a12 a13 a14 a15 a16 a17 a18 a19 a20 a21 a22 a23 a24 a25 : Nat → Int32}
theorem gw_rule {post : Int32 → St2 → Prop} {c : Nat} {ds : List Nat} (hc : c < 6) (hd : ∀ d, d ∈ ds → d < 6) (hl : ds.length ≤ 4) (H : ∀ q, (∀ j, j < ds.length → q (4 * c + j) = nI (ds.getD j 0)) → (∀ j, (j < 4 * c ∨ 4 * c + 4 ≤ j) → q j = a2 j) → post (nI ds.length) (f1, 0, 0, f4, f5, f6, f7, f8, f9, f10, f11, f12, f13, f14, f15, f16, f17, upd a1 c (nI ds.length), q, a3, a4, a5, a6, a7, a8, a9, a10, a11, a12, a13, a14, a15, a16, a17, a18, a19, a20, a21, a22, a23, a24, a25)) : wpX_rule post (f1, f2, f3, f4, f5, f6, f7, f8, f9, f10, f11, f12, f13, f14, f15, f16, f17, a1, a2, a3, a4, a5, a6, a7, a8, a9, a10, a11, a12, a13, a14, a15, a16, a17, a18, a19, a20, a21, a22, a23, a24, a25) (nI c) (nI (gw_num ds)) := by
  refine br_f (nI_pos (by omega)) (br_t (nI_lt (b := 6) hc (by omega)) (gw_so (most := 4) (by omega) hd hl (br_t (nI_pos' (by omega)) ?_)))
  refine pk_loop (fun n i s => wX_rule_31 post (nI c) (nI ds.length) f1 f2 f3 f4 f5 f6 f7 f8 f9 f10 f11 f12 f13 f14 f15 f16 f17 n (nI (gw_num (ds.drop i))) (nI i) a1 s a3 a4 a5 a6 a7 a8 a9 a10 a11 a12 a13 a14 a15 a16 a17 a18 a19 a20 a21 a22 a23 a24 a25) (fun i s => (∀ j, j < i → s (4 * c + j) = nI (ds.getD j 0)) ∧ ∀ j, (j < 4 * c ∨ 4 * c + 4 ≤ j) → s j = a2 j) ds.length 0 a2 (Nat.zero_le _) ⟨fun j hj => absurd hj (by omega), fun _ _ => rfl⟩ ?_ ?_
  · intro n s h
    exact pk_le ds.length ds.length (fun _ => ⟨pk_in c 6 hc, nm_r (e' := upd a1 c (nI ds.length)) (by rw [nI_clamp (by omega)]) (H s h.1 h.2)⟩) (fun z => absurd z (by omega))
  · intro n i s hi h hw
    have h6 := gw_memD hd hi
    have ei : ds.drop i = ds.getD i 0 :: ds.drop (i + 1) := gw_drop ds 0 hi
    have hd' : ∀ d, d ∈ ds.getD i 0 :: ds.drop (i + 1) → d < 6 := by
      rw [← ei]
      exact fun d hx => hd d (List.mem_of_mem_drop hx)
    have hB : gw_num (ds.getD i 0 :: ds.drop (i + 1)) < 2 ^ 31 := gw_numB hd' (by rw [← ei, List.length_drop]; omega)
    obtain ⟨m1, m2⟩ := gw_numm (ds := ds.drop (i + 1)) h6
    have er : nI (gw_num (ds.drop i)) - nI (gw_num (ds.drop i)) / 7 * 7 - 1 = nI (ds.getD i 0) := by
      rw [ei, show nI (gw_num (ds.getD i 0 :: ds.drop (i + 1))) - nI (gw_num (ds.getD i 0 :: ds.drop (i + 1))) / 7 * 7 = nI (gw_num (ds.getD i 0 :: ds.drop (i + 1)) % 7) from pk_rem (d := 7) hB (by omega) (by omega), m1, nI_pred]
    have ed : nI (gw_num (ds.drop i)) / 7 = nI (gw_num (ds.drop (i + 1))) := by
      rw [ei, ← m2]
      exact pk_div (d := 7) hB (by omega) (by omega)
    have e4 : (4 : Int32) * nI c + nI i = nI (4 * c + i) := gw_ix 4 c i
    refine pk_le ds.length i (fun z => absurd z (by omega)) (fun _ => ⟨by decide, pk_in (4 * c + i) 24 (by omega) e4, nm_r (e' := upd s (4 * c + i) (nI (ds.getD i 0))) (by rw [pk_cl _ e4, er]) ⟨by decide, nm_r ed (nm_r (nI_1 i) (hw _ ⟨fun j hj => ?_, fun j hj => ?_⟩))⟩⟩)
    · by_cases e : j = i
      · rw [e, pk_us]
      · rw [pk_un (by omega)]
        exact h.1 j (by omega)
    · rw [pk_un (by omega)]
      exact h.2 j hj
theorem gw_begin {post : Int32 → St2 → Prop} {ds : List Nat} (hd : ∀ d, d ∈ ds → d < 6) (h1 : 1 ≤ ds.length) (hl : ds.length ≤ 8) (H : ∀ q, (∀ j, j < ds.length → q j = nI (ds.getD j 0)) → post (nI ds.length) (nI ds.length, f2, f3, f4, f5, f6, f7, f8, f9, f10, f11, f12, f13, f14, f15, f16, f17, a1, a2, q, a4, a5, a6, a7, a8, a9, a10, a11, a12, a13, a14, a15, a16, a17, a18, a19, a20, a21, a22, a23, a24, a25)) : wpX_begin post (f1, f2, f3, f4, f5, f6, f7, f8, f9, f10, f11, f12, f13, f14, f15, f16, f17, a1, a2, a3, a4, a5, a6, a7, a8, a9, a10, a11, a12, a13, a14, a15, a16, a17, a18, a19, a20, a21, a22, a23, a24, a25) (nI (gw_num ds)) := by
  unfold wpX_begin
  refine gw_so (most := 8) (by omega) hd hl (br_t (nI_le (a := 1) h1 (by omega)) ?_)
  refine pk_loop (fun n i s => wX_begin_19 post (nI ds.length) f1 f2 f3 f4 f5 f6 f7 f8 f9 f10 f11 f12 f13 f14 f15 f16 f17 n (nI (gw_num (ds.drop i))) (nI i) a1 a2 s a4 a5 a6 a7 a8 a9 a10 a11 a12 a13 a14 a15 a16 a17 a18 a19 a20 a21 a22 a23 a24 a25) (fun i s => ∀ j, j < i → s j = nI (ds.getD j 0)) ds.length 0 a3 (Nat.zero_le _) (fun j hj => absurd hj (by omega)) ?_ ?_
  · intro n s h
    exact pk_le ds.length ds.length (fun _ => H s h) (fun z => absurd z (by omega))
  · intro n i s hi h hw
    have h6 := gw_memD hd hi
    have ei : ds.drop i = ds.getD i 0 :: ds.drop (i + 1) := gw_drop ds 0 hi
    have hd' : ∀ d, d ∈ ds.getD i 0 :: ds.drop (i + 1) → d < 6 := by
      rw [← ei]
      exact fun d hx => hd d (List.mem_of_mem_drop hx)
    have hB : gw_num (ds.getD i 0 :: ds.drop (i + 1)) < 2 ^ 31 := gw_numB hd' (by rw [← ei, List.length_drop]; omega)
    obtain ⟨m1, m2⟩ := gw_numm (ds := ds.drop (i + 1)) h6
    have er : nI (gw_num (ds.drop i)) - nI (gw_num (ds.drop i)) / 7 * 7 - 1 = nI (ds.getD i 0) := by
      rw [ei, show nI (gw_num (ds.getD i 0 :: ds.drop (i + 1))) - nI (gw_num (ds.getD i 0 :: ds.drop (i + 1))) / 7 * 7 = nI (gw_num (ds.getD i 0 :: ds.drop (i + 1)) % 7) from pk_rem (d := 7) hB (by omega) (by omega), m1, nI_pred]
    have ed : nI (gw_num (ds.drop i)) / 7 = nI (gw_num (ds.drop (i + 1))) := by
      rw [ei, ← m2]
      exact pk_div (d := 7) hB (by omega) (by omega)
    refine pk_le ds.length i (fun z => absurd z (by omega)) (fun _ => ⟨by decide, pk_in i 8 (by omega), nm_r (e' := upd s i (nI (ds.getD i 0))) (by rw [nI_clamp (by omega), er]) ⟨by decide, nm_r ed (nm_r (nI_1 i) (hw _ (fun j hj => ?_)))⟩⟩)
    by_cases e : j = i
    · rw [e, pk_us]
    · rw [pk_un e]
      exact h j (by omega)
end
theorem gw_Rupd {R : Nat → List Nat} {a1 a2 q : Nat → Int32} {c : Nat} {ds : List Nat} (hR : gw_R R a1 a2) (hd : ∀ d, d ∈ ds → d < 6) (hl : ds.length ≤ 4) (h1 : ∀ j, j < ds.length → q (4 * c + j) = nI (ds.getD j 0)) (h2 : ∀ j, (j < 4 * c ∨ 4 * c + 4 ≤ j) → q j = a2 j) : gw_R (fun k => if k = c then ds else R k) (upd a1 c (nI ds.length)) q := by
  intro k hk
  show (if k = c then ds else R k).length ≤ 4 ∧ _ = nI (if k = c then ds else R k).length ∧ ∀ i, i < (if k = c then ds else R k).length → (if k = c then ds else R k).getD i 0 < 6 ∧ q (4 * k + i) = nI ((if k = c then ds else R k).getD i 0)
  by_cases e : k = c
  · rw [if_pos e, e, pk_us]
    exact ⟨hl, rfl, fun i hi => ⟨gw_memD hd hi, h1 i hi⟩⟩
  · rw [if_neg e, pk_un e]
    obtain ⟨g1, g2, g3⟩ := hR k hk
    exact ⟨g1, g2, fun i hi => ⟨(g3 i hi).1, by rw [h2 _ (by omega)]; exact (g3 i hi).2⟩⟩
end
section
/-- the law's rules -/
def gw_Rl (ra rb : Nat) : Nat → List Nat := fun k => if k = 4 then [] else if k = 2 then [ra, rb] else [k]
def gw_n (c : Nat) : Nat := if c = 2 then 2 else if c = 4 then 0 else 1
def gw_4 (ra rb c : Nat) : Nat := if c = 2 then (if ra = 4 then 1 else 0) + (if rb = 4 then 1 else 0) else 0
theorem gw_Rn (ra rb c : Nat) : (gw_Rl ra rb c).length = gw_n c := by
  unfold gw_Rl gw_n
  by_cases h2 : c = 2
  · subst h2
    rfl
  · by_cases h4 : c = 4
    · subst h4
      rfl
    · simp only [h2, h4, if_false]
      rfl
theorem gw_cnt (a c : Nat) : [a].count c = if a = c then 1 else 0 := by
  rw [List.count_singleton]
  by_cases h : a = c
  · rw [if_pos h, if_pos (by simpa using h)]
  · rw [if_neg h, if_neg (by simpa using h)]
theorem gw_R4 (ra rb c : Nat) : (gw_Rl ra rb c).count 4 = gw_4 ra rb c := by
  unfold gw_Rl gw_4
  by_cases h2 : c = 2
  · subst h2
    rw [if_neg (by decide), if_pos rfl, if_pos rfl, show [ra, rb] = [ra] ++ [rb] from rfl, List.count_append, gw_cnt, gw_cnt]
  · rw [if_neg h2, if_neg h2]
    by_cases h4 : c = 4
    · rw [if_pos h4, List.count_nil]
    · rw [if_neg h4, gw_cnt, if_neg h4]
theorem gw_pick {ra rb c i : Nat} (h : i < gw_n c) : (c = 2 → (i = 0 → (gw_Rl ra rb c).getD i 0 = ra) ∧ (i ≠ 0 → (gw_Rl ra rb c).getD i 0 = rb)) ∧ (c ≠ 2 → (gw_Rl ra rb c).getD i 0 = c) := by
  unfold gw_n at h
  unfold gw_Rl
  by_cases h2 : c = 2
  · subst h2
    refine ⟨fun _ => ⟨fun z => ?_, fun z => ?_⟩, fun z => absurd rfl z⟩
    · subst z
      rfl
    · rw [if_pos rfl] at h
      have e : i = 1 := by omega
      subst e
      rfl
  · refine ⟨fun z => absurd z h2, fun _ => ?_⟩
    rw [if_neg h2] at h
    by_cases h4 : c = 4
    · rw [if_pos h4] at h
      omega
    · rw [if_neg h4] at h
      have e : i = 0 := by omega
      subst e
      rw [if_neg h4, if_neg h2]
      rfl
theorem gw_g1 (R : Nat → List Nat) (x y z : Nat) : gw_g R [x, y, z] 1 = R x ++ (R y ++ R z) := by
  unfold gw_g
  rw [List.map_cons, List.map_cons, List.map_cons, List.map_nil, gw_wc, gw_wc, gw_wc, gw_wn, gw_W1, gw_W1, gw_W1, List.append_nil]
theorem gw_g0 (R : Nat → List Nat) (x y z : Nat) : gw_g R [x, y, z] 0 = [x, y, z] := by
  unfold gw_g
  rw [List.map_cons, List.map_cons, List.map_cons, List.map_nil, gw_wc, gw_wc, gw_wc, gw_wn]
  show gw_W R (13 * x) ++ (gw_W R (13 * y) ++ (gw_W R (13 * z) ++ [])) = _
  rw [gw_W0, gw_W0, gw_W0]
  rfl
theorem gw_n2 (c : Nat) : gw_n c ≤ 2 := by
  unfold gw_n
  split
  · omega
  · split <;> omega
theorem gw_g1l (ra rb x y z : Nat) : (gw_g (gw_Rl ra rb) [x, y, z] 1).length = gw_n x + gw_n y + gw_n z := by
  rw [gw_g1, List.length_append, List.length_append, gw_Rn, gw_Rn, gw_Rn]
  omega
theorem gw_sum {x y : Int32} {a b : Nat} (hx : x = nI a) (hy : y = nI b) : x + y = nI (a + b) := by
  rw [hx, hy, nI_add]
theorem gw_apL {w v : List Nat} {j : Nat} (h : j < w.length) : (w ++ v).getD j 0 = w.getD j 0 := by
  rw [gw_getD _ _ (by rw [List.length_append]; omega), gw_getD _ _ h, List.getElem_append_left h]
theorem gw_apR {w v : List Nat} {j : Nat} (h : w.length ≤ j) : (w ++ v).getD j 0 = v.getD (j - w.length) 0 := by
  rw [List.getD_eq_getElem?_getD, List.getD_eq_getElem?_getD, List.getElem?_append_right h]

section
variable {f1 f2 f3 f4 f5 f6 f7 f8 f9 f10 f11 f12 f13 f14 f15 f16 f17 : Int32} {a1 a2 a3 a4 a5 a6 a7 a8 a9 a10 a11 a12 a13 a14 a15 a16 a17 a18 a19 a20 a21 a22 a23 a24 a25 : Nat → Int32}
theorem gw_499 {post : Int32 → St0 → Prop} {mc ms kc ks : Nat} {R : Nat → List Nat} {F : List Nat} {z0 z1 : Int32} (hp : post 1 ()) (L : gw_L R F f1 f2 a1 a2 a3 a5 a6) (h3 : (gw_g R F 0).length = 3) (hz : z1 = z0) : wL_lawOf_499 post mc ms z0 z1 kc ks f1 f2 f3 f4 f5 f6 f7 f8 f9 f10 f11 f12 f13 f14 f15 f16 f17 a1 a2 a3 a4 a5 a6 a7 a8 a9 a10 a11 a12 a13 a14 a15 a16 a17 a18 a19 a20 a21 a22 a23 a24 a25 := by
  refine br_t hz ?_
  refine gw_com (n := 0) (by omega) L (fun t p => ?_)
  rw [h3]
  exact br_t rfl hp
theorem gw_447 {post : Int32 → St0 → Prop} {mc ms kc ks ra rb fx fy fz : Nat} {z0 z1 : Int32} (hp : post 1 ()) (hx : fx < 6) (hy : fy < 6) (hz : fz < 6) (L : gw_L (gw_Rl ra rb) [fx, fy, fz] f1 f2 a1 a2 a3 a5 a6) (e : z1 + z0 = nI (gw_4 ra rb fx + gw_4 ra rb fy + gw_4 ra rb fz)) : wL_lawOf_447 post mc ms (nI fx) (nI fz) z0 z1 kc ks f1 f2 f3 f4 f5 f6 f7 f8 f9 f10 f11 f12 f13 f14 f15 f16 f17 a1 a2 a3 a4 a5 a6 a7 a8 a9 a10 a11 a12 a13 a14 a15 a16 a17 a18 a19 a20 a21 a22 a23 a24 a25 := by
  refine nm_r e ?_
  refine gw_count (n := 1) (d := 4) (m := 9) (by omega) (by omega) (by omega) L (fun t p => ?_)
  have e4 : ((gw_g (gw_Rl ra rb) [fx, fy, fz] 1).take 9).count 4 = gw_4 ra rb fx + gw_4 ra rb fy + gw_4 ra rb fz := by
    have hl := gw_g1l ra rb fx fy fz
    have := gw_n2 fx
    have := gw_n2 fy
    have := gw_n2 fz
    rw [List.take_of_length_le (by omega), gw_g1, List.count_append, List.count_append, gw_R4, gw_R4, gw_R4]
    omega
  rw [e4]
  refine br_t rfl ?_
  refine gw_count (n := 0) (d := fx) (m := 1) (by omega) hx (by omega) L (fun t p => ?_)
  have e1 : ((gw_g (gw_Rl ra rb) [fx, fy, fz] 0).take 1).count fx = 1 := by
    rw [gw_g0]
    show [fx].count fx = 1
    exact List.count_singleton_self
  rw [e1]
  refine br_t rfl ?_
  have l3 : (gw_g (gw_Rl ra rb) [fx, fy, fz] 0).length = 3 := by
    rw [gw_g0]
    rfl
  refine gw_mir (n := 0) (by omega) L l3 ?_ (fun t p => ?_)
  · rw [gw_g0]
    intro i hi
    rcases (show i = 0 ∨ i = 1 ∨ i = 2 by omega) with z | z | z
    · subst z
      exact hx
    · subst z
      exact hy
    · subst z
      exact hz
  · rw [gw_g0]
    show (nI fx = nI fz → wL_lawOf_499 post mc ms 1 (if fx = fz then 1 else 0) kc ks f1 f2 f3 f4 f5 f6 f7 f8 f9 f10 f11 f12 f13 f14 f15 f16 f17 a1 a2 a3 a4 a5 a6 a7 a8 a9 a10 a11 a12 a13 a14 a15 a16 a17 a18 a19 a20 a21 a22 t p a25) ∧ (¬ nI fx = nI fz → wL_lawOf_499 post mc ms 0 (if fx = fz then 1 else 0) kc ks f1 f2 f3 f4 f5 f6 f7 f8 f9 f10 f11 f12 f13 f14 f15 f16 f17 a1 a2 a3 a4 a5 a6 a7 a8 a9 a10 a11 a12 a13 a14 a15 a16 a17 a18 a19 a20 a21 a22 t p a25)
    exact pk_eq fx fz (fun z => gw_499 hp L l3 (if_pos z)) (fun z => gw_499 hp L l3 (if_neg z))
theorem gw_413 {post : Int32 → St0 → Prop} {mc ms kc ks ra rb fx fy fz : Nat} {z0 z1 : Int32} (hp : post 1 ()) (ha : ra < 6) (hb : rb < 6) (hx : fx < 6) (hy : fy < 6) (hz : fz < 6) (L : gw_L (gw_Rl ra rb) [fx, fy, fz] f1 f2 a1 a2 a3 a5 a6) (e : z1 + z0 = nI (gw_4 ra rb fx + gw_4 ra rb fy)) : wL_lawOf_413 post mc ms (nI ra) (nI rb) (nI fx) (nI fz) z0 z1 kc ks f1 f2 f3 f4 f5 f6 f7 f8 f9 f10 f11 f12 f13 f14 f15 f16 f17 a1 a2 a3 a4 a5 a6 a7 a8 a9 a10 a11 a12 a13 a14 a15 a16 a17 a18 a19 a20 a21 a22 a23 a24 a25 := by
  have g : ∀ x, x = nI (gw_4 ra rb fz) → wL_lawOf_447 post mc ms (nI fx) (nI fz) x (z1 + z0) kc ks f1 f2 f3 f4 f5 f6 f7 f8 f9 f10 f11 f12 f13 f14 f15 f16 f17 a1 a2 a3 a4 a5 a6 a7 a8 a9 a10 a11 a12 a13 a14 a15 a16 a17 a18 a19 a20 a21 a22 a23 a24 a25 := fun x ex => gw_447 hp hx hy hz L (gw_sum e ex)
  refine pk_eq fz 2 (fun z => pk_eq ra 4 (fun z7 => pk_eq rb 4 (fun z8 => g (1 + 1) ?_) (fun z8 => g (1 + 0) ?_)) (fun z7 => pk_eq rb 4 (fun z8 => g (0 + 1) ?_) (fun z8 => g (0 + 0) ?_))) (fun z => g 0 ?_)
  · unfold gw_4
    rw [if_pos z, if_pos z7, if_pos z8]
    rfl
  · unfold gw_4
    rw [if_pos z, if_pos z7, if_neg z8]
    rfl
  · unfold gw_4
    rw [if_pos z, if_neg z7, if_pos z8]
    rfl
  · unfold gw_4
    rw [if_pos z, if_neg z7, if_neg z8]
    rfl
  · unfold gw_4
    rw [if_neg z]
    rfl
theorem gw_380 {post : Int32 → St0 → Prop} {mc ms kc ks ra rb fx fy fz : Nat} {z0 : Int32} (hp : post 1 ()) (ha : ra < 6) (hb : rb < 6) (hx : fx < 6) (hy : fy < 6) (hz : fz < 6) (L : gw_L (gw_Rl ra rb) [fx, fy, fz] f1 f2 a1 a2 a3 a5 a6) (e : z0 = nI (gw_4 ra rb fx)) : wL_lawOf_380 post mc ms (nI ra) (nI rb) (nI fx) (nI fy) (nI fz) z0 kc ks f1 f2 f3 f4 f5 f6 f7 f8 f9 f10 f11 f12 f13 f14 f15 f16 f17 a1 a2 a3 a4 a5 a6 a7 a8 a9 a10 a11 a12 a13 a14 a15 a16 a17 a18 a19 a20 a21 a22 a23 a24 a25 := by
  have g : ∀ x, x = nI (gw_4 ra rb fy) → wL_lawOf_413 post mc ms (nI ra) (nI rb) (nI fx) (nI fz) x z0 kc ks f1 f2 f3 f4 f5 f6 f7 f8 f9 f10 f11 f12 f13 f14 f15 f16 f17 a1 a2 a3 a4 a5 a6 a7 a8 a9 a10 a11 a12 a13 a14 a15 a16 a17 a18 a19 a20 a21 a22 a23 a24 a25 := fun x ex => gw_413 hp ha hb hx hy hz L (gw_sum e ex)
  refine pk_eq fy 2 (fun z => pk_eq ra 4 (fun z7 => pk_eq rb 4 (fun z8 => g (1 + 1) ?_) (fun z8 => g (1 + 0) ?_)) (fun z7 => pk_eq rb 4 (fun z8 => g (0 + 1) ?_) (fun z8 => g (0 + 0) ?_))) (fun z => g 0 ?_)
  · unfold gw_4
    rw [if_pos z, if_pos z7, if_pos z8]
    rfl
  · unfold gw_4
    rw [if_pos z, if_pos z7, if_neg z8]
    rfl
  · unfold gw_4
    rw [if_pos z, if_neg z7, if_pos z8]
    rfl
  · unfold gw_4
    rw [if_pos z, if_neg z7, if_neg z8]
    rfl
  · unfold gw_4
    rw [if_neg z]
    rfl
theorem gw_318 {post : Int32 → St0 → Prop} {mc ms kc ks ra rb fx fy fz : Nat} {x5 z0 : Int32} (hp : post 1 ()) (ha : ra < 6) (hb : rb < 6) (hx : fx < 6) (hy : fy < 6) (hz : fz < 6) (L : gw_L (gw_Rl ra rb) [fx, fy, fz] f1 f2 a1 a2 a3 a5 a6) (e : gw_at (gw_g (gw_Rl ra rb) [fx, fy, fz] 1) x5 = z0) : wL_lawOf_318 post mc ms x5 (nI ra) (nI rb) (nI fx) (nI fy) (nI fz) z0 kc ks f1 f2 f3 f4 f5 f6 f7 f8 f9 f10 f11 f12 f13 f14 f15 f16 f17 a1 a2 a3 a4 a5 a6 a7 a8 a9 a10 a11 a12 a13 a14 a15 a16 a17 a18 a19 a20 a21 a22 a23 a24 a25 := by
  unfold wL_lawOf_318
  refine gw_lat (n := 1) (by omega) L (fun t p => br_t e ?_)
  refine gw_lat (n := 0) (x := 1) (by omega) L (fun t p => br_t ?_ ?_)
  · rw [gw_g0]
    rfl
  have g : ∀ x, x = nI (gw_4 ra rb fx) → wL_lawOf_380 post mc ms (nI ra) (nI rb) (nI fx) (nI fy) (nI fz) x kc ks f1 f2 f3 f4 f5 f6 f7 f8 f9 f10 f11 f12 f13 f14 f15 f16 f17 a1 a2 a3 a4 a5 a6 a7 a8 a9 a10 a11 a12 a13 a14 a15 a16 a17 a18 a19 a20 a21 a22 t p a25 := fun x ex => gw_380 hp ha hb hx hy hz L ex
  refine pk_eq fx 2 (fun z => pk_eq ra 4 (fun z7 => pk_eq rb 4 (fun z8 => g (1 + 1) ?_) (fun z8 => g (1 + 0) ?_)) (fun z7 => pk_eq rb 4 (fun z8 => g (0 + 1) ?_) (fun z8 => g (0 + 0) ?_))) (fun z => g 0 ?_)
  · unfold gw_4
    rw [if_pos z, if_pos z7, if_pos z8]
    rfl
  · unfold gw_4
    rw [if_pos z, if_pos z7, if_neg z8]
    rfl
  · unfold gw_4
    rw [if_pos z, if_neg z7, if_pos z8]
    rfl
  · unfold gw_4
    rw [if_pos z, if_neg z7, if_neg z8]
    rfl
  · unfold gw_4
    rw [if_neg z]
    rfl
theorem gw_270 {post : Int32 → St0 → Prop} {mc ms kc ks ra rb fx fy fz : Nat} {x5 x15 z0 : Int32} (hp : post 1 ()) (ha : ra < 6) (hb : rb < 6) (hx : fx < 6) (hy : fy < 6) (hz : fz < 6) (L : gw_L (gw_Rl ra rb) [fx, fy, fz] f1 f2 a1 a2 a3 a5 a6)
    (hq : ∀ j, x5 = nI j → j < gw_n fx + gw_n fy + gw_n fz → (z0 = 2 → (x15 = 0 → (gw_g (gw_Rl ra rb) [fx, fy, fz] 1).getD j 0 = ra) ∧ (¬ x15 = 0 → (gw_g (gw_Rl ra rb) [fx, fy, fz] 1).getD j 0 = rb)) ∧ (¬ z0 = 2 → nI ((gw_g (gw_Rl ra rb) [fx, fy, fz] 1).getD j 0) = z0)) :
    wL_lawOf_270 post mc ms x5 (nI ra) (nI rb) (nI fx) (nI fy) (nI fz) (nI (gw_n fx)) (nI (gw_n fy)) (nI (gw_n fz)) x15 z0 kc ks f1 f2 f3 f4 f5 f6 f7 f8 f9 f10 f11 f12 f13 f14 f15 f16 f17 a1 a2 a3 a4 a5 a6 a7 a8 a9 a10 a11 a12 a13 a14 a15 a16 a17 a18 a19 a20 a21 a22 a23 a24 a25 := by
  have hl := gw_g1l ra rb fx fy fz
  have n1 := gw_n2 fx
  have n2 := gw_n2 fy
  have n3 := gw_n2 fz
  have es : nI (gw_n fx) + nI (gw_n fy) + nI (gw_n fz) = nI (gw_g (gw_Rl ra rb) [fx, fy, fz] 1).length := by
    rw [nI_add, nI_add, hl]
  refine br_c (fun z => gw_318 hp ha hb hx hy hz L ?_) (fun z => br_c (fun z' => ?_) (fun z' => gw_318 hp ha hb hx hy hz L ?_))
  · unfold gw_at
    rw [if_pos z]
  · rw [es] at z'
    obtain ⟨j, hj, e⟩ := nI_of z
    subst e
    have hj' := (nI_ltI hj (by omega)).mp z'
    obtain ⟨q1, q2⟩ := hq j rfl (by omega)
    have ea : gw_at (gw_g (gw_Rl ra rb) [fx, fy, fz] 1) (nI j) = nI ((gw_g (gw_Rl ra rb) [fx, fy, fz] 1).getD j 0) := by
      unfold gw_at
      rw [if_neg z, if_pos z', nI_clamp hj]
    refine br_c (fun u => br_c (fun v => gw_318 hp ha hb hx hy hz L ?_) (fun v => gw_318 hp ha hb hx hy hz L ?_)) (fun u => gw_318 hp ha hb hx hy hz L ?_)
    · rw [ea, (q1 u).1 v]
    · rw [ea, (q1 u).2 v]
    · rw [ea, q2 u]
  · rw [es] at z'
    unfold gw_at
    rw [if_neg z, if_neg z']
theorem gw_239 {post : Int32 → St0 → Prop} {mc ms kc ks ra rb fx fy fz : Nat} {x5 z0 : Int32} (hp : post 1 ()) (ha : ra < 6) (hb : rb < 6) (hx : fx < 6) (hy : fy < 6) (hz : fz < 6) (L : gw_L (gw_Rl ra rb) [fx, fy, fz] f1 f2 a1 a2 a3 a5 a6)
    (hA : ¬ nI (gw_n fx) ≤ x5 → z0 = x5) (hB : nI (gw_n fx) ≤ x5 → ¬ nI (gw_n fx) + nI (gw_n fy) ≤ x5 → z0 = x5 - nI (gw_n fx)) (hC : nI (gw_n fx) ≤ x5 → nI (gw_n fx) + nI (gw_n fy) ≤ x5 → z0 = x5 - nI (gw_n fx) - nI (gw_n fy)) :
    wL_lawOf_239 post mc ms x5 (nI ra) (nI rb) (nI fx) (nI fy) (nI fz) (nI (gw_n fx)) (nI (gw_n fy)) (nI (gw_n fz)) z0 kc ks f1 f2 f3 f4 f5 f6 f7 f8 f9 f10 f11 f12 f13 f14 f15 f16 f17 a1 a2 a3 a4 a5 a6 a7 a8 a9 a10 a11 a12 a13 a14 a15 a16 a17 a18 a19 a20 a21 a22 a23 a24 a25 := by
  have n1 := gw_n2 fx
  have n2 := gw_n2 fy
  have n3 := gw_n2 fz
  have pick : ∀ c i k, c < 6 → i < gw_n c → z0 = nI i → k = (gw_Rl ra rb c).getD i 0 → (nI c = 2 → (z0 = 0 → k = ra) ∧ (¬ z0 = 0 → k = rb)) ∧ (¬ nI c = 2 → nI k = nI c) := by
    intro c i k hc hi e ek
    have hn := gw_n2 c
    obtain ⟨p1, p2⟩ := gw_pick (ra := ra) (rb := rb) hi
    have e2 : nI c = 2 ↔ c = 2 := nI_eq (b := 2) (by omega) (by omega)
    have e0 : z0 = 0 ↔ i = 0 := by
      rw [e]
      exact nI_eq (b := 0) (by omega) (by omega)
    rw [e2, e0, ek]
    exact ⟨fun u => ⟨fun v => (p1 u).1 v, fun v => (p1 u).2 v⟩, fun u => by rw [p2 u]⟩
  refine br_c (fun u => br_c (fun v => gw_270 hp ha hb hx hy hz L ?_) (fun v => gw_270 hp ha hb hx hy hz L ?_)) (fun u => gw_270 hp ha hb hx hy hz L ?_)
  · intro j ej hj
    have e := hC u v
    subst ej
    rw [nI_add] at v
    have u' := (nI_leI (by omega) (by omega)).mp u
    have v' := (nI_leI (by omega) (by omega)).mp v
    rw [pk_sub u', pk_sub (by omega)] at e
    refine pick fz _ _ hz (by omega) e ?_
    rw [gw_g1, gw_apR (by rw [gw_Rn]; omega), gw_Rn, gw_apR (by rw [gw_Rn]; omega), gw_Rn]
  · intro j ej hj
    have e := hB u v
    subst ej
    rw [nI_add] at v
    have u' := (nI_leI (by omega) (by omega)).mp u
    have v' : ¬ gw_n fx + gw_n fy ≤ j := fun t => v ((nI_leI (by omega) (by omega)).mpr t)
    rw [pk_sub u'] at e
    refine pick fy _ _ hy (by omega) e ?_
    rw [gw_g1, gw_apR (by rw [gw_Rn]; omega), gw_Rn, gw_apL (by rw [gw_Rn]; omega)]
  · intro j ej hj
    have e := hA u
    subst ej
    have u' : ¬ gw_n fx ≤ j := fun t => u ((nI_leI (by omega) (by omega)).mpr t)
    refine pick fx j _ hx (by omega) e ?_
    rw [gw_g1, gw_apL (by rw [gw_Rn]; omega)]
theorem gw_180 {post : Int32 → St0 → Prop} {mc ms kc ks ra rb fx fy fz : Nat} {x5 : Int32} (hp : post 1 ()) (ha : ra < 6) (hb : rb < 6) (hx : fx < 6) (hy : fy < 6) (hz : fz < 6) (h2 : f2 = 0) (hR : gw_R (gw_Rl ra rb) a1 a2) (hF : gw_F [fx, fy, fz] f1 a3) :
    wL_lawOf_180 post mc ms x5 (nI ra) (nI rb) (nI fx) (nI fy) (nI fz) (nI (gw_n fx)) (nI (gw_n fy)) (nI (gw_n fz)) kc ks f1 f2 f3 f4 f5 f6 f7 f8 f9 f10 f11 f12 f13 f14 f15 f16 f17 a1 a2 a3 a4 a5 a6 a7 a8 a9 a10 a11 a12 a13 a14 a15 a16 a17 a18 a19 a20 a21 a22 a23 a24 a25 := by
  have hg : ∀ n, n ≤ 1 → (gw_g (gw_Rl ra rb) [fx, fy, fz] n).length ≤ 60 := by
    intro n hn
    have n1 := gw_n2 fx
    have n2 := gw_n2 fy
    have n3 := gw_n2 fz
    by_cases e : n = 0
    · rw [e, gw_g0]
      exact (by decide : 3 ≤ 60)
    · rw [show n = 1 by omega, gw_g1l]
      omega
  unfold wL_lawOf_180
  refine gw_length0 (n := 1) (by omega) h2 hR hF hg (fun y5 y6 y7 y8 y9 y10 y11 y12 y13 y14 y15 y16 y17 b5 b6 b7 b8 b9 b10 b11 b12 b13 b14 b15 b16 b17 b18 L => ?_)
  refine br_t (by rw [gw_g1l, nI_add, nI_add]) (br_c (fun u => br_c (fun v => ?_) (fun v => ?_)) (fun u => ?_))
  · exact gw_239 hp ha hb hx hy hz L (fun t => absurd u t) (fun _ t => absurd v t) (fun _ _ => rfl)
  · exact gw_239 hp ha hb hx hy hz L (fun t => absurd u t) (fun _ _ => rfl) (fun _ t => absurd t v)
  · exact gw_239 hp ha hb hx hy hz L (fun _ => rfl) (fun t => absurd t u) (fun t => absurd t u)
theorem gw_134 {post : Int32 → St0 → Prop} {mc ms kc ks ra rb fx fy fz : Nat} {x5 z0 : Int32} (hp : post 1 ()) (ha : ra < 6) (hb : rb < 6) (hx : fx < 6) (hy : fy < 6) (hz : fz < 6) (h2 : f2 = 0) (hR : gw_R (gw_Rl ra rb) a1 a2) (hF : gw_F [fx, fy, fz] f1 a3) (e : z0 = nI (gw_n fx)) :
    wL_lawOf_134 post mc ms x5 (nI ra) (nI rb) (nI fx) (nI fy) (nI fz) z0 kc ks f1 f2 f3 f4 f5 f6 f7 f8 f9 f10 f11 f12 f13 f14 f15 f16 f17 a1 a2 a3 a4 a5 a6 a7 a8 a9 a10 a11 a12 a13 a14 a15 a16 a17 a18 a19 a20 a21 a22 a23 a24 a25 := by
  have g1 : ∀ x y z, x = nI (gw_n fx) → y = nI (gw_n fy) → z = nI (gw_n fz) → wL_lawOf_180 post mc ms x5 (nI ra) (nI rb) (nI fx) (nI fy) (nI fz) x y z kc ks f1 f2 f3 f4 f5 f6 f7 f8 f9 f10 f11 f12 f13 f14 f15 f16 f17 a1 a2 a3 a4 a5 a6 a7 a8 a9 a10 a11 a12 a13 a14 a15 a16 a17 a18 a19 a20 a21 a22 a23 a24 a25 := by
    intro x y z ex ey ez
    rw [ex, ey, ez]
    exact gw_180 hp ha hb hx hy hz h2 hR hF
  have n2 : ∀ c, c = 2 → (2 : Int32) = nI (gw_n c) := fun c h => by subst h; rfl
  have n4 : ∀ c, c = 4 → (0 : Int32) = nI (gw_n c) := fun c h => by subst h; rfl
  have n1 : ∀ c, c ≠ 2 → c ≠ 4 → (1 : Int32) = nI (gw_n c) := fun c h h' => by unfold gw_n; rw [if_neg h, if_neg h']; rfl
  have g2 : ∀ y, y = nI (gw_n fy) → wL_lawOf_157 post mc ms x5 (nI ra) (nI rb) (nI fx) (nI fy) (nI fz) z0 y kc ks f1 f2 f3 f4 f5 f6 f7 f8 f9 f10 f11 f12 f13 f14 f15 f16 f17 a1 a2 a3 a4 a5 a6 a7 a8 a9 a10 a11 a12 a13 a14 a15 a16 a17 a18 a19 a20 a21 a22 a23 a24 a25 := fun y ey =>
    pk_eq fz 2 (fun z => g1 _ _ _ e ey (n2 _ z)) (fun z => pk_eq fz 4 (fun z' => g1 _ _ _ e ey (n4 _ z')) (fun z' => g1 _ _ _ e ey (n1 _ z z')))
  exact pk_eq fy 2 (fun z => g2 _ (n2 _ z)) (fun z => pk_eq fy 4 (fun z' => g2 _ (n4 _ z')) (fun z' => g2 _ (n1 _ z z')))
end
theorem gw_cell (p : Int32) : ∃ j, j < 6 ∧ (p &&& 7) - (p &&& 7) / 6 * 6 = nI j := by
  obtain ⟨j, hj, e⟩ := pk_andE p (m := 7) 3 (by decide)
  refine ⟨j % 6, Nat.mod_lt _ (by omega), ?_⟩
  rw [e]
  exact pk_rem (d := 6) (by omega) (by omega) (by omega)
theorem gw_nm {α : Type} {e e' : α} {P : α → Prop} (he : e = e') (h : P e') : ∀ x, x = e → P x := fun x hx => by rw [hx, he]; exact h
theorem gw_lawOf {post : Int32 → St0 → Prop} (hp : post 1 ()) (p0 p1 p2 p3 p4 p5 : Int32) : wpL_lawOf post 26 2566 () p0 p1 p2 p3 p4 p5 := by
  obtain ⟨ra, ha, ea⟩ := gw_cell p0
  obtain ⟨rb, hb, eb⟩ := gw_cell p1
  obtain ⟨fx, hx, ex⟩ := gw_cell p2
  obtain ⟨fy, hy, ey⟩ := gw_cell p3
  obtain ⟨fz, hz, ez⟩ := gw_cell p4
  have m2 : ∀ d, d ∈ [ra, rb] → d < 6 := by
    intro d hd
    simp only [List.mem_cons, List.not_mem_nil, or_false] at hd
    omega
  have m3 : ∀ d, d ∈ [fx, fy, fz] → d < 6 := by
    intro d hd
    simp only [List.mem_cons, List.not_mem_nil, or_false] at hd
    omega
  have e2 : nI ra + 1 + 7 * (nI rb + 1) = nI (gw_num [ra, rb]) := by
    rw [nI_1, nI_1, show (7 : Int32) * nI (rb + 1) = nI (7 * (rb + 1)) from pk_mul 7 (rb + 1), nI_add]
    rfl
  have e3 : nI fx + 1 + 7 * (nI fy + 1) + 49 * (nI fz + 1) = nI (gw_num [fx, fy, fz]) := by
    rw [nI_1, nI_1, nI_1, show (7 : Int32) * nI (fy + 1) = nI (7 * (fy + 1)) from pk_mul 7 (fy + 1), show (49 : Int32) * nI (fz + 1) = nI (49 * (fz + 1)) from pk_mul 49 (fz + 1), nI_add, nI_add]
    refine congrArg nI ?_
    show fx + 1 + 7 * (fy + 1) + 49 * (fz + 1) = fx + 1 + 7 * (fy + 1 + 7 * (fz + 1 + 7 * 0))
    omega
  refine And.intro (by omega) ⟨by omega, 25, 2524, by omega, by omega, ?_⟩
  refine gw_init (by omega) (by omega) (fun s q hs => ?_)
  refine ⟨by decide, nm_r ea ⟨by decide, nm_r eb ⟨by decide, nm_r ex ⟨by decide, nm_r ey ⟨by decide, nm_r ez ?_⟩⟩⟩⟩⟩
  rw [e2]
  refine gw_rule (c := 2) (by omega) m2 (show 2 ≤ 4 by decide) (fun q1 k1 k2 => ?_)
  refine gw_rule (c := 4) (ds := []) (by omega) (fun d hd => absurd hd List.not_mem_nil) (by decide) (fun q2 k3 k4 => ?_)
  rw [e3]
  refine gw_begin m3 (show 1 ≤ 3 by decide) (show 3 ≤ 8 by decide) (fun q3 k5 => ?_)
  have hR0 : gw_R (fun k => [k]) s q := by
    intro c hc
    refine ⟨show 1 ≤ 4 by decide, (hs c hc).1, fun i hi => ?_⟩
    have e : i = 0 := Nat.lt_one_iff.mp hi
    subst e
    exact ⟨hc, (hs c hc).2⟩
  have hR1 := gw_Rupd hR0 m2 (show 2 ≤ 4 by decide) k1 k2
  have hR2 : gw_R (gw_Rl ra rb) _ q2 := gw_Rupd hR1 (ds := []) (c := 4) (fun d hd => absurd hd List.not_mem_nil) (by decide) k3 k4
  have hF : gw_F [fx, fy, fz] (nI [fx, fy, fz].length) q3 := ⟨show 3 ≤ 8 by decide, rfl, fun i hi => ⟨gw_memD m3 hi, k5 i hi⟩⟩
  refine br_t rfl ?_
  exact pk_eq fx 2 (fun z => gw_134 hp ha hb hx hy hz rfl hR2 hF (by subst z; rfl)) (fun z => pk_eq fx 4 (fun z' => gw_134 hp ha hb hx hy hz rfl hR2 hF (by subst z'; rfl)) (fun z' => gw_134 hp ha hb hx hy hz rfl hR2 hF (by unfold gw_n; rw [if_neg z, if_neg z']; rfl)))
theorem gw_cellAt {post : Int32 → Prop} {L k : Nat} {xs : Nat → Int32} (hL : L ≤ 6) (hk : k < 6) (h : ∀ r, post r) : wpL_cellAt post L xs () (nI k) :=
  pk_le L k (fun _ => h _) (fun z => ⟨pk_in k L z, h _⟩)
theorem i_vc (xs : Nat → Int32) (L : Nat) (hL : L ≤ 6) : wpL_law (fun r => r = 1) L xs :=
  gw_cellAt (k := 0) hL (by omega) (fun _ => gw_cellAt (k := 1) hL (by omega) (fun _ => gw_cellAt (k := 2) hL (by omega) (fun _ => gw_cellAt (k := 3) hL (by omega) (fun _ => gw_cellAt (k := 4) hL (by omega) (fun _ => gw_cellAt (k := 5) hL (by omega) (fun _ => ⟨26, 2566, by omega, by omega, gw_lawOf (post := fun r _ => r = 1) rfl _ _ _ _ _ _⟩))))))
end
