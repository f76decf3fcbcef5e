section
/-! ints as integers; branches over a literal; closed places -/
theorem lc_lt {x y : Int32} : x < y ↔ x.toInt < y.toInt := Int32.lt_iff_toInt_lt
theorem lc_le {x y : Int32} : x ≤ y ↔ x.toInt ≤ y.toInt := Int32.le_iff_toInt_le
theorem lc_eq {x y : Int32} : x = y ↔ x.toInt = y.toInt := Int32.toInt_inj.symm
/-- x < literal -/
theorem lc_bl {x y : Int32} {A B : Prop} (m : Int) (f : x.toInt < m → A) (g : m ≤ x.toInt → B) (hy : y.toInt = m := by decide) : (x < y → A) ∧ (¬ x < y → B) := by
  subst hy
  rw [lc_lt]
  exact ⟨f, fun z => g (by omega)⟩
/-- literal < x -/
theorem lc_bg {x y : Int32} {A B : Prop} (m : Int) (f : m < x.toInt → A) (g : x.toInt ≤ m → B) (hy : y.toInt = m := by decide) : (y < x → A) ∧ (¬ y < x → B) := by
  subst hy
  rw [lc_lt]
  exact ⟨f, fun z => g (by omega)⟩
/-- x ≤ literal -/
theorem lc_bm {x y : Int32} {A B : Prop} (m : Int) (f : x.toInt ≤ m → A) (g : m < x.toInt → B) (hy : y.toInt = m := by decide) : (x ≤ y → A) ∧ (¬ x ≤ y → B) := by
  subst hy
  rw [lc_le]
  exact ⟨f, fun z => g (by omega)⟩
/-- literal ≤ x -/
theorem lc_bn {x y : Int32} {A B : Prop} (m : Int) (f : m ≤ x.toInt → A) (g : x.toInt < m → B) (hy : y.toInt = m := by decide) : (y ≤ x → A) ∧ (¬ y ≤ x → B) := by
  subst hy
  rw [lc_le]
  exact ⟨f, fun z => g (by omega)⟩
/-- x = literal -/
theorem lc_be {x y : Int32} {A B : Prop} (m : Int) (f : x.toInt = m → A) (g : x.toInt ≠ m → B) (hy : y.toInt = m := by decide) : (x = y → A) ∧ (¬ x = y → B) := by
  subst hy
  rw [lc_eq]
  exact ⟨f, g⟩
theorem lc_40 (y : Int32) : 4 * 0 + y = y := by
  rw [show (4 : Int32) * 0 = 0 by decide]
  exact Int32.zero_add y
theorem lc_0 {x : Int32} (h : x.toInt = 0) : x = 0 := lc_eq.mpr (h.trans (by decide))
theorem lc_and0 (x : Int32) : 0 &&& x = 0 := Int32.zero_and
/-- a part of a program that fits -/
def lc_F (k x y : Int32) : Prop := 0 ≤ k.toInt ∧ k.toInt ≤ 11 ∧ (k.toInt = 9 ∨ k.toInt = 10 → 0 ≤ x.toInt ∧ x.toInt ≤ 24) ∧ (k.toInt ≤ 8 → 0 ≤ x.toInt ∧ x.toInt ≤ 3) ∧ (3 ≤ k.toInt ∧ k.toInt ≤ 6 → 0 ≤ y.toInt ∧ y.toInt ≤ 3)
/-- a point of this kind alone in a program is a fault -/
def lc_ft (k : Int32) : Prop := (1 ≤ k.toInt ∧ k.toInt ≤ 4) ∨ k.toInt = 7
/-- what a point alone wants before it -/
def lc_v (k x : Int32) : Int32 := if k = 7 then 0 ||| ((1 : Int32) <<< ((x &&& 3) &&& 31)) else 0
theorem lc_v7 {k x : Int32} (h : k.toInt = 7) : lc_v k x = 0 ||| ((1 : Int32) <<< ((x &&& 3) &&& 31)) := if_pos (lc_eq.mpr (h.trans (by decide)))
theorem lc_vn {k x : Int32} (h : k.toInt ≠ 7) : lc_v k x = 0 := if_neg (fun z => h ((lc_eq.mp z).trans (by decide)))
theorem lc_nb0 : narrow .boolean (.int (0 : Int32)) = .int 0 := by decide
theorem lc_nb1 : narrow .boolean (.int (1 : Int32)) = .int 1 := by decide
theorem lc_fb0 : fits .boolean (.int (0 : Int32)) = true := by decide
theorem lc_fb1 : fits .boolean (.int (1 : Int32)) = true := by decide
theorem lc_bit : ∀ r : Int32, 0 ≤ r.toInt → r.toInt ≤ 3 → (((15 : Int32) >>> (r &&& 31)) &&& 1) = 1 := by
  intro r h0 h3
  have h : r = 0 ∨ r = 1 ∨ r = 2 ∨ r = 3 := by
    rw [lc_eq, lc_eq, lc_eq, lc_eq, show (0 : Int32).toInt = 0 by decide, show (1 : Int32).toInt = 1 by decide, show (2 : Int32).toInt = 2 by decide, show (3 : Int32).toInt = 3 by decide]
    omega
  rcases h with h | h | h | h <;> subst h <;> decide
end
section
section
variable {c s g q : Int32} {a1 a2 a3 a4 a5 a6 a7 a8 a9 a10 a11 : Nat → Int32}
theorem lc_out {post : Int32 → Prop} {x y : Int32} (m : Int) (hy : y.toInt = m) (h1 : (x.toInt < 0 ∨ m < x.toInt) → post 1) (h0 : 0 ≤ x.toInt → x.toInt ≤ m → post 0) : wpX_out post (c, s, g, q, a1, a2, a3, a4, a5, a6, a7, a8, a9, a10, a11) x y :=
  lc_bl 0 (fun z => h1 (Or.inl z)) (fun z => lc_bm m (fun w => h0 z w) (fun w => h1 (Or.inr w)) hy)
theorem lc_bad {post : Int32 → Prop} {k x y : Int32} (h1 : ¬ lc_F k x y → post 1) (h0 : lc_F k x y → post 0) : wpX_badPart post (c, s, g, q, a1, a2, a3, a4, a5, a6, a7, a8, a9, a10, a11) k x y := by
  unfold wpX_badPart
  dsimp only
  unfold lc_F at h0 h1
  refine lc_out 11 (by decide) (fun h => br_f (by decide) (h1 (by omega))) (fun u1 u2 => br_t rfl ?_)
  refine lc_be 9 (fun e => ?_) (fun e => lc_be 10 (fun e2 => ?_) (fun e2 => lc_bl 3 (fun w => ?_) (fun w => lc_bg 6 (fun w2 => ?_) (fun w2 => ?_))))
  · exact lc_out 24 (by decide) (fun h => ⟨lc_nb1, h1 (by omega)⟩) (fun v1 v2 => ⟨lc_nb0, h0 (by omega)⟩)
  · exact lc_out 24 (by decide) (fun h => ⟨lc_nb1, h1 (by omega)⟩) (fun v1 v2 => ⟨lc_nb0, h0 (by omega)⟩)
  · exact lc_be 11 (fun e3 => br_t rfl (h0 (by omega))) (fun e3 => lc_out 3 (by decide) (fun h => br_f (by decide) (h1 (by omega))) (fun v1 v2 => br_t rfl (br_t rfl (h0 (by omega)))))
  · exact lc_be 11 (fun e3 => br_t rfl (h0 (by omega))) (fun e3 => lc_out 3 (by decide) (fun h => br_f (by decide) (h1 (by omega))) (fun v1 v2 => br_t rfl (br_t rfl (h0 (by omega)))))
  · exact lc_be 11 (fun e3 => absurd e3 (by omega)) (fun e3 => lc_out 3 (by decide) (fun h => br_f (by decide) (h1 (by omega))) (fun v1 v2 => br_t rfl (br_f (by decide) (lc_out 3 (by decide) (fun h => br_f (by decide) (h1 (by omega))) (fun t1 t2 => br_t rfl (h0 (by omega)))))))
theorem lc_point {post : Int32 → St2 → Prop} {k x y : Int32} (h1 : ¬ lc_F k x y → post (-1) (0, s, g, q, a1, a2, a3, a4, a5, a6, a7, a8, a9, a10, a11)) (h0 : lc_F k x y → post 0 (1, 0, g, q, upd a1 0 k, upd a2 0 x, upd a3 0 y, a4, a5, a6, a7, a8, a9, a10, a11)) : wpX_point post (0, s, g, q, a1, a2, a3, a4, a5, a6, a7, a8, a9, a10, a11) k x y := by
  unfold wpX_point
  dsimp only
  refine lc_bad (fun n => br_f (by decide) (h1 n)) (fun f => br_t rfl (br_f (by decide) ?_))
  refine ⟨vp_in_iff.mpr (by decide), nm_r (e' := upd a1 0 k) rfl ⟨vp_in_iff.mpr (by decide), nm_r (e' := upd a2 0 x) rfl ⟨vp_in_iff.mpr (by decide), nm_r (e' := upd a3 0 y) rfl ?_⟩⟩⟩
  dsimp only
  refine nm_r (e' := 1) (by decide) ?_
  rw [show (1 : Int32) - 1 = 0 by decide]
  exact h0 f
theorem lc_bp {post : Int32 → Prop} {p : Int32} (m : Int) (hc : c.toInt = m) (h1 : (p.toInt < 0 ∨ m ≤ p.toInt) → post 1) (h0 : 0 ≤ p.toInt → p.toInt < m → post 0) : wpX_badPoint post (c, s, g, q, a1, a2, a3, a4, a5, a6, a7, a8, a9, a10, a11) p :=
  lc_bl 0 (fun z => h1 (Or.inl z)) (fun z => lc_bl m (fun w => h0 z w) (fun w => h1 (Or.inr w)) hc)
theorem lc_br {post : Int32 → Prop} {p : Int32} (h1 : (p.toInt < 0 ∨ 4 ≤ p.toInt) → post 1) (h0 : 0 ≤ p.toInt → p.toInt < 4 → post 0) : wpX_badReference post (c, s, g, q, a1, a2, a3, a4, a5, a6, a7, a8, a9, a10, a11) p :=
  lc_bl 0 (fun z => h1 (Or.inl z)) (fun z => lc_bl 4 (fun w => h0 z w) (fun w => h1 (Or.inr w)))
/-- change: the new part (kind 11) always fits -/
theorem lc_chg {post : Int32 → St2 → Prop} {p x y : Int32} (m : Int) (hc : c.toInt = m) (hm : m ≤ 1) (h1 : (p.toInt < 0 ∨ m ≤ p.toInt) → ∀ u, post (-1) u) (h0 : p.toInt = 0 → m = 1 → ∀ u, post (a1 0) u) : wpX_change post (c, s, g, q, a1, a2, a3, a4, a5, a6, a7, a8, a9, a10, a11) p 11 x y := by
  unfold wpX_change
  dsimp only
  refine lc_bp m hc (fun z => br_f (by decide) (h1 z _)) (fun z w => br_t rfl ?_)
  have e : p = 0 := lc_0 (by omega)
  subst e
  have F : lc_F 11 x y := by
    unfold lc_F
    rw [show (11 : Int32).toInt = 11 by decide]
    omega
  refine lc_bad (fun n => absurd F n) (fun _ => br_t rfl ⟨vp_in_iff.mpr (by decide), nm_r (e' := a1 0) rfl ?_⟩)
  exact ⟨vp_in_iff.mpr (by decide), nm_e ⟨vp_in_iff.mpr (by decide), nm_e ⟨vp_in_iff.mpr (by decide), nm_e (h0 (by omega) (by omega) _)⟩⟩⟩
end
end
section
section
variable {c s g q : Int32} {a1 a2 a3 a4 a5 a6 a7 a8 a9 a10 a11 : Nat → Int32}
theorem lc_i0 : vp_in 0 24 := vp_in_iff.mpr (by decide)
/-- passPoint(0): for a jump the references keep what they hold -/
theorem lc_pass {post : St2 → Prop} (hF : lc_F (a1 0) (a2 0) (a3 0)) (H : ∀ b : Nat → Int32, ((a1 0).toInt = 9 ∨ (a1 0).toInt = 10 → ∀ j, j < 4 → b j = a5 j) → post (c, s, g, q, a1, a2, a3, a4, a5, a6, a7, a8, b, a10, a11)) : wpX_passPoint post (c, s, g, q, a1, a2, a3, a4, a5, a6, a7, a8, a9, a10, a11) 0 := by
  unfold lc_F at hF
  have hx : (a1 0).toInt ≤ 8 → vp_in (a2 0) 4 := fun z => vp_in_iff.mpr (by omega)
  have hy : 3 ≤ (a1 0).toInt ∧ (a1 0).toInt ≤ 6 → vp_in (a3 0) 4 := fun z => vp_in_iff.mpr (by omega)
  have hz : 3 ≤ (a1 0).toInt ∧ (a1 0).toInt ≤ 6 → vp_in (4 * 0 + a3 0) 96 := fun z => by
    rw [lc_40]
    exact vp_in_iff.mpr (by omega)
  have h76 : ∀ (k : Int32) (b : Nat → Int32), 5 ≤ (a1 0).toInt ∧ (a1 0).toInt ≤ 6 → wX_passPoint_76 post 0 k (a2 0) c s g q a1 a2 a3 a4 a5 a6 a7 a8 b a10 a11 := by
    intro k b z
    have no : ∀ b' : Nat → Int32, post (c, s, g, q, a1, a2, a3, a4, a5, a6, a7, a8, b', a10, a11) := fun b' => H b' (fun w => absurd w (by omega))
    refine ⟨lc_i0, nm_r (e' := a3 0) rfl ⟨hz (by omega), hx (by omega), nm_e ?_⟩⟩
    exact br_c (fun _ => br_c (fun _ => ⟨hy (by omega), hy (by omega), nm_e (no _)⟩) (fun _ => ⟨hy (by omega), nm_e (no _)⟩)) (fun _ => ⟨hy (by omega), hy (by omega), nm_e (no _)⟩)
  refine ⟨5, ?_⟩
  refine br_f (by decide) ⟨vp_in_iff.mpr (by decide), vp_in_iff.mpr (by decide), nm_r (e' := upd a9 0 (a5 0)) rfl (nm_r (e' := 1) (by decide) ?_)⟩
  refine br_f (by decide) ⟨vp_in_iff.mpr (by decide), vp_in_iff.mpr (by decide), nm_r (e' := upd (upd a9 0 (a5 0)) 1 (a5 1)) rfl (nm_r (e' := 2) (by decide) ?_)⟩
  refine br_f (by decide) ⟨vp_in_iff.mpr (by decide), vp_in_iff.mpr (by decide), nm_r (e' := upd (upd (upd a9 0 (a5 0)) 1 (a5 1)) 2 (a5 2)) rfl (nm_r (e' := 3) (by decide) ?_)⟩
  refine br_f (by decide) ⟨vp_in_iff.mpr (by decide), vp_in_iff.mpr (by decide), nm_r (e' := upd (upd (upd (upd a9 0 (a5 0)) 1 (a5 1)) 2 (a5 2)) 3 (a5 3)) rfl (nm_r (e' := 4) (by decide) ?_)⟩
  have hb : ∀ j, j < 4 → upd (upd (upd (upd a9 0 (a5 0)) 1 (a5 1)) 2 (a5 2)) 3 (a5 3) j = a5 j := by
    intro j hj
    have hj' : j = 0 ∨ j = 1 ∨ j = 2 ∨ j = 3 := by omega
    rcases hj' with e | e | e | e <;> subst e <;> rfl
  revert hb
  generalize upd (upd (upd (upd a9 0 (a5 0)) 1 (a5 1)) 2 (a5 2)) 3 (a5 3) = b
  intro hb
  refine br_t (by decide) ⟨lc_i0, nm_r (e' := a1 0) rfl ⟨lc_i0, nm_r (e' := a2 0) rfl ?_⟩⟩
  refine lc_be 3 (fun e => ⟨hx (by omega), nm_e (H _ (fun w => absurd w (by omega)))⟩) (fun _ => ?_)
  refine lc_be 4 (fun e => ⟨hx (by omega), nm_e (H _ (fun w => absurd w (by omega)))⟩) (fun _ => ?_)
  refine lc_be 5 (fun e => h76 _ b (by omega)) (fun _ => ?_)
  refine lc_be 6 (fun e => h76 _ b (by omega)) (fun _ => ?_)
  exact lc_be 8 (fun e => ⟨hx (by omega), nm_e (H _ (fun w => absurd w (by omega)))⟩) (fun _ => H b (fun _ => hb))
theorem lc_emp {post : Int32 → Prop} (H : ∀ v, ((a1 0).toInt = 9 ∨ (a1 0).toInt = 10 → v = a6 0) → post v) : wpX_emptyAfter post (c, s, g, q, a1, a2, a3, a4, a5, a6, a7, a8, a9, a10, a11) 0 :=
  ⟨lc_i0, nm_e ⟨lc_i0, lc_be (x := a1 0) 0 (fun e => ⟨lc_i0, H _ (fun w => absurd w (by omega))⟩) (fun _ => ⟨lc_i0, lc_be (x := a1 0) 2 (fun e => ⟨lc_i0, H _ (fun w => absurd w (by omega))⟩) (fun _ => ⟨lc_i0, H _ (fun _ => rfl)⟩)⟩)⟩⟩
/-- behind(0, i) in a program of one point: itself, or none -/
theorem lc_beh {post : Int32 → Prop} {i : Int32} (hF : lc_F (a1 0) (a2 0) (a3 0)) (hm : post (-1)) (h0 : (a1 0).toInt = 9 ∨ (a1 0).toInt = 10 → post 0) : wpX_behind post (1, s, g, q, a1, a2, a3, a4, a5, a6, a7, a8, a9, a10, a11) 0 i := by
  unfold lc_F at hF
  have h42 : (a1 0).toInt = 9 ∨ (a1 0).toInt = 10 → wX_behind_42 post 0 1 s g q a1 a2 a3 a4 a5 a6 a7 a8 a9 a10 a11 := by
    intro z
    refine ⟨lc_i0, nm_r (e' := a2 0) rfl (lc_bn 1 (fun _ => hm) (fun w => ?_))⟩
    rw [show a2 0 = 0 from lc_0 (by omega)]
    exact h0 z
  have h31 : (i = 1 → (a1 0).toInt = 10) → wX_behind_31 post 0 i (a1 0) 1 1 s g q a1 a2 a3 a4 a5 a6 a7 a8 a9 a10 a11 := fun hi =>
    lc_be 9 (fun e => h42 (Or.inl e)) (fun _ => br_c (fun e => h42 (Or.inr (hi e))) (fun _ => br_t (by decide) hm))
  exact ⟨lc_i0, nm_r (e' := a1 0) rfl (nm_r (e' := 1) (by decide) (lc_be 11 (fun _ => hm) (fun _ => br_c (fun e1 => lc_be 10 (fun e => h31 (fun _ => e)) (fun _ => hm)) (fun n1 => h31 (fun z => absurd z n1)))))⟩
/-- one turn of joinInto's loop -/
theorem lc_jst {post : St2 → Prop} {e : Int32} {n j : Nat} (hj : j < 4)
    (h1 : (¬ g = 0 ∨ ¬ a5 j ||| a9 j = a5 j) → wX_joinInto_2 post 0 e c s q n (nI (j + 1)) 1 a1 a2 a3 a4 (upd a5 j (a5 j ||| a9 j)) a6 a7 a8 a9 a10 a11)
    (h0 : g = 0 → a5 j ||| a9 j = a5 j → wX_joinInto_2 post 0 e c s q n (nI (j + 1)) 0 a1 a2 a3 a4 (upd a5 j (a5 j ||| a9 j)) a6 a7 a8 a9 a10 a11) :
    wX_joinInto_2 post 0 e c s q (n + 1) (nI j) g a1 a2 a3 a4 a5 a6 a7 a8 a9 a10 a11 := by
  have i96 : vp_in (4 * 0 + nI j) 96 := pk_in j 96 (by omega) (lc_40 _)
  have ec : (4 * 0 + nI j).toNatClampNeg = j := pk_cl j (lc_40 _)
  have ej : (nI j).toNatClampNeg = j := nI_clamp (by omega)
  have k1 : (¬ g = 0 ∨ ¬ a5 j ||| a9 j = a5 j) → wX_joinInto_49 post (wX_joinInto_2 post 0 e c s q n) 0 e (nI j) (a5 j ||| a9 j) c s g q a1 a2 a3 a4 a5 a6 a7 a8 a9 a10 a11 := fun z =>
    ⟨lc_nb1, lc_fb1, i96, nm_r (e' := upd a5 j (a5 j ||| a9 j)) (by rw [ec]) (nm_r (nI_1 j) (h1 z))⟩
  refine pk_le 4 j (fun z => absurd z (by omega)) (fun _ => ⟨i96, pk_in j 4 hj, nm_r (e' := a5 j ||| a9 j) (by rw [ec, ej]) ?_⟩)
  refine br_c (fun eg => ⟨i96, br_c (fun ee => ?_) (fun ne => ?_)⟩) (fun ng => k1 (Or.inl ng))
  · rw [ec] at ee
    exact ⟨lc_nb0, lc_fb0, i96, nm_r (e' := upd a5 j (a5 j ||| a9 j)) (by rw [ec]) (nm_r (nI_1 j) (h0 eg ee))⟩
  · rw [ec] at ne
    exact k1 (Or.inr ne)
/-- joinInto(0, e): all that is held is 'free', all owners may be empty -/
theorem lc_join {post : St2 → Prop} {e v : Int32} (hv : v ||| 16777216 = 16777216) (h5 : ∀ j, j < 4 → a5 j = v) (h9 : ∀ j, j < 4 → a9 j = 16777216) (h6 : a6 0 ||| e = 15)
    (H : ∀ (g' : Int32) (b : Nat → Int32), (∀ j, j < 4 → b j = 16777216) → (g = 0 → v = 16777216 → a6 0 = 15 → ¬ a4 0 = 0 → g' = 0) → post (c, s, g', q, a1, a2, a3, upd a4 0 1, b, upd a6 0 15, a7, a8, a9, a10, a11)) :
    wpX_joinInto post (c, s, g, q, a1, a2, a3, a4, a5, a6, a7, a8, a9, a10, a11) 0 e := by
  refine pk_loop (σ := Int32 × (Nat → Int32)) (fun n i t => wX_joinInto_2 post 0 e c s q n (nI i) t.1 a1 a2 a3 a4 t.2 a6 a7 a8 a9 a10 a11) (fun i t => (∀ j, j < i → t.2 j = 16777216) ∧ (∀ j, i ≤ j → j < 4 → t.2 j = v) ∧ (g = 0 → v = 16777216 → t.1 = 0)) 4 0 (g, a5) (by omega) ⟨fun j hj => absurd hj (by omega), fun j _ hj => h5 j hj, fun z _ => z⟩ ?_ ?_
  · rintro n ⟨t, b⟩ ⟨hb, _, ht⟩
    dsimp only at hb ht ⊢
    have k1 : ¬ (g = 0 ∧ v = 16777216 ∧ a6 0 = 15 ∧ ¬ a4 0 = 0) → wX_joinInto_111 post 0 15 c s t q a1 a2 a3 a4 b a6 a7 a8 a9 a10 a11 := fun z =>
      ⟨lc_nb1, lc_fb1, lc_i0, nm_r (e' := upd a6 0 15) rfl ⟨lc_i0, nm_r (e' := upd a4 0 1) rfl (H 1 b hb (fun z1 z2 z3 z4 => absurd ⟨z1, z2, z3, z4⟩ z))⟩⟩
    refine br_t (by decide) ⟨lc_i0, nm_r (e' := 15) h6 ?_⟩
    refine br_c (fun et => ⟨lc_i0, br_c (fun e6 => ⟨lc_i0, br_c (fun e4 => k1 (fun z => z.2.2.2 e4)) (fun n4 => ?_)⟩) (fun n6 => k1 (fun z => n6 z.2.2.1.symm))⟩) (fun nt => k1 (fun z => nt (ht z.1 z.2.1)))
    exact ⟨lc_nb0, lc_fb0, lc_i0, nm_r (e' := upd a6 0 15) rfl ⟨lc_i0, nm_r (e' := upd a4 0 1) rfl (H 0 b hb (fun _ _ _ _ => rfl))⟩⟩
  · rintro n i ⟨t, b⟩ hi ⟨hb, hr, ht⟩ hw
    dsimp only at hb hr ht hw ⊢
    have ev : b i ||| a9 i = 16777216 := by rw [hr i (by omega) hi, h9 i hi, hv]
    have hI : ∀ t' : Int32, (g = 0 → v = 16777216 → t' = 0) → (∀ j, j < i + 1 → upd b i (b i ||| a9 i) j = 16777216) ∧ (∀ j, i + 1 ≤ j → j < 4 → upd b i (b i ||| a9 i) j = v) ∧ (g = 0 → v = 16777216 → t' = 0) := by
      intro t' ht'
      refine ⟨fun j hj => ?_, fun j h1 h2 => ?_, ht'⟩
      · by_cases ej : j = i
        · rw [ej, pk_us, ev]
        · rw [pk_un ej]
          exact hb j (by omega)
      · rw [pk_un (by omega)]
        exact hr j (by omega) h2
    refine lc_jst hi (fun z => hw (1, _) (hI 1 (fun z1 z2 => ?_))) (fun z1 z2 => hw (0, _) (hI 0 (fun _ _ => rfl)))
    rcases z with z | z
    · exact absurd (ht z1 z2) z
    · rw [ev, hr i (by omega) hi] at z
      exact absurd z2.symm z
theorem lc_spr {post : St2 → Prop} (hF : lc_F (a1 0) (a2 0) (a3 0)) (h4 : a4 0 = 1) (h5 : ∀ j, j < 4 → a5 j = 16777216) (h6 : a6 0 = 15)
    (H : ∀ b4 b5 b6 b9 : Nat → Int32, b4 0 = 1 → (∀ j, j < 4 → b5 j = 16777216) → b6 0 = 15 → post (1, s, 0, q, a1, a2, a3, b4, b5, b6, a7, a8, b9, a10, a11)) :
    wpX_spreadFrom post (1, s, 0, q, a1, a2, a3, a4, a5, a6, a7, a8, a9, a10, a11) 0 := by
  unfold wpX_spreadFrom
  dsimp only
  refine lc_pass hF (fun b hb => ?_)
  dsimp only
  refine lc_emp (fun v hv => ?_)
  refine pk_loop (σ := (Nat → Int32) × (Nat → Int32) × (Nat → Int32)) (fun n i t => wX_spreadFrom_13 post 0 v n (nI i) 1 s 0 q a1 a2 a3 t.1 t.2.1 t.2.2 a7 a8 b a10 a11) (fun _ t => t.1 0 = 1 ∧ (∀ j, j < 4 → t.2.1 j = 16777216) ∧ t.2.2 0 = 15) 2 0 (a4, a5, a6) (by omega) ⟨h4, h5, h6⟩ ?_ ?_
  · rintro n ⟨t4, t5, t6⟩ ⟨i4, i5, i6⟩
    exact br_t (by decide) (H _ _ _ _ i4 i5 i6)
  · rintro n i ⟨t4, t5, t6⟩ hi ⟨i4, i5, i6⟩ hw
    dsimp only at i4 i5 i6 hw ⊢
    refine pk_le 2 i (fun z => absurd z (by omega)) (fun _ => ?_)
    refine lc_beh hF (br_t rfl (nm_r (nI_1 i) (hw (t4, t5, t6) ⟨i4, i5, i6⟩))) (fun z => br_f (by decide) ?_)
    refine lc_join (v := 16777216) (by decide) i5 (fun j hj => (hb z j hj).trans (h5 j hj)) (by rw [hv z, i6, h6]; decide) (fun g' b' hb' hg => ?_)
    have eg : g' = 0 := hg rfl rfl i6 (by rw [i4]; decide)
    subst eg
    exact nm_r (nI_1 i) (hw (upd t4 0 1, b', upd t6 0 15) ⟨rfl, hb', rfl⟩)
theorem lc_fh26 {post : St2 → Prop} {J : Int32 → (Nat → Int32) → (Nat → Int32) → (Nat → Int32) → (Nat → Int32) → (Nat → Int32) → (Nat → Int32) → (Nat → Int32) → (Nat → Int32) → (Nat → Int32) → (Nat → Int32) → (Nat → Int32) → Prop} (H : ∀ b : Nat → Int32, (∀ j, j < 4 → b j = 0) → J 1 a1 a2 a3 a4 b a6 a7 a8 a9 a10 a11) :
    ∃ n, wX_findHeld_26 post J 0 c s g q n 0 a1 a2 a3 a4 a5 a6 a7 a8 a9 a10 a11 := by
  refine pk_loop (fun n i t => wX_findHeld_26 post J 0 c s g q n (nI i) a1 a2 a3 a4 t a6 a7 a8 a9 a10 a11) (fun i t => ∀ j, j < i → t j = 0) 4 0 a5 (by omega) (fun j hj => absurd hj (by omega)) ?_ ?_
  · intro n t h
    exact br_t (by decide) (nm_r (e' := 1) (by decide) (H t h))
  · intro n i t hi h hw
    refine pk_le 4 i (fun z => absurd z (by omega)) (fun _ => ⟨pk_in i 96 (by omega) (lc_40 _), nm_r (e' := upd t i 0) (by rw [pk_cl i (lc_40 _)]) (nm_r (nI_1 i) (hw _ ?_))⟩)
    intro j hj
    by_cases ej : j = i
    · rw [ej, pk_us]
    · rw [pk_un ej]
      exact h j (by omega)
theorem lc_fh63 {post : St2 → Prop} (h5 : ∀ j, j < 4 → a5 j = 0) (h6 : a6 0 = 0) (H : ∀ b5 b9 : Nat → Int32, (∀ j, j < 4 → b5 j = 16777216) → ∃ n, wX_findHeld_96 post n 0 c s 1 q a1 a2 a3 (upd a4 0 1) b5 (upd a6 0 15) a7 a8 b9 a10 a11) :
    ∃ n, wX_findHeld_63 post c s g q n 0 a1 a2 a3 a4 a5 a6 a7 a8 a9 a10 a11 := by
  refine pk_loop (fun n i t => wX_findHeld_63 post c s g q n (nI i) a1 a2 a3 a4 a5 a6 a7 a8 t a10 a11) (fun i t => ∀ j, j < i → t j = 16777216) 4 0 a9 (by omega) (fun j hj => absurd hj (by omega)) ?_ ?_
  · intro n t h
    refine br_t (by decide) ?_
    exact lc_join (v := 0) (by decide) h5 h (by rw [h6]; decide) (fun g' b hb _ => H b t hb)
  · intro n i t hi h hw
    refine pk_le 4 i (fun z => absurd z (by omega)) (fun _ => ⟨pk_in i 4 (by omega), nm_r (e' := upd t i 16777216) (by rw [nI_clamp (by omega)]) (nm_r (nI_1 i) (hw _ ?_))⟩)
    intro j hj
    by_cases ej : j = i
    · rw [ej, pk_us]
    · rw [pk_un ej]
      exact h j (by omega)
theorem lc_fh96 {post : St2 → Prop} (hF : lc_F (a1 0) (a2 0) (a3 0)) (h4 : a4 0 = 1) (h5 : ∀ j, j < 4 → a5 j = 16777216) (h6 : a6 0 = 15)
    (H : ∀ b4 b5 b6 b9 : Nat → Int32, b4 0 = 1 → (∀ j, j < 4 → b5 j = 16777216) → b6 0 = 15 → post (1, s, 0, q, a1, a2, a3, b4, b5, b6, a7, a8, b9, a10, a11)) :
    ∃ n, wX_findHeld_96 post n 0 1 s 1 q a1 a2 a3 a4 a5 a6 a7 a8 a9 a10 a11 := by
  refine ⟨2, br_f (by decide) (br_f (by decide) ⟨2, br_f (by decide) ⟨lc_i0, br_f ?_ ?_⟩⟩)⟩
  · show ¬ a4 0 = 0
    rw [h4]
    decide
  · refine lc_spr hF h4 h5 h6 (fun b4 b5 b6 b9 i4 i5 i6 => ?_)
    exact nm_r (e' := 1) (by decide) (br_t (by decide) (nm_r (e' := 1) (by decide) (br_f (by decide) (br_t rfl (H b4 b5 b6 b9 i4 i5 i6)))))
theorem lc_fh {post : St2 → Prop} (hF : lc_F (a1 0) (a2 0) (a3 0))
    (H : ∀ b4 b5 b6 b9 : Nat → Int32, b4 0 = 1 → (∀ j, j < 4 → b5 j = 16777216) → b6 0 = 15 → post (1, s, 0, q, a1, a2, a3, b4, b5, b6, a7, a8, b9, a10, a11)) :
    wpX_findHeld post (1, s, g, q, a1, a2, a3, a4, a5, a6, a7, a8, a9, a10, a11) := by
  refine ⟨2, br_f (by decide) ⟨lc_i0, nm_r (e' := upd a4 0 0) rfl ⟨lc_i0, nm_r (e' := upd a6 0 0) rfl ?_⟩⟩⟩
  refine lc_fh26 (fun b hb => ?_)
  refine br_t (by decide) (br_f (by decide) ?_)
  exact lc_fh63 hb rfl (fun b5 b9 hb5 => lc_fh96 hF rfl hb5 rfl H)
theorem lc_fh0 {post : St2 → Prop} (H : post (0, s, 0, q, a1, a2, a3, a4, a5, a6, a7, a8, a9, a10, a11)) : wpX_findHeld post (0, s, g, q, a1, a2, a3, a4, a5, a6, a7, a8, a9, a10, a11) :=
  ⟨1, br_t (by decide) (br_t (by decide) ⟨2, br_f (by decide) (br_f (by decide) ⟨1, br_t (by decide) (nm_r (e' := 1) (by decide) (br_f (by decide) (br_t rfl H)))⟩)⟩)⟩
end
end
section
section
variable {c s g q : Int32} {a1 a2 a3 a4 a5 a6 a7 a8 a9 a10 a11 : Nat → Int32}
theorem lc_wb {post : Int32 → Prop} (hF : lc_F (a1 0) (a2 0) (a3 0)) (h7 : (a1 0).toInt = 9 ∨ (a1 0).toInt = 10 → a7 0 = 0) (H : post 0) : wpX_wantedBehind post (1, s, g, q, a1, a2, a3, a4, a5, a6, a7, a8, a9, a10, a11) 0 := by
  have h2 : wX_wantedBehind_4 post 0 1 s g q a1 a2 a3 a4 a5 a6 a7 a8 a9 a10 a11 1 0 2 := br_t (by decide) H
  have e0 : (a1 0).toInt = 9 ∨ (a1 0).toInt = 10 → (0 : Int32) ||| a7 0 = 0 := fun z => by rw [h7 z]; decide
  have h1 : wX_wantedBehind_4 post 0 1 s g q a1 a2 a3 a4 a5 a6 a7 a8 a9 a10 a11 2 0 1 :=
    br_f (by decide) (lc_beh hF (br_t rfl (nm_r (e' := 2) (by decide) h2)) (fun z => br_f (by decide) ⟨lc_i0, nm_r (e' := 0) (e0 z) (nm_r (e' := 2) (by decide) h2)⟩))
  exact ⟨3, br_f (by decide) (lc_beh hF (br_t rfl (nm_r (e' := 1) (by decide) h1)) (fun z => br_f (by decide) ⟨lc_i0, nm_r (e' := 0) (e0 z) (nm_r (e' := 1) (by decide) h1)⟩))⟩
theorem lc_wt {post : Int32 → Prop} (H : post (lc_v (a1 0) (a2 0))) : wpX_wantedThrough post (c, s, g, q, a1, a2, a3, a4, a5, a6, a7, a8, a9, a10, a11) 0 0 := by
  have H0 : (a1 0).toInt ≠ 7 → ∀ t : Int32, t = 0 → post t := fun z t e => by
    rw [lc_vn z] at H
    rw [e]
    exact H
  have h64 : ∀ k m : Int32, (a1 0).toInt ≠ 7 → wX_wantedThrough_64 post 0 0 k m c s g q a1 a2 a3 a4 a5 a6 a7 a8 a9 a10 a11 := fun k m z =>
    ⟨lc_i0, lc_i0, br_c (fun _ => H0 z _ rfl) (fun _ => ⟨lc_i0, nm_e (br_c (fun _ => br_t (lc_and0 _) (H0 z _ (by rw [lc_and0, lc_and0]))) (fun _ => br_t (lc_and0 _) (H0 z _ (lc_and0 _))))⟩)⟩
  refine ⟨lc_i0, nm_r (e' := a1 0) rfl ⟨lc_i0, nm_r (e' := (1 : Int32) <<< ((a2 0 &&& 3) &&& 31)) rfl ?_⟩⟩
  refine lc_be 3 (fun e => H0 (by omega) _ (lc_and0 _)) (fun _ => ?_)
  refine lc_be 4 (fun e => H0 (by omega) _ (lc_and0 _)) (fun _ => ?_)
  refine lc_be 8 (fun e => H0 (by omega) _ (lc_and0 _)) (fun _ => ?_)
  refine lc_be 7 (fun e => ?_) (fun n7 => ?_)
  · rw [lc_v7 e] at H
    exact H
  · exact lc_be 5 (fun e => h64 _ _ n7) (fun _ => lc_be 6 (fun e => h64 _ _ n7) (fun _ => H0 n7 _ rfl))
/-- one round of findWanted -/
theorem lc_fw63 {post : St2 → Prop} {J : Int32 → Int32 → (Nat → Int32) → (Nat → Int32) → (Nat → Int32) → (Nat → Int32) → (Nat → Int32) → (Nat → Int32) → (Nat → Int32) → (Nat → Int32) → (Nat → Int32) → (Nat → Int32) → (Nat → Int32) → Prop} {x1 : Int32} (hF : lc_F (a1 0) (a2 0) (a3 0)) (h7 : a7 0 = 0 ∨ a7 0 = lc_v (a1 0) (a2 0)) (h8 : a8 0 = 0)
    (H : ∀ g' : Int32, (a7 0 = lc_v (a1 0) (a2 0) → g' = 0) → J (x1 + 1) g' a1 a2 a3 a4 a5 a6 (upd a7 0 (lc_v (a1 0) (a2 0))) (upd a8 0 0) a9 a10 a11) :
    ∃ n, wX_findWanted_63 post J x1 1 s q n 0 0 a1 a2 a3 a4 a5 a6 a7 a8 a9 a10 a11 := by
  have h7' : (a1 0).toInt = 9 ∨ (a1 0).toInt = 10 → a7 0 = 0 := by
    intro z
    rcases h7 with h | h
    · exact h
    · rw [h]
      exact lc_vn (by omega)
  refine ⟨2, br_f (by decide) ?_⟩
  refine lc_wb hF h7' ?_
  refine lc_wt ?_
  refine br_t rfl ⟨lc_i0, br_c (fun e => ⟨lc_i0, br_t h8.symm ?_⟩) (fun ne => ?_)⟩
  · exact ⟨lc_nb0, lc_fb0, lc_i0, nm_r (e' := upd a8 0 0) rfl ⟨lc_i0, nm_r (e' := upd a7 0 (lc_v (a1 0) (a2 0))) rfl (nm_r (e' := -1) (by decide) (br_t (by decide) (nm_e (H 0 (fun _ => rfl)))))⟩⟩
  · exact ⟨lc_nb1, lc_fb1, lc_i0, nm_r (e' := upd a8 0 0) rfl ⟨lc_i0, nm_r (e' := upd a7 0 (lc_v (a1 0) (a2 0))) rfl (nm_r (e' := -1) (by decide) (br_t (by decide) (nm_e (H 1 (fun z => absurd z.symm ne)))))⟩⟩
theorem lc_fw {post : St2 → Prop} (hF : lc_F (a1 0) (a2 0) (a3 0)) (H : ∀ (g' : Int32) (b7 b8 : Nat → Int32), b8 0 = 0 → post (1, s, g', q, a1, a2, a3, a4, a5, a6, b7, b8, a9, a10, a11)) :
    wpX_findWanted post (1, s, g, q, a1, a2, a3, a4, a5, a6, a7, a8, a9, a10, a11) := by
  refine ⟨2, br_f (by decide) ⟨lc_i0, nm_r (e' := upd a7 0 0) rfl ⟨lc_i0, nm_r (e' := upd a8 0 0) rfl (nm_r (e' := 1) (by decide) (br_t (by decide) ?_))⟩⟩⟩
  refine ⟨3, br_f (by decide) (br_f (by decide) (nm_r (e' := 0) (by decide) ?_))⟩
  refine lc_fw63 hF (Or.inl rfl) rfl (fun g1 _ => ?_)
  refine br_f (by decide) (br_c (fun _ => H _ _ _ rfl) (fun _ => nm_r (e' := 0) (by decide) ?_))
  refine lc_fw63 hF (Or.inr rfl) rfl (fun g2 hg => ?_)
  exact br_f (by decide) (br_t (hg rfl) (H _ _ _ rfl))
theorem lc_fw0 {post : St2 → Prop} (H : post (0, s, 0, q, a1, a2, a3, a4, a5, a6, a7, a8, a9, a10, a11)) : wpX_findWanted post (0, s, g, q, a1, a2, a3, a4, a5, a6, a7, a8, a9, a10, a11) :=
  ⟨1, br_t (by decide) ⟨2, br_f (by decide) (br_f (by decide) (nm_r (e' := -1) (by decide) ⟨1, br_t (by decide) (nm_r (e' := 1) (by decide) (br_f (by decide) (br_t rfl H)))⟩))⟩⟩
/-- study in a program of one point, and of none -/
theorem lc_study {post : St2 → Prop} (hF : lc_F (a1 0) (a2 0) (a3 0)) (H : ∀ (g' : Int32) (b4 b5 b6 b7 b8 b9 : Nat → Int32), b4 0 = 1 → (∀ j, j < 4 → b5 j = 16777216) → b6 0 = 15 → b8 0 = 0 → post (1, 1, g', q, a1, a2, a3, b4, b5, b6, b7, b8, b9, a10, a11)) :
    wpX_study post (1, 0, g, q, a1, a2, a3, a4, a5, a6, a7, a8, a9, a10, a11) := by
  refine br_t rfl ?_
  refine lc_fh hF (fun b4 b5 b6 b9 i4 i5 i6 => ?_)
  dsimp only
  refine lc_fw hF (fun g' b7 b8 i8 => ?_)
  exact H g' b4 b5 b6 b7 b8 b9 i4 i5 i6 i8
theorem lc_study0 {post : St2 → Prop} (H : post (0, 1, 0, q, a1, a2, a3, a4, a5, a6, a7, a8, a9, a10, a11)) : wpX_study post (0, 0, g, q, a1, a2, a3, a4, a5, a6, a7, a8, a9, a10, a11) := by
  refine br_t rfl ?_
  refine lc_fh0 ?_
  dsimp only
  refine lc_fw0 ?_
  exact H
theorem lc_study1 {post : St2 → Prop} (H : post (c, 1, g, q, a1, a2, a3, a4, a5, a6, a7, a8, a9, a10, a11)) : wpX_study post (c, 1, g, q, a1, a2, a3, a4, a5, a6, a7, a8, a9, a10, a11) :=
  br_f (by decide) H
end
end
section
section
variable {c s g q : Int32} {a1 a2 a3 a4 a5 a6 a7 a8 a9 a10 a11 : Nat → Int32}
theorem lc_ml {post : Int32 → Prop} (h1 : (a1 0).toInt = 3 ∨ (a1 0).toInt = 4 → post 1) (h0 : (a1 0).toInt ≠ 3 → (a1 0).toInt ≠ 4 → post 0) : wpX_makesLoan post (c, s, g, q, a1, a2, a3, a4, a5, a6, a7, a8, a9, a10, a11) 0 :=
  ⟨lc_i0, lc_be (x := a1 0) 3 (fun e => h1 (Or.inl e)) (fun n3 => ⟨lc_i0, lc_be (x := a1 0) 4 (fun e => h1 (Or.inr e)) (fun n4 => h0 n3 n4)⟩)⟩
theorem lc_ow {post : Int32 → Prop} (h2 : (a1 0).toInt ≤ 2 → post (a2 0)) (h3 : (a1 0).toInt = 3 ∨ (a1 0).toInt = 4 → post (a3 0)) (hn : 5 ≤ (a1 0).toInt → post (-1)) : wpX_ownerOf post (c, s, g, q, a1, a2, a3, a4, a5, a6, a7, a8, a9, a10, a11) 0 :=
  ⟨lc_i0, lc_bg (x := a1 0) 2 (fun z => lc_ml (fun e => br_f (by decide) ⟨lc_i0, h3 e⟩) (fun n3 n4 => br_t rfl (hn (by omega)))) (fun z => ⟨lc_i0, h2 z⟩)⟩
theorem lc_uns {post : Int32 → Prop} (hF : lc_F (a1 0) (a2 0) (a3 0)) (h6 : a6 0 = 15) (h1 : 1 ≤ (a1 0).toInt ∧ (a1 0).toInt ≤ 4 → post 1) (h0 : ¬ (1 ≤ (a1 0).toInt ∧ (a1 0).toInt ≤ 4) → post 0) : wpX_isUnset post (c, s, g, q, a1, a2, a3, a4, a5, a6, a7, a8, a9, a10, a11) 0 := by
  unfold lc_F at hF
  have hb : ∀ r : Int32, 0 ≤ r.toInt → r.toInt ≤ 3 → ((a6 0 >>> (r &&& 31)) &&& 1) = 1 := fun r z w => by
    rw [h6]
    exact lc_bit r z w
  unfold wpX_isUnset
  dsimp only
  refine lc_ow (fun z => ?_) (fun z => ?_) (fun z => br_t rfl (h0 (by omega)))
  · refine lc_be (-1) (fun e => absurd e (by omega)) (fun _ => ⟨lc_i0, lc_be (x := a1 0) 0 (fun e => h0 (by omega)) (fun e => ⟨lc_i0, br_t (hb _ (by omega) (by omega)) (h1 (by omega))⟩)⟩)
  · refine lc_be (-1) (fun e => absurd e (by omega)) (fun _ => ⟨lc_i0, lc_be (x := a1 0) 0 (fun e => h0 (by omega)) (fun e => ⟨lc_i0, br_t (hb _ (by omega) (by omega)) (h1 (by omega))⟩)⟩)
theorem lc_h0 (h5 : ∀ j, j < 4 → a5 j = 16777216) {r : Int32} (h0 : 0 ≤ r.toInt) (h3 : r.toInt ≤ 3) : vp_in (4 * 0 + r) 96 ∧ a5 (4 * 0 + r).toNatClampNeg = 16777216 := by
  rw [lc_40]
  obtain ⟨j, hj, e⟩ := vp_in_of (x := r) (n := 4) (vp_in_iff.mpr (by omega)) (by omega)
  subst e
  rw [nI_clamp (by omega)]
  exact ⟨vp_in_nI (by omega) (by omega), h5 j hj⟩
theorem lc_idl {post : Int32 → Prop} (hF : lc_F (a1 0) (a2 0) (a3 0)) (h5 : ∀ j, j < 4 → a5 j = 16777216) (h1 : (a1 0).toInt = 7 → post 1) (h0 : (a1 0).toInt ≠ 7 → post 0) : wpX_isIdle post (c, s, g, q, a1, a2, a3, a4, a5, a6, a7, a8, a9, a10, a11) 0 := by
  unfold lc_F at hF
  refine ⟨lc_i0, lc_be (x := a1 0) 7 (fun e => ?_) (fun n => h0 n)⟩
  have k := lc_h0 h5 (r := a2 0) (by omega) (by omega)
  refine ⟨lc_i0, k.1, br_f ?_ (h1 e)⟩
  show ¬ (a5 (4 * 0 + a2 0).toNatClampNeg &&& 16777216) = 0
  rw [k.2]
  decide
/-- heldThrough(0) where nothing is wanted after the point -/
theorem lc_ht {post : Int32 → Prop} (h8 : a8 0 = 0) (hk : (a1 0).toInt ≠ 3) (hk4 : (a1 0).toInt ≠ 4) (H : post 0) : wpX_heldThrough post (c, s, g, q, a1, a2, a3, a4, a5, a6, a7, a8, a9, a10, a11) 0 := by
  have st : ∀ (n : Nat) (x x' : Int32), ¬ 4 ≤ x → x + 1 = x' → (((0 : Int32) >>> (x &&& 31)) &&& 1) = 0 → wX_heldThrough_4 post 0 c s g q a1 a2 a3 a4 a5 a6 a7 a8 a9 a10 a11 n 0 x' → wX_heldThrough_4 post 0 c s g q a1 a2 a3 a4 a5 a6 a7 a8 a9 a10 a11 (n + 1) 0 x := by
    intro n x x' hx ex hs hw
    refine br_f hx (lc_ml (fun e => absurd e (by omega)) (fun _ _ => br_t rfl (br_t rfl ⟨lc_i0, br_t ?_ (nm_r ex hw)⟩)))
    show ((a8 0 >>> (x &&& 31)) &&& 1) = 0
    rw [h8]
    exact hs
  refine ⟨5, st 4 0 1 (by decide) (by decide) (by decide) (st 3 1 2 (by decide) (by decide) (by decide) (st 2 2 3 (by decide) (by decide) (by decide) (st 1 3 4 (by decide) (by decide) (by decide) (br_t (by decide) ?_))))⟩
  rw [lc_and0]
  exact H
theorem lc_cfl {post : Int32 → Prop} (hF : lc_F (a1 0) (a2 0) (a3 0)) (h8 : a8 0 = 0) (hk : ¬ (1 ≤ (a1 0).toInt ∧ (a1 0).toInt ≤ 4)) (H : post 0) : wpX_conflictsAt post (1, s, g, q, a1, a2, a3, a4, a5, a6, a7, a8, a9, a10, a11) 0 := by
  unfold lc_F at hF
  have h24 : ∃ n, wX_conflictsAt_24 post 0 0 1 s g q a1 a2 a3 a4 a5 a6 a7 a8 a9 a10 a11 n 0 0 :=
    ⟨2, br_f (by decide) (br_f (by decide) (br_t rfl (nm_r (e' := 1) (by decide) (br_t (by decide) H))))⟩
  unfold wpX_conflictsAt
  dsimp only
  refine lc_ow (fun z => ?_) (fun z => absurd z (by omega)) (fun z => br_t rfl h24)
  refine lc_be (-1) (fun e => absurd e (by omega)) (fun _ => ?_)
  exact lc_ht h8 (by omega) (by omega) h24
theorem lc_flt {post : Int32 → Prop} (hF : lc_F (a1 0) (a2 0) (a3 0)) (h5 : ∀ j, j < 4 → a5 j = 16777216) (h6 : a6 0 = 15) (h8 : a8 0 = 0) (h1 : lc_ft (a1 0) → post 1) (h0 : ¬ lc_ft (a1 0) → post 0) : wpX_isFault post (1, s, g, q, a1, a2, a3, a4, a5, a6, a7, a8, a9, a10, a11) 0 := by
  unfold wpX_isFault
  dsimp only
  refine lc_uns hF h6 (fun z => br_f (by decide) (h1 (Or.inl z))) (fun n => br_t rfl ?_)
  refine lc_idl hF h5 (fun z => br_f (by decide) (h1 (Or.inr z))) (fun n7 => br_t rfl ?_)
  exact lc_cfl hF h8 n (br_t rfl (h0 (fun z => z.elim n n7)))
theorem lc_f8 {post : Int32 → St2 → Prop} (hF : lc_F (a1 0) (a2 0) (a3 0)) (h5 : ∀ j, j < 4 → a5 j = 16777216) (h6 : a6 0 = 15) (h8 : a8 0 = 0) (h1 : lc_ft (a1 0) → post 1 (1, s, g, q, a1, a2, a3, a4, a5, a6, a7, a8, a9, a10, a11)) (h0 : ¬ lc_ft (a1 0) → post 0 (1, s, g, q, a1, a2, a3, a4, a5, a6, a7, a8, a9, a10, a11)) :
    ∃ n, wX_faults_8 post 1 s g q a1 a2 a3 a4 a5 a6 a7 a8 a9 a10 a11 n 0 0 :=
  ⟨2, br_f (by decide) (lc_flt hF h5 h6 h8 (fun z => br_f (by decide) (nm_r (e' := 1) (by decide) (nm_r (e' := 1) (by decide) (br_t (by decide) (h1 z))))) (fun z => br_t rfl (nm_r (e' := 1) (by decide) (br_t (by decide) (h0 z)))))⟩
/-- faults: in a program of one point not yet studied, of one point studied, of none -/
theorem lc_fts {post : Int32 → St2 → Prop} (hF : lc_F (a1 0) (a2 0) (a3 0)) (h1 : lc_ft (a1 0) → ∀ g' b4 b5 b6 b7 b8 b9, post 1 (1, 1, g', q, a1, a2, a3, b4, b5, b6, b7, b8, b9, a10, a11)) (h0 : ¬ lc_ft (a1 0) → ∀ g' b4 b5 b6 b7 b8 b9, post 0 (1, 1, g', q, a1, a2, a3, b4, b5, b6, b7, b8, b9, a10, a11)) :
    wpX_faults post (1, 0, g, q, a1, a2, a3, a4, a5, a6, a7, a8, a9, a10, a11) := by
  unfold wpX_faults
  dsimp only
  refine lc_study hF (fun g' b4 b5 b6 b7 b8 b9 i4 i5 i6 i8 => ?_)
  exact lc_f8 hF i5 i6 i8 (fun z => h1 z _ _ _ _ _ _ _) (fun z => h0 z _ _ _ _ _ _ _)
theorem lc_fts1 {post : Int32 → St2 → Prop} (hF : lc_F (a1 0) (a2 0) (a3 0)) (h5 : ∀ j, j < 4 → a5 j = 16777216) (h6 : a6 0 = 15) (h8 : a8 0 = 0) (h1 : lc_ft (a1 0) → post 1 (1, 1, g, q, a1, a2, a3, a4, a5, a6, a7, a8, a9, a10, a11)) (h0 : ¬ lc_ft (a1 0) → post 0 (1, 1, g, q, a1, a2, a3, a4, a5, a6, a7, a8, a9, a10, a11)) :
    wpX_faults post (1, 1, g, q, a1, a2, a3, a4, a5, a6, a7, a8, a9, a10, a11) := by
  unfold wpX_faults
  dsimp only
  refine lc_study1 ?_
  exact lc_f8 hF h5 h6 h8 h1 h0
theorem lc_fts0 {post : Int32 → St2 → Prop} (H : post 0 (0, 1, 0, q, a1, a2, a3, a4, a5, a6, a7, a8, a9, a10, a11)) : wpX_faults post (0, 0, g, q, a1, a2, a3, a4, a5, a6, a7, a8, a9, a10, a11) := by
  unfold wpX_faults
  dsimp only
  refine lc_study0 ?_
  dsimp only
  exact ⟨1, br_t (by decide) H⟩
end
end
section
section
variable {post : Int32 → St0 → Prop} {mc ms kc ks : Nat} {k x y p r e6 e7 e8 e9 e10 e11 e12 : Int32}
/-- 'fits', as the law reckons it -/
theorem lc_126 {m z : Int32} (hk : 0 ≤ k.toInt ∧ k.toInt ≤ 11) (hm : (k.toInt = 9 ∨ k.toInt = 10) ∧ m = 24 ∨ ¬ (k.toInt = 9 ∨ k.toInt = 10) ∧ m = 3) (hz : (3 ≤ k.toInt ∧ k.toInt ≤ 6) ∧ z = 1 ∨ ¬ (3 ≤ k.toInt ∧ k.toInt ≤ 6) ∧ z = 0)
    (hA : lc_F k x y → wL_lawOf_163 post mc ms k p r e6 e7 e8 e9 e10 e11 e12 kc ks) (hB : ¬ lc_F k x y → wL_lawOf_167 post mc ms k p r e6 e7 e8 e9 e10 e11 e12 kc ks) :
    wL_lawOf_126 post mc ms k x y p r e6 e7 e8 e9 e10 e11 e12 1 m z kc ks := by
  unfold lc_F at hA hB
  refine br_f (by decide) (lc_be 11 (fun e => hA (by omega)) (fun e => lc_bl 0 (fun w => hB (by omega)) (fun w => ?_)))
  have fin : (k.toInt = 9 ∨ k.toInt = 10 → 0 ≤ x.toInt ∧ x.toInt ≤ 24) → (k.toInt ≤ 8 → 0 ≤ x.toInt ∧ x.toInt ≤ 3) → (z = 0 → wL_lawOf_163 post mc ms k p r e6 e7 e8 e9 e10 e11 e12 kc ks) ∧ (¬ z = 0 → ((y < 0 → wL_lawOf_167 post mc ms k p r e6 e7 e8 e9 e10 e11 e12 kc ks) ∧ (¬ y < 0 → ((3 < y → wL_lawOf_167 post mc ms k p r e6 e7 e8 e9 e10 e11 e12 kc ks) ∧ (¬ 3 < y → wL_lawOf_163 post mc ms k p r e6 e7 e8 e9 e10 e11 e12 kc ks))))) := by
    intro f1 f2
    rcases hz with ⟨hz, ez⟩ | ⟨hz, ez⟩
    · subst ez
      exact br_f (by decide) (lc_bl 0 (fun w => hB (by omega)) (fun w => lc_bg 3 (fun w2 => hB (by omega)) (fun w2 => hA (by omega))))
    · subst ez
      exact br_t rfl (hA (by omega))
  rcases hm with ⟨hm, em⟩ | ⟨hm, em⟩
  · subst em
    exact lc_bg 24 (fun w2 => hB (by omega)) (fun w2 => fin (by omega) (by omega))
  · subst em
    exact lc_bg 3 (fun w2 => hB (by omega)) (fun w2 => fin (by omega) (by omega))
theorem lc_tail (hA : lc_F k x y → wL_lawOf_163 post mc ms k p r e6 e7 e8 e9 e10 e11 e12 kc ks) (hB : ¬ lc_F k x y → wL_lawOf_167 post mc ms k p r e6 e7 e8 e9 e10 e11 e12 kc ks) :
    (k < 0 → wL_lawOf_87 post mc ms k x y p r e6 e7 e8 e9 e10 e11 e12 kc ks) ∧ (¬ k < 0 → ((11 < k → wL_lawOf_87 post mc ms k x y p r e6 e7 e8 e9 e10 e11 e12 kc ks) ∧ (¬ 11 < k → wL_lawOf_88 post mc ms k x y p r e6 e7 e8 e9 e10 e11 e12 1 kc ks))) := by
  have no : ¬ (0 ≤ k.toInt ∧ k.toInt ≤ 11) → wL_lawOf_87 post mc ms k x y p r e6 e7 e8 e9 e10 e11 e12 kc ks := by
    intro z
    have hB' := hB (fun F => z ⟨F.1, F.2.1⟩)
    have h126 : ∀ m w : Int32, wL_lawOf_126 post mc ms k x y p r e6 e7 e8 e9 e10 e11 e12 0 m w kc ks := fun m w => br_t rfl hB'
    have h108 : ∀ m : Int32, wL_lawOf_108 post mc ms k x y p r e6 e7 e8 e9 e10 e11 e12 0 m kc ks := fun m => br_c (fun _ => h126 _ _) (fun _ => br_c (fun _ => h126 _ _) (fun _ => h126 _ _))
    exact br_c (fun _ => h108 _) (fun _ => br_c (fun _ => h108 _) (fun _ => h108 _))
  refine lc_bl 0 (fun z => no (by omega)) (fun z => lc_bg 11 (fun w => no (by omega)) (fun w => ?_))
  have h108 : ∀ m : Int32, ((k.toInt = 9 ∨ k.toInt = 10) ∧ m = 24 ∨ ¬ (k.toInt = 9 ∨ k.toInt = 10) ∧ m = 3) → wL_lawOf_108 post mc ms k x y p r e6 e7 e8 e9 e10 e11 e12 1 m kc ks := fun m hm =>
    lc_bl 3 (fun a => lc_126 ⟨z, w⟩ hm (Or.inr ⟨by omega, rfl⟩) hA hB) (fun a => lc_bg 6 (fun b => lc_126 ⟨z, w⟩ hm (Or.inr ⟨by omega, rfl⟩) hA hB) (fun b => lc_126 ⟨z, w⟩ hm (Or.inl ⟨by omega, rfl⟩) hA hB))
  exact lc_be 9 (fun e => h108 24 (Or.inl ⟨Or.inl e, rfl⟩)) (fun n9 => lc_be 10 (fun e => h108 24 (Or.inl ⟨Or.inr e, rfl⟩)) (fun n10 => h108 3 (Or.inr ⟨by omega, rfl⟩)))
/-- the law's end where the part doesn't fit -/
theorem lc_no (H : post 1 ()) : wL_lawOf_167 post mc ms k p r (-1) 0 0 0 (-1) 0 (-1) kc ks := by
  have h202 : ∀ z : Int32, wL_lawOf_202 post mc ms k (-1) 0 0 0 (-1) 0 (-1) 0 0 z kc ks := fun z =>
    br_t rfl (br_t rfl (br_t rfl (br_t rfl (br_t rfl (br_t rfl (br_t rfl (br_t rfl (br_t rfl (br_t rfl (br_t rfl (br_t rfl (br_t rfl (br_t rfl H)))))))))))))
  exact br_t rfl (br_c (fun _ => h202 _) (fun _ => br_c (fun _ => h202 _) (fun _ => h202 _)))
theorem lc_202 {t z : Int32} (h1 : lc_ft k → wL_lawOf_230 post mc ms k e6 e7 e8 e9 e10 e11 e12 1 t z 1 kc ks) (h0 : ¬ lc_ft k → wL_lawOf_230 post mc ms k e6 e7 e8 e9 e10 e11 e12 1 t z 0 kc ks) : wL_lawOf_202 post mc ms k e6 e7 e8 e9 e10 e11 e12 1 t z kc ks := by
  unfold lc_ft at h1 h0
  have h219 : ¬ (1 ≤ k.toInt ∧ k.toInt ≤ 4) → wL_lawOf_219 post mc ms k e6 e7 e8 e9 e10 e11 e12 1 t z kc ks := fun w => lc_be 7 (fun e => h1 (by omega)) (fun e => h0 (by omega))
  exact br_f (by decide) (lc_bl 1 (fun w => h219 (by omega)) (fun w => lc_bm 4 (fun w2 => h1 (by omega)) (fun w2 => h219 (by omega))))
theorem lc_184 {t : Int32} (h1 : 0 ≤ r.toInt ∧ r.toInt < 4 → wL_lawOf_202 post mc ms k e6 e7 e8 e9 e10 e11 e12 1 t 1 kc ks) (h0 : r.toInt < 0 ∨ 4 ≤ r.toInt → wL_lawOf_202 post mc ms k e6 e7 e8 e9 e10 e11 e12 1 t 0 kc ks) : wL_lawOf_184 post mc ms k r e6 e7 e8 e9 e10 e11 e12 1 t kc ks :=
  lc_bl 0 (fun z => h0 (by omega)) (fun z => lc_bg 3 (fun w => h0 (by omega)) (fun w => h1 (by omega)))
/-- the law's end where the part fits and another point is asked -/
theorem lc_yesB {f : Int32} (hp : p.toInt ≠ 0) (hf : lc_ft k ∧ f = 1 ∨ ¬ lc_ft k ∧ f = 0) (H : post 1 ()) : wL_lawOf_163 post mc ms k p r 0 1 0 0 (-1) f (-1) kc ks := by
  have d : ¬ (1 : Int32) = 0 := by decide
  have h230 : ∀ z : Int32, wL_lawOf_230 post mc ms k 0 1 0 0 (-1) f (-1) 1 0 z f kc ks := by
    intro z
    rcases hf with ⟨_, e⟩ | ⟨_, e⟩
    · subst e
      exact br_f d (br_t rfl (br_f d (br_t rfl (br_t rfl (br_t rfl (br_t rfl (br_t rfl (br_t rfl (br_f d (br_t rfl (br_t rfl (br_t rfl H))))))))))))
    · subst e
      exact br_f d (br_t rfl (br_f d (br_t rfl (br_t rfl (br_t rfl (br_t rfl (br_t rfl (br_t rfl (br_t rfl (br_t rfl (br_t rfl (br_t rfl H))))))))))))
  have h202 : ∀ z : Int32, wL_lawOf_202 post mc ms k 0 1 0 0 (-1) f (-1) 1 0 z kc ks := by
    intro z
    rcases hf with ⟨hk, e⟩ | ⟨hk, e⟩
    · subst e
      exact lc_202 (fun _ => h230 z) (fun n => absurd hk n)
    · subst e
      exact lc_202 (fun n => absurd n hk) (fun _ => h230 z)
  exact br_f d (lc_be 0 (fun e => absurd e hp) (fun _ => lc_184 (fun _ => h202 1) (fun _ => h202 0)))
/-- the point itself is asked -/
theorem lc_yesD {f g h : Int32} (hp : p.toInt = 0) (hr : (0 ≤ r.toInt ∧ r.toInt < 4) ∧ g = 1 ∧ h = 0 ∨ (r.toInt < 0 ∨ 4 ≤ r.toInt) ∧ g = 0 ∧ h = -1) (hf : lc_ft k ∧ f = 1 ∨ ¬ lc_ft k ∧ f = 0) (H : post 1 ()) : wL_lawOf_163 post mc ms k p r 0 1 1 g h f k kc ks := by
  have d : ¬ (1 : Int32) = 0 := by decide
  have h321 : wL_lawOf_306 post mc ms k f k 1 f h h kc ks := by
    rcases hf with ⟨_, e⟩ | ⟨_, e⟩
    · subst e
      exact br_t rfl (br_f d (br_t rfl (br_f d (br_t rfl H))))
    · subst e
      exact br_t rfl (br_t rfl (br_t rfl (br_f d (br_t rfl H))))
  have hz : ∀ z : Int32, wL_lawOf_230 post mc ms k 0 1 1 g h f k 1 1 z f kc ks → wL_lawOf_202 post mc ms k 0 1 1 g h f k 1 1 z kc ks := by
    intro z h230
    rcases hf with ⟨hk, e⟩ | ⟨hk, e⟩
    · subst e
      exact lc_202 (fun _ => h230) (fun n => absurd hk n)
    · subst e
      exact lc_202 (fun n => absurd n hk) (fun _ => h230)
  refine br_f d (lc_be 0 (fun _ => lc_184 (fun w => hz 1 ?_) (fun w => hz 0 ?_)) (fun n => absurd hp n))
  · rcases hr with ⟨_, eg, eh⟩ | ⟨w2, _⟩
    · subst eg eh
      exact br_f d (br_t rfl (br_f d (br_t rfl (br_t rfl (br_f d (br_f d (br_t rfl (br_f d (br_f d h321)))))))))
    · exact absurd w2 (by omega)
  · rcases hr with ⟨w2, _⟩ | ⟨_, eg, eh⟩
    · exact absurd w2 (by omega)
    · subst eg eh
      exact br_f d (br_t rfl (br_f d (br_t rfl (br_t rfl (br_f d (br_t rfl (br_t rfl (br_f d (br_t rfl h321)))))))))
end
end
section
section
variable {c s g q : Int32} {a1 a2 a3 a4 a5 a6 a7 a8 a9 a10 a11 : Nat → Int32} {p r : Int32}
theorem lc_rchB {post : Int32 → St2 → Prop} (m : Int) (hc : c.toInt = m) (hp : p.toInt < 0 ∨ m ≤ p.toInt) (H : post 0 (c, s, g, q, a1, a2, a3, a4, a5, a6, a7, a8, a9, a10, a11)) : wpX_reached post (c, s, g, q, a1, a2, a3, a4, a5, a6, a7, a8, a9, a10, a11) p := by
  unfold wpX_reached
  dsimp only
  exact lc_bp m hc (fun _ => br_f (by decide) H) (fun z w => absurd hp (by omega))
theorem lc_freB {post : Int32 → St2 → Prop} (m : Int) (hc : c.toInt = m) (hp : (p.toInt < 0 ∨ m ≤ p.toInt) ∨ (r.toInt < 0 ∨ 4 ≤ r.toInt)) (H : post 0 (c, s, g, q, a1, a2, a3, a4, a5, a6, a7, a8, a9, a10, a11)) : wpX_free post (c, s, g, q, a1, a2, a3, a4, a5, a6, a7, a8, a9, a10, a11) p r := by
  unfold wpX_free
  dsimp only
  refine lc_bp m hc (fun _ => br_f (by decide) H) (fun z w => br_t rfl ?_)
  exact lc_br (fun _ => br_f (by decide) H) (fun z2 w2 => absurd hp (by omega))
theorem lc_hldB {post : Int32 → St2 → Prop} (m : Int) (hc : c.toInt = m) (hp : (p.toInt < 0 ∨ m ≤ p.toInt) ∨ (r.toInt < 0 ∨ 4 ≤ r.toInt)) (H : post (-1) (c, s, g, q, a1, a2, a3, a4, a5, a6, a7, a8, a9, a10, a11)) : wpX_holds post (c, s, g, q, a1, a2, a3, a4, a5, a6, a7, a8, a9, a10, a11) p r := by
  unfold wpX_holds
  dsimp only
  refine lc_bp m hc (fun _ => br_f (by decide) H) (fun z w => br_t rfl ?_)
  exact lc_br (fun _ => br_f (by decide) H) (fun z2 w2 => absurd hp (by omega))
theorem lc_rch {post : Int32 → St2 → Prop} (hF : lc_F (a1 0) (a2 0) (a3 0)) (H : ∀ (g' : Int32) (b4 b5 b6 b7 b8 b9 : Nat → Int32), (∀ j, j < 4 → b5 j = 16777216) → b6 0 = 15 → b8 0 = 0 → post 1 (1, 1, g', q, a1, a2, a3, b4, b5, b6, b7, b8, b9, a10, a11)) :
    wpX_reached post (1, 0, g, q, a1, a2, a3, a4, a5, a6, a7, a8, a9, a10, a11) 0 := by
  unfold wpX_reached
  dsimp only
  refine lc_bp 1 (by decide) (fun z => absurd z (by decide)) (fun _ _ => br_t rfl ?_)
  refine lc_study hF (fun g' b4 b5 b6 b7 b8 b9 i4 i5 i6 i8 => ?_)
  dsimp only
  have e : b4 (0 : Int32).toNatClampNeg = 1 := i4
  rw [e]
  exact ⟨lc_i0, lc_nb1, H g' b4 b5 b6 b7 b8 b9 i5 i6 i8⟩
theorem lc_fre {post : Int32 → St2 → Prop} (h5 : ∀ j, j < 4 → a5 j = 16777216) (hr : 0 ≤ r.toInt ∧ r.toInt < 4) (H : post 1 (1, 1, g, q, a1, a2, a3, a4, a5, a6, a7, a8, a9, a10, a11)) :
    wpX_free post (1, 1, g, q, a1, a2, a3, a4, a5, a6, a7, a8, a9, a10, a11) 0 r := by
  unfold wpX_free
  dsimp only
  refine lc_bp 1 (by decide) (fun z => absurd z (by decide)) (fun _ _ => br_t rfl ?_)
  refine lc_br (fun z => absurd z (by omega)) (fun z w => br_t rfl ?_)
  refine lc_study1 ?_
  have k := lc_h0 h5 (r := r) (by omega) (by omega)
  dsimp only
  rw [k.2]
  exact ⟨k.1, br_f (by decide) H⟩
theorem lc_hld {post : Int32 → St2 → Prop} (h5 : ∀ j, j < 4 → a5 j = 16777216) (hr : 0 ≤ r.toInt ∧ r.toInt < 4) (H : post 0 (1, 1, g, q, a1, a2, a3, a4, a5, a6, a7, a8, a9, a10, a11)) :
    wpX_holds post (1, 1, g, q, a1, a2, a3, a4, a5, a6, a7, a8, a9, a10, a11) 0 r := by
  unfold wpX_holds
  dsimp only
  refine lc_bp 1 (by decide) (fun z => absurd z (by decide)) (fun _ _ => br_t rfl ?_)
  refine lc_br (fun z => absurd z (by omega)) (fun z w => br_t rfl ?_)
  refine lc_study1 ?_
  have k := lc_h0 h5 (r := r) (by omega) (by omega)
  dsimp only
  rw [k.2, show (16777216 : Int32) &&& 16777215 = 0 by decide]
  exact ⟨k.1, H⟩
end
end
section
theorem lc_lawOf {post : Int32 → St0 → Prop} {k x y p r : Int32} (H : post 1 ()) : wpL_lawOf post 372 5952 () k x y p r := by
  unfold wpL_lawOf
  refine ⟨by omega, by omega, 11, 700, by omega, by omega, ?_⟩
  refine ⟨by omega, by omega, by omega, by omega, by omega, by omega, by omega, by omega, by omega, by omega, by omega, by omega, by omega, by omega, by omega, by omega, by omega, by omega, by omega, by omega, by omega, by omega, ?_⟩
  dsimp only
  refine lc_point (fun nF => ?_) (fun F => ?_)
  · dsimp only
    unfold wpX_points
    dsimp only
    refine lc_rchB 0 (by decide) (by omega) ?_
    dsimp only
    refine lc_freB 0 (by decide) (by omega) ?_
    dsimp only
    refine lc_hldB 0 (by decide) (by omega) ?_
    dsimp only
    refine lc_fts0 ?_
    dsimp only
    refine lc_chg 0 (by decide) (by omega) (fun _ u => ?_) (fun _ z => absurd z (by omega))
    obtain ⟨c, s, g, q, a1, a2, a3, a4, a5, a6, a7, a8, a9, a10, a11⟩ := u
    exact lc_tail (fun F => absurd F nF) (fun _ => lc_no H)
  · dsimp only
    unfold wpX_points
    dsimp only
    by_cases hp : p.toInt = 0
    · have ep : p = 0 := lc_0 hp
      subst ep
      refine lc_rch F (fun g' b4 b5 b6 b7 b8 b9 i5 i6 i8 => ?_)
      dsimp only
      have fin : ∀ f : Int32, (lc_ft k ∧ f = 1 ∨ ¬ lc_ft k ∧ f = 0) → ∀ gg hh : Int32, ((0 ≤ r.toInt ∧ r.toInt < 4) ∧ gg = 1 ∧ hh = 0 ∨ (r.toInt < 0 ∨ 4 ≤ r.toInt) ∧ gg = 0 ∧ hh = -1) → (k < 0 → wL_lawOf_87 post 372 5952 k x y 0 r 0 1 1 gg hh f k (1 + 11) (15 + 700)) ∧ (¬ k < 0 → ((11 < k → wL_lawOf_87 post 372 5952 k x y 0 r 0 1 1 gg hh f k (1 + 11) (15 + 700)) ∧ (¬ 11 < k → wL_lawOf_88 post 372 5952 k x y 0 r 0 1 1 gg hh f k 1 (1 + 11) (15 + 700)))) := fun f hf gg hh hr =>
        lc_tail (fun _ => lc_yesD hp hr hf H) (fun n => absurd F n)
      by_cases hr : 0 ≤ r.toInt ∧ r.toInt < 4
      · refine lc_fre i5 hr ?_
        dsimp only
        refine lc_hld i5 hr ?_
        dsimp only
        refine lc_fts1 F i5 i6 i8 (fun z => ?_) (fun z => ?_)
        · dsimp only
          refine lc_chg 1 (by decide) (by omega) (fun w => absurd w (by decide)) (fun _ _ u => ?_)
          obtain ⟨c, s, g, q, a1, a2, a3, a4, a5, a6, a7, a8, a9, a10, a11⟩ := u
          exact fin 1 (Or.inl ⟨z, rfl⟩) 1 0 (Or.inl ⟨hr, rfl, rfl⟩)
        · dsimp only
          refine lc_chg 1 (by decide) (by omega) (fun w => absurd w (by decide)) (fun _ _ u => ?_)
          obtain ⟨c, s, g, q, a1, a2, a3, a4, a5, a6, a7, a8, a9, a10, a11⟩ := u
          exact fin 0 (Or.inr ⟨z, rfl⟩) 1 0 (Or.inl ⟨hr, rfl, rfl⟩)
      · have hr' : r.toInt < 0 ∨ 4 ≤ r.toInt := by omega
        refine lc_freB 1 (by decide) (Or.inr hr') ?_
        dsimp only
        refine lc_hldB 1 (by decide) (Or.inr hr') ?_
        dsimp only
        refine lc_fts1 F i5 i6 i8 (fun z => ?_) (fun z => ?_)
        · dsimp only
          refine lc_chg 1 (by decide) (by omega) (fun w => absurd w (by decide)) (fun _ _ u => ?_)
          obtain ⟨c, s, g, q, a1, a2, a3, a4, a5, a6, a7, a8, a9, a10, a11⟩ := u
          exact fin 1 (Or.inl ⟨z, rfl⟩) 0 (-1) (Or.inr ⟨hr', rfl, rfl⟩)
        · dsimp only
          refine lc_chg 1 (by decide) (by omega) (fun w => absurd w (by decide)) (fun _ _ u => ?_)
          obtain ⟨c, s, g, q, a1, a2, a3, a4, a5, a6, a7, a8, a9, a10, a11⟩ := u
          exact fin 0 (Or.inr ⟨z, rfl⟩) 0 (-1) (Or.inr ⟨hr', rfl, rfl⟩)
    · have hp' : p.toInt < 0 ∨ 1 ≤ p.toInt := by omega
      refine lc_rchB 1 (by decide) hp' ?_
      dsimp only
      refine lc_freB 1 (by decide) (Or.inl hp') ?_
      dsimp only
      refine lc_hldB 1 (by decide) (Or.inl hp') ?_
      dsimp only
      refine lc_fts F (fun z g' b4 b5 b6 b7 b8 b9 => ?_) (fun z g' b4 b5 b6 b7 b8 b9 => ?_)
      · dsimp only
        refine lc_chg 1 (by decide) (by omega) (fun _ u => ?_) (fun w => absurd w hp)
        obtain ⟨c, s, g, q, a1, a2, a3, a4, a5, a6, a7, a8, a9, a10, a11⟩ := u
        exact lc_tail (fun _ => lc_yesB hp (Or.inl ⟨z, rfl⟩) H) (fun n => absurd F n)
      · dsimp only
        refine lc_chg 1 (by decide) (by omega) (fun _ u => ?_) (fun w => absurd w hp)
        obtain ⟨c, s, g, q, a1, a2, a3, a4, a5, a6, a7, a8, a9, a10, a11⟩ := u
        exact lc_tail (fun _ => lc_yesB hp (Or.inr ⟨z, rfl⟩) H) (fun n => absurd F n)
theorem lc_cell {post : Int32 → Prop} {xs : Nat → Int32} {L : Nat} (hL : L ≤ 5) (i : Nat) {e : Int32} (he : e = nI i) (hi : i < 5) (H : ∀ v, post v) : wpL_cellAt post L xs () e :=
  pk_le L i (fun _ => H 0) (fun z => ⟨pk_in i L z he, H _⟩) rfl he
theorem i_vc (xs : Nat → Int32) (L : Nat) (hL : L ≤ 5) : wpL_law (fun r => r = 1) L xs := by
  unfold wpL_law
  refine lc_cell hL 0 (by rfl) (by omega) (fun k => ?_)
  refine lc_cell hL 1 (by rfl) (by omega) (fun x => ?_)
  refine lc_cell hL 2 (by rfl) (by omega) (fun y => ?_)
  refine lc_cell hL 3 (by rfl) (by omega) (fun p => ?_)
  refine lc_cell hL 4 (by rfl) (by omega) (fun r => ?_)
  exact ⟨372, 5952, by omega, by omega, lc_lawOf rfl⟩
end
