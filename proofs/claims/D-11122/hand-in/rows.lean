section
section
variable {dr ph ru no th il en sc iw tm tl co wk fs wf ws : Int32} {a1 a2 a3 a4 a5 a6 a7 a8 a9 a10 a11 a12 a13 a14 a15 a16 a17 a18 a19 a20 a21 a22 a23 a24 a25 a26 a27 a28 a29 a30 a31 : Nat → Int32}
/-- the least cost of entry e: the helper 0, goal g the first rule's, goal h the two rules' -/
def tc_K (g h c d e : Nat) : Nat := if e = 4 then 0 else if e = g then c else if e = h then c + d else 1000000
theorem tc_K4 {g h c d : Nat} : tc_K g h c d 4 = 0 := by
  unfold tc_K
  rw [if_pos rfl]
theorem tc_Kg {g h c d : Nat} (hg : g < 4) : tc_K g h c d g = c := by
  unfold tc_K
  rw [if_neg (by omega), if_pos rfl]
theorem tc_Kh {g h c d : Nat} (hh : h < 4) (hn : h ≠ g) : tc_K g h c d h = c + d := by
  unfold tc_K
  rw [if_neg (by omega), if_neg hn, if_pos rfl]
theorem tc_Kn {g h c d e : Nat} (h4 : e ≠ 4) (hg : e ≠ g) (hh : e ≠ h) : tc_K g h c d e = 1000000 := by
  unfold tc_K
  rw [if_neg h4, if_neg hg, if_neg hh]
theorem tc_Kle {g h c d : Nat} (hc : c < 10) (hd : d < 10) (e : Nat) : tc_K g h c d e ≤ 1000000 := by
  unfold tc_K
  split
  · omega
  · split
    · omega
    · split <;> omega
theorem tc_Klt {g h c d e : Nat} (hc : c < 10) (hd : d < 10) (he : e = g ∨ e = h) : tc_K g h c d e < 1000000 := by
  unfold tc_K
  split
  · omega
  · split
    · omega
    · split <;> omega
theorem tc_fill {F s : Nat → Int32} {i k : Nat} {x : Int32} (hk : k = i) (h : ∀ j, j < i → s j = F j) (hx : x = F i) : ∀ j, j < i + 1 → upd s k x j = F j := by
  intro j hj
  rw [hk]
  by_cases e : j = i
  · rw [e, pk_us, hx]
  · rw [pk_un e]
    exact h j (by omega)
theorem tc_put {F s : Nat → Int32} {i k n : Nat} {x : Int32} (hk : k = i) (h : ∀ j, j < n → s j = F j) (hx : x = F i) : ∀ j, j < n → upd s k x j = F j := by
  intro j hj
  rw [hk]
  by_cases e : j = i
  · rw [e, pk_us, hx]
  · rw [pk_un e]
    exact h j hj
theorem tc_ar {a : Nat} (ha : a < 2) : nI a / 2 = 0 := by
  have h : a = 0 ∨ a = 1 := by omega
  rcases h with rfl | rfl <;> decide
theorem tc_neg {g : Nat} (hg : g < 4) : (-1 : Int32) - nI g < 0 ∧ (-1 : Int32) - ((-1) - nI g) = nI g := by
  have h : g = 0 ∨ g = 1 ∨ g = 2 ∨ g = 3 := by omega
  rcases h with rfl | rfl | rfl | rfl <;> decide
theorem tc_m1 {n : Nat} (h : n < 4) : ¬ nI n = -1 := by
  have h : n = 0 ∨ n = 1 ∨ n = 2 ∨ n = 3 := by omega
  rcases h with rfl | rfl | rfl | rfl <;> decide
/-- an index k * 0 + e -/
theorem tc_ix (k e : Nat) : nI k * 0 + nI e = nI e := by
  rw [← nI_0, pk_mul, nI_add]
  congr 1
  omega
theorem tc_ne {a b : Nat} (ha : a < 2 ^ 31) (hb : b < 2 ^ 31) (h : a ≠ b) : ¬ nI a = nI b := fun e => h ((nI_eq ha hb).mp e)
/-- what the rules and the tree hold -/
def tc_B (a g h c d : Nat) (a3 a4 a5 a6 a7 a8 a9 a10 a11 : Nat → Int32) : Prop :=
  (a < 2 ∧ g < 4 ∧ h < 4 ∧ c < 10 ∧ 0 < d ∧ d < 10) ∧ a3 0 = nI g ∧ a3 1 = nI h ∧ a4 0 = nI c ∧ a4 1 = nI d ∧ a5 0 = 1 ∧ a5 1 = 1 ∧ a6 0 = nI a ∧ a6 7 = -1 - nI g ∧ a7 0 = nI a ∧ a8 0 = -1 ∧ a9 0 = -1 ∧ a10 0 = 0 ∧ a11 0 = 0
/-- what the laid-out helpers and chains hold -/
def tc_L (a g : Nat) (a12 a13 a14 a15 : Nat → Int32) : Prop := a12 4 = nI a ∧ a13 4 = -1 ∧ a14 4 = -1 ∧ a15 0 = nI 4 ∧ a15 1 = nI g
/-- costs of the five entries -/
def tc_Q (g h c d : Nat) (t : Nat → Int32) : Prop := ∀ e, e < 5 → t e = nI (tc_K g h c d e)
/-- before the first label -/
def tc_P0 (a g h c d : Nat) (u : St2) : Prop := match u with
  | (dr, ph, ru, no, th, il, en, sc, iw, tm, tl, co, wk, fs, wf, ws, a1, a2, a3, a4, a5, a6, a7, a8, a9, a10, a11, a12, a13, a14, a15, a16, a17, a18, a19, a20, a21, a22, a23, a24, a25, a26, a27, a28, a29, a30, a31) => (ru = 2 ∧ th = 1 ∧ il = 0) ∧ tc_B a g h c d a3 a4 a5 a6 a7 a8 a9 a10 a11
/-- after a label -/
def tc_P (a g h c d : Nat) (u : St2) : Prop := match u with
  | (dr, ph, ru, no, th, il, en, sc, iw, tm, tl, co, wk, fs, wf, ws, a1, a2, a3, a4, a5, a6, a7, a8, a9, a10, a11, a12, a13, a14, a15, a16, a17, a18, a19, a20, a21, a22, a23, a24, a25, a26, a27, a28, a29, a30, a31) => (ru = 2 ∧ th = 1 ∧ il = 1 ∧ en = 5) ∧ tc_B a g h c d a3 a4 a5 a6 a7 a8 a9 a10 a11 ∧ tc_L a g a12 a13 a14 a15 ∧ (a18 a = 0 ∧ a19 a = 0 ∧ tc_Q g h c d a17) ∧ tc_Q g h c d a25
theorem tc_badGoal {post : Int32 → Prop} {u : St2} {g : Nat} (hg : g < 4) (hp : post 0) : wpX_badGoal post u (nI g) := by
  obtain ⟨dr, ph, ru, no, th, il, en, sc, iw, tm, tl, co, wk, fs, wf, ws, a1, a2, a3, a4, a5, a6, a7, a8, a9, a10, a11, a12, a13, a14, a15, a16, a17, a18, a19, a20, a21, a22, a23, a24, a25, a26, a27, a28, a29, a30, a31⟩ := u
  exact br_f (nI_pos (by omega)) (br_t (nI_lt (b := 4) hg (by decide)) hp)
theorem tc_badOp {post : Int32 → Prop} {u : St2} {a : Nat} (ha : a < 2) (hp : post 0) : wpX_badOperator post u (nI a) := by
  obtain ⟨dr, ph, ru, no, th, il, en, sc, iw, tm, tl, co, wk, fs, wf, ws, a1, a2, a3, a4, a5, a6, a7, a8, a9, a10, a11, a12, a13, a14, a15, a16, a17, a18, a19, a20, a21, a22, a23, a24, a25, a26, a27, a28, a29, a30, a31⟩ := u
  exact br_f (nI_pos (by omega)) (br_t (nI_lt (b := 6) (by omega) (by decide)) hp)
theorem tc_arity {post : Int32 → Prop} {u : St2} {a : Nat} (ha : a < 2) (hp : post 0) : wpX_arity post u (nI a) := by
  obtain ⟨dr, ph, ru, no, th, il, en, sc, iw, tm, tl, co, wk, fs, wf, ws, a1, a2, a3, a4, a5, a6, a7, a8, a9, a10, a11, a12, a13, a14, a15, a16, a17, a18, a19, a20, a21, a22, a23, a24, a25, a26, a27, a28, a29, a30, a31⟩ := u
  refine ⟨by decide, ?_⟩
  rw [tc_ar ha]
  exact hp
theorem tc_costOf {post : Int32 → Prop} {g h c d e : Nat} {p0 p1 : Int32} (hq : tc_Q g h c d a25) (he : e < 5) (h0 : p0 = 0) (h1 : p1 = nI e) (hp : post (nI (tc_K g h c d e))) : wpX_costOf post (dr, ph, ru, no, th, il, en, sc, iw, tm, tl, co, wk, fs, wf, ws, a1, a2, a3, a4, a5, a6, a7, a8, a9, a10, a11, a12, a13, a14, a15, a16, a17, a18, a19, a20, a21, a22, a23, a24, a25, a26, a27, a28, a29, a30, a31) p0 p1 := by
  subst h0
  subst h1
  have ex : (74 : Int32) * 0 + nI e = nI e := tc_ix 74 e
  refine ⟨pk_in e 1776 (by omega) ex, ?_⟩
  rw [ex, nI_clamp (by omega), hq e he]
  exact hp
end
end
section
section
variable {dr ph ru no th il en sc iw tm tl co wk fs wf ws : Int32} {a1 a2 a3 a4 a5 a6 a7 a8 a9 a10 a11 a12 a13 a14 a15 a16 a17 a18 a19 a20 a21 a22 a23 a24 a25 a26 a27 a28 a29 a30 a31 : Nat → Int32}
theorem tc_pattern {post : Int32 → St2 → Prop} {a : Nat} (ha : a < 2) (hp : post 1 (1, 1, ru, no, th, il, en, sc, iw, tm, tl, co, wk, fs, wf, ws, upd a1 0 (nI a), upd a2 0 0, a3, a4, a5, a6, a7, a8, a9, a10, a11, a12, a13, a14, a15, a16, a17, a18, a19, a20, a21, a22, a23, a24, a25, a26, a27, a28, a29, a30, a31)) : wpX_pattern post (0, 0, ru, no, th, il, en, sc, iw, tm, tl, co, wk, fs, wf, ws, a1, a2, a3, a4, a5, a6, a7, a8, a9, a10, a11, a12, a13, a14, a15, a16, a17, a18, a19, a20, a21, a22, a23, a24, a25, a26, a27, a28, a29, a30, a31) (nI a) := by
  unfold wpX_pattern
  refine tc_badOp ha (br_t rfl (tc_arity ha ?_))
  refine br_t (by decide) (br_f (by decide) (br_f (by decide) (br_t rfl ⟨pk_in 0 6 (by decide), nm_e ?_⟩)))
  exact nm_r (e' := (1 : Int32)) (by decide) ⟨pk_in 0 7 (by decide), nm_e (nm_r (e' := (1 : Int32)) (by decide) hp)⟩
theorem tc_goal {post : Int32 → St2 → Prop} {g : Nat} (hg : g < 4) (hp : post 1 (1, 1, ru, no, th, il, en, sc, iw, tm, tl, co, wk, fs, wf, ws, upd a1 0 ((-1) - nI g), upd a2 0 0, a3, a4, a5, a6, a7, a8, a9, a10, a11, a12, a13, a14, a15, a16, a17, a18, a19, a20, a21, a22, a23, a24, a25, a26, a27, a28, a29, a30, a31)) : wpX_goal post (0, 0, ru, no, th, il, en, sc, iw, tm, tl, co, wk, fs, wf, ws, a1, a2, a3, a4, a5, a6, a7, a8, a9, a10, a11, a12, a13, a14, a15, a16, a17, a18, a19, a20, a21, a22, a23, a24, a25, a26, a27, a28, a29, a30, a31) (nI g) := by
  unfold wpX_goal
  refine tc_badGoal hg (br_t rfl (br_f (by decide) (br_f (by decide) ⟨pk_in 0 6 (by decide), nm_e (nm_r (e' := (1 : Int32)) (by decide) ?_)⟩)))
  exact ⟨pk_in 0 7 (by decide), nm_e (nm_r (e' := (1 : Int32)) (by decide) hp)⟩
theorem tc_rule101 {post : Int32 → St2 → Prop} {r : Nat} (hr : r < 9) (hp : post (nI r) (0, 0, nI (r + 1), no, th, 0, en, sc, iw, tm, tl, co, wk, fs, wf, ws, a1, a2, a3, a4, a5, upd a6 (7 * r) (a1 0), a7, a8, a9, a10, a11, a12, a13, a14, a15, a16, a17, a18, a19, a20, a21, a22, a23, a24, a25, a26, a27, a28, a29, a30, a31)) : ∃ n, wX_rule_101 post 1 1 (nI r) no th il en sc iw tm tl co wk fs wf ws n 0 a1 a2 a3 a4 a5 a6 a7 a8 a9 a10 a11 a12 a13 a14 a15 a16 a17 a18 a19 a20 a21 a22 a23 a24 a25 a26 a27 a28 a29 a30 a31 := by
  have ex : (7 : Int32) * nI r + 0 = nI (7 * r) := by
    have h7 : (7 : Int32) * nI r + 0 = nI 7 * nI r + nI 0 := rfl
    rw [h7, pk_mul, nI_add]
    rfl
  have ex1 : (7 * r : Nat) < 2 ^ 31 := by omega
  have hp' : post (nI (r + 1) - 1) (0, 0, nI (r + 1), no, th, 0, en, sc, iw, tm, tl, co, wk, fs, wf, ws, a1, a2, a3, a4, a5, upd a6 (7 * r) (a1 0), a7, a8, a9, a10, a11, a12, a13, a14, a15, a16, a17, a18, a19, a20, a21, a22, a23, a24, a25, a26, a27, a28, a29, a30, a31) := by
    rw [nI_pred]
    exact hp
  refine ⟨0 + 1 + 1, br_f (by decide) ⟨pk_in 0 7 (by decide), pk_in (7 * r) 70 (by omega) ex, nm_r (e' := upd a6 (7 * r) (a1 0)) ?_ (nm_r (e' := (1 : Int32)) (by decide) (br_t (by decide) (nm_r (e' := nI (r + 1)) (nI_1 r) ?_)))⟩⟩
  · rw [ex, nI_clamp ex1]
    rfl
  · exact hp'
theorem tc_rule {post : Int32 → St2 → Prop} {g c r : Nat} (hg : g < 4) (hc : c < 10) (hr : r < 9) (h1 : c = 0 → 0 ≤ a1 0)
    (hp : post (nI r) (0, 0, nI (r + 1), no, th, 0, en, sc, iw, tm, tl, co, wk, fs, wf, ws, a1, a2, upd a3 r (nI g), upd a4 r (nI c), upd a5 r 1, upd a6 (7 * r) (a1 0), a7, a8, a9, a10, a11, a12, a13, a14, a15, a16, a17, a18, a19, a20, a21, a22, a23, a24, a25, a26, a27, a28, a29, a30, a31)) : wpX_rule post (1, 1, nI r, no, th, il, en, sc, iw, tm, tl, co, wk, fs, wf, ws, a1, a2, a3, a4, a5, a6, a7, a8, a9, a10, a11, a12, a13, a14, a15, a16, a17, a18, a19, a20, a21, a22, a23, a24, a25, a26, a27, a28, a29, a30, a31) (nI g) (nI c) := by
  have hr' : (nI r).toNatClampNeg = r := nI_clamp (by omega)
  have main : wX_rule_66 post (nI g) (nI c) 1 1 (nI r) no th il en sc iw tm tl co wk fs wf ws a1 a2 a3 a4 a5 a6 a7 a8 a9 a10 a11 a12 a13 a14 a15 a16 a17 a18 a19 a20 a21 a22 a23 a24 a25 a26 a27 a28 a29 a30 a31 := by
    refine ⟨pk_in r 10 (by omega), nm_r (e' := upd a3 r (nI g)) (by rw [hr']) ⟨pk_in r 10 (by omega), nm_r (e' := upd a4 r (nI c)) (by rw [hr']) ⟨pk_in r 10 (by omega), nm_r (e' := upd a5 r 1) (by rw [hr']) ?_⟩⟩⟩
    exact tc_rule101 hr hp
  unfold wpX_rule
  refine tc_badGoal hg (br_t rfl (br_f (nI_pos (by omega)) (br_t (nI_le (b := 9) (by omega) (by decide)) (br_t rfl (br_f (tc_ne (b := 10) (by omega) (by decide) (by omega)) (br_c (fun e => br_t (h1 ?_) main) (fun _ => main)))))))
  exact (nI_eq (b := 0) (by omega) (by decide)).mp e
theorem tc_tree {post : Int32 → St2 → Prop} {a : Nat} (ha : a < 2) (hp : post 1 (dr, ph, ru, 1, 1, il, en, sc, iw, tm, tl, co, wk, fs, wf, ws, a1, a2, a3, a4, a5, a6, upd a7 0 (nI a), upd a8 0 (-1), upd a9 0 (-1), upd a10 0 0, upd a11 0 0, a12, a13, a14, a15, a16, a17, a18, a19, a20, a21, a22, a23, a24, a25, a26, a27, a28, a29, a30, a31)) : wpX_tree post (dr, ph, ru, 0, 0, il, en, sc, iw, tm, tl, co, wk, fs, wf, ws, a1, a2, a3, a4, a5, a6, a7, a8, a9, a10, a11, a12, a13, a14, a15, a16, a17, a18, a19, a20, a21, a22, a23, a24, a25, a26, a27, a28, a29, a30, a31) (nI a) := by
  unfold wpX_tree
  refine tc_badOp ha (br_t rfl (tc_arity ha ?_))
  refine br_t (by decide) (br_f (by decide) (br_f (by decide) ⟨pk_in 0 24 (by decide), nm_e (br_t (by decide) ?_)⟩))
  refine ⟨pk_in 0 24 (by decide), nm_e (br_t (by decide) ?_)⟩
  refine ⟨pk_in 0 24 (by decide), nm_e (br_t rfl ⟨pk_in 0 8 (by decide), nm_e ?_⟩)⟩
  exact nm_r (e' := (1 : Int32)) (by decide) ⟨pk_in 0 8 (by decide), nm_e (nm_r (e' := (1 : Int32)) (by decide) hp)⟩
end
end
section
section
variable {dr ph ru no th il en sc iw tm tl co wk fs wf ws : Int32} {a1 a2 a3 a4 a5 a6 a7 a8 a9 a10 a11 a12 a13 a14 a15 a16 a17 a18 a19 a20 a21 a22 a23 a24 a25 a26 a27 a28 a29 a30 a31 : Nat → Int32}
theorem tc_layRule0 {post : St2 → Prop} {a : Nat} (ha : a < 2) (h5 : a5 0 = 1) (h6 : a6 0 = nI a)
    (hp : post (dr, ph, ru, no, th, il, 5, sc, iw, tm, tl, co, wk, fs, wf, ws, a1, a2, a3, a4, a5, a6, a7, a8, a9, a10, a11, upd a12 4 (nI a), upd a13 4 (-1), upd a14 4 (-1), upd a15 0 4, upd a16 0 4, a17, a18, a19, a20, a21, a22, a23, a24, a25, a26, a27, a28, a29, a30, a31)) : wpX_layRule post (dr, ph, ru, no, th, il, 4, sc, iw, tm, tl, co, wk, fs, wf, ws, a1, a2, a3, a4, a5, a6, a7, a8, a9, a10, a11, a12, a13, a14, a15, a16, a17, a18, a19, a20, a21, a22, a23, a24, a25, a26, a27, a28, a29, a30, a31) 0 := by
  refine ⟨0 + 1 + 1, ⟨pk_in 0 10 (by decide), pk_le 1 0 (fun z => absurd z (by decide)) (fun _ => ?_) (hx := h5)⟩⟩
  refine ⟨pk_in 0 70 (by decide), nm_r (e' := nI a) h6 (nm_e (br_f (nI_pos (by omega)) (tc_arity ha ?_)))⟩
  refine ⟨pk_in 4 74 (by decide), nm_e (br_t (by decide) ?_)⟩
  refine ⟨pk_in 4 74 (by decide), nm_e (br_t (by decide) ?_)⟩
  refine ⟨pk_in 4 74 (by decide), nm_e (nm_r (e' := (5 : Int32)) (by decide) (nm_r (e' := (0 : Int32)) (by decide) ?_))⟩
  refine ⟨pk_in 0 7 (by decide), nm_e (nm_r (e' := (1 : Int32)) (by decide) (nm_r (e' := (1 : Int32)) (by decide) ?_))⟩
  refine ⟨pk_in 0 10 (by decide), pk_le 1 1 (fun _ => ?_) (fun z => absurd z (by decide)) (hx := h5)⟩
  exact ⟨pk_in 0 10 (by decide), nm_r (e' := upd a15 0 4) rfl hp⟩
theorem tc_layRule1 {post : St2 → Prop} {g : Nat} (hg : g < 4) (h5 : a5 1 = 1) (h6 : a6 7 = -1 - nI g)
    (hp : post (dr, ph, ru, no, th, il, en, sc, iw, tm, tl, co, wk, fs, wf, ws, a1, a2, a3, a4, a5, a6, a7, a8, a9, a10, a11, a12, a13, a14, upd a15 1 (nI g), upd a16 0 (nI g), a17, a18, a19, a20, a21, a22, a23, a24, a25, a26, a27, a28, a29, a30, a31)) : wpX_layRule post (dr, ph, ru, no, th, il, en, sc, iw, tm, tl, co, wk, fs, wf, ws, a1, a2, a3, a4, a5, a6, a7, a8, a9, a10, a11, a12, a13, a14, a15, a16, a17, a18, a19, a20, a21, a22, a23, a24, a25, a26, a27, a28, a29, a30, a31) 1 := by
  refine ⟨0 + 1 + 1, ⟨pk_in 1 10 (by decide), pk_le 1 0 (fun z => absurd z (by decide)) (fun _ => ?_) (hx := h5)⟩⟩
  refine ⟨pk_in 7 70 (by decide), nm_r (e' := -1 - nI g) h6 (nm_r (e' := nI g) (tc_neg hg).2 (br_t (tc_neg hg).1 ?_))⟩
  refine ⟨pk_in 0 7 (by decide), nm_e (nm_r (e' := (1 : Int32)) (by decide) (nm_r (e' := (1 : Int32)) (by decide) ?_))⟩
  refine ⟨pk_in 1 10 (by decide), pk_le 1 1 (fun _ => ?_) (fun z => absurd z (by decide)) (hx := h5)⟩
  exact ⟨pk_in 1 10 (by decide), nm_r (e' := upd a15 1 (nI g)) rfl hp⟩
theorem tc_lay92 {post : St2 → Prop} (hp : ∀ (a22 : Nat → Int32), post (dr, ph, ru, no, th, 1, en, sc, iw, tm, tl, co, wk, fs, wf, ws, a1, a2, a3, a4, a5, a6, a7, a8, a9, a10, a11, a12, a13, a14, a15, a16, a17, a18, a19, a20, a21, a22, a23, a24, a25, a26, a27, a28, a29, a30, a31)) : ∃ n, wX_layOut_92 post dr ph ru no th il en sc iw tm tl co wk fs wf ws n 0 a1 a2 a3 a4 a5 a6 a7 a8 a9 a10 a11 a12 a13 a14 a15 a16 a17 a18 a19 a20 a21 a22 a23 a24 a25 a26 a27 a28 a29 a30 a31 :=
  pk_loop (fun n i s => wX_layOut_92 post dr ph ru no th il en sc iw tm tl co wk fs wf ws n (nI i) a1 a2 a3 a4 a5 a6 a7 a8 a9 a10 a11 a12 a13 a14 a15 a16 a17 a18 a19 a20 a21 s a23 a24 a25 a26 a27 a28 a29 a30 a31) (fun _ _ => True) 968 0 a22 (by omega) trivial
    (fun n s _ => pk_le 968 968 (fun _ => hp s) (fun z => absurd z (by omega)))
    (fun n i s hi _ hw => pk_le 968 i (fun z => absurd z (by omega)) (fun _ => ⟨pk_in i 968 hi, nm_e (nm_r (nI_1 i) (hw _ trivial))⟩))
theorem tc_lay71 {post : St2 → Prop} (hp : ∀ (a20 a22 : Nat → Int32), post (dr, ph, ru, no, th, 1, en, sc, iw, tm, tl, co, wk, fs, wf, ws, a1, a2, a3, a4, a5, a6, a7, a8, a9, a10, a11, a12, a13, a14, a15, a16, a17, a18, a19, a20, a21, a22, a23, a24, a25, a26, a27, a28, a29, a30, a31)) : ∃ n, wX_layOut_71 post dr ph ru no th il en sc iw tm tl co wk fs wf ws n 0 a1 a2 a3 a4 a5 a6 a7 a8 a9 a10 a11 a12 a13 a14 a15 a16 a17 a18 a19 a20 a21 a22 a23 a24 a25 a26 a27 a28 a29 a30 a31 :=
  pk_loop (fun n i s => wX_layOut_71 post dr ph ru no th il en sc iw tm tl co wk fs wf ws n (nI i) a1 a2 a3 a4 a5 a6 a7 a8 a9 a10 a11 a12 a13 a14 a15 a16 a17 a18 a19 s a21 a22 a23 a24 a25 a26 a27 a28 a29 a30 a31) (fun _ _ => True) 44 0 a20 (by omega) trivial
    (fun n s _ => pk_le 44 44 (fun _ => tc_lay92 (hp s)) (fun z => absurd z (by omega)))
    (fun n i s hi _ hw => pk_le 44 i (fun z => absurd z (by omega)) (fun _ => ⟨pk_in i 44 hi, nm_e (nm_r (nI_1 i) (hw _ trivial))⟩))
theorem tc_lay51 {post : St2 → Prop} (hp : ∀ (a18 a20 a22 : Nat → Int32), (∀ j, j < 2 → a18 j = -1) → post (dr, ph, ru, no, th, 1, en, sc, iw, tm, tl, co, wk, fs, wf, ws, a1, a2, a3, a4, a5, a6, a7, a8, a9, a10, a11, a12, a13, a14, a15, a16, a17, a18, a19, a20, a21, a22, a23, a24, a25, a26, a27, a28, a29, a30, a31)) : ∃ n, wX_layOut_51 post dr ph ru no th il en sc iw tm tl co wk fs wf ws n 0 a1 a2 a3 a4 a5 a6 a7 a8 a9 a10 a11 a12 a13 a14 a15 a16 a17 a18 a19 a20 a21 a22 a23 a24 a25 a26 a27 a28 a29 a30 a31 :=
  pk_loop (fun n i s => wX_layOut_51 post dr ph ru no th il en sc iw tm tl co wk fs wf ws n (nI i) a1 a2 a3 a4 a5 a6 a7 a8 a9 a10 a11 a12 a13 a14 a15 a16 a17 s a19 a20 a21 a22 a23 a24 a25 a26 a27 a28 a29 a30 a31) (fun i s => ∀ j, j < i → s j = -1) 2 0 a18 (by omega) (fun j hj => absurd hj (by omega))
    (fun n s h => pk_le 2 2 (fun _ => tc_lay71 (fun b c => hp s b c h)) (fun z => absurd z (by omega)))
    (fun n i s hi h hw => pk_le 2 i (fun z => absurd z (by omega)) (fun _ => ⟨pk_in i 2 hi, nm_e (nm_r (nI_1 i) (hw _ (tc_fill (F := fun _ => -1) (nI_clamp (by omega)) h rfl)))⟩))
theorem tc_layOut0 {post : St2 → Prop} {a g h c d : Nat} (hB : tc_B a g h c d a3 a4 a5 a6 a7 a8 a9 a10 a11)
    (hp : ∀ (a12 a13 a14 a15 a16 a18 a20 a22 : Nat → Int32), tc_L a g a12 a13 a14 a15 → (∀ j, j < 2 → a18 j = -1) → post (dr, ph, 2, no, th, 1, 5, 0, 0, 0, tl, co, wk, fs, wf, ws, a1, a2, a3, a4, a5, a6, a7, a8, a9, a10, a11, a12, a13, a14, a15, a16, a17, a18, a19, a20, a21, a22, a23, a24, a25, a26, a27, a28, a29, a30, a31)) : wpX_layOut post (dr, ph, 2, no, th, 0, en, sc, iw, tm, tl, co, wk, fs, wf, ws, a1, a2, a3, a4, a5, a6, a7, a8, a9, a10, a11, a12, a13, a14, a15, a16, a17, a18, a19, a20, a21, a22, a23, a24, a25, a26, a27, a28, a29, a30, a31) := by
  obtain ⟨⟨ha, hg, hh, hc, hd0, hd⟩, b30, b31, b40, b41, b50, b51, b60, b67, b7, b8, b9, b10, b11⟩ := hB
  refine br_t rfl ⟨0 + 1 + 1 + 1, br_f (by decide) (tc_layRule0 ha b50 b60 ?_)⟩
  refine nm_r (e' := (1 : Int32)) (by decide) (br_f (by decide) (tc_layRule1 hg b51 b67 ?_))
  refine nm_r (e' := (2 : Int32)) (by decide) (br_t (by decide) (tc_lay51 (fun s18 s20 s22 h18 => ?_)))
  exact hp _ _ _ _ _ s18 s20 s22 ⟨rfl, rfl, rfl, rfl, rfl⟩ h18
theorem tc_layOut1 {post : St2 → Prop} (hp : post (dr, ph, ru, no, th, 1, en, sc, iw, tm, tl, co, wk, fs, wf, ws, a1, a2, a3, a4, a5, a6, a7, a8, a9, a10, a11, a12, a13, a14, a15, a16, a17, a18, a19, a20, a21, a22, a23, a24, a25, a26, a27, a28, a29, a30, a31)) : wpX_layOut post (dr, ph, ru, no, th, 1, en, sc, iw, tm, tl, co, wk, fs, wf, ws, a1, a2, a3, a4, a5, a6, a7, a8, a9, a10, a11, a12, a13, a14, a15, a16, a17, a18, a19, a20, a21, a22, a23, a24, a25, a26, a27, a28, a29, a30, a31) := br_f (by decide) hp
end
end
section
section
variable {dr ph ru no th il en sc iw tm tl co wk fs wf ws : Int32} {a1 a2 a3 a4 a5 a6 a7 a8 a9 a10 a11 a12 a13 a14 a15 a16 a17 a18 a19 a20 a21 a22 a23 a24 a25 a26 a27 a28 a29 a30 a31 : Nat → Int32}
/-- a rule's chain step: the left's cost becomes the less of the two -/
theorem tc_ch48 {post : St2 → Prop} {J2 J9 : Int32 → (Nat → Int32) → (Nat → Int32) → (Nat → Int32) → (Nat → Int32) → (Nat → Int32) → (Nat → Int32) → (Nat → Int32) → (Nat → Int32) → (Nat → Int32) → (Nat → Int32) → (Nat → Int32) → (Nat → Int32) → (Nat → Int32) → (Nat → Int32) → (Nat → Int32) → (Nat → Int32) → (Nat → Int32) → (Nat → Int32) → (Nat → Int32) → (Nat → Int32) → (Nat → Int32) → (Nat → Int32) → (Nat → Int32) → (Nat → Int32) → (Nat → Int32) → (Nat → Int32) → (Nat → Int32) → (Nat → Int32) → (Nat → Int32) → (Nat → Int32) → (Nat → Int32) → Prop} {x1 z0 : Int32} {r l z v : Nat}
    (hr : r < 10) (h3 : a3 r = nI l) (hl : l < 4) (hz : z0 = nI z) (hz' : z < 2 ^ 31) (hv : a24 l = nI v) (hv' : v < 2 ^ 31) (hp : J9 (nI (r + 1)) a1 a2 a3 a4 a5 a6 a7 a8 a9 a10 a11 a12 a13 a14 a15 a16 a17 a18 a19 a20 a21 a22 a23 (upd a24 l (nI (min v z))) a25 a26 a27 a28 a29 a30 a31) : wX_useChains_48 post J2 J9 x1 (nI r) z0 dr ph ru no th il en sc iw tm tl co wk fs wf ws a1 a2 a3 a4 a5 a6 a7 a8 a9 a10 a11 a12 a13 a14 a15 a16 a17 a18 a19 a20 a21 a22 a23 a24 a25 a26 a27 a28 a29 a30 a31 := by
  have e3 : a3 (nI r).toNatClampNeg = nI l := by
    rw [nI_clamp (by omega)]
    exact h3
  have e4 : (a3 (nI r).toNatClampNeg).toNatClampNeg = l := by
    rw [e3]
    exact nI_clamp (by omega)
  have ev : a24 (a3 (nI r).toNatClampNeg).toNatClampNeg = nI v := by
    rw [e4]
    exact hv
  refine ⟨pk_in r 10 hr, pk_in r 10 hr, pk_in l 74 (by omega) e3, pk_le v z (fun q => ?_) (fun q => ?_) ev hz⟩
  · refine ⟨pk_in r 10 hr, pk_in l 74 (by omega) e3, pk_in l 74 (by omega) e3, nm_r (e' := upd a24 l (nI (min v z))) ?_ (nm_r (nI_1 r) hp)⟩
    rw [ev, e4, Nat.min_eq_left q]
  · refine ⟨pk_in l 74 (by omega) e3, nm_r (e' := upd a24 l (nI (min v z))) ?_ (nm_r (nI_1 r) hp)⟩
    rw [hz, e4, Nat.min_eq_right (by omega)]
/-- what the trial may hold between two rounds of the chains -/
def tc_C (g h c d : Nat) (t : Nat → Int32) : Prop := t 4 = nI 0 ∧ ∀ e, e < 4 → t e = nI 1000000 ∨ t e = nI (tc_K g h c d e)
theorem tc_CQ {g h c d : Nat} {t : Nat → Int32} (hq : tc_Q g h c d t) : tc_C g h c d t := ⟨by rw [hq 4 (by omega), tc_K4], fun e he => Or.inr (hq e (by omega))⟩
/-- one round of the chains, purely -/
theorem tc_round {g h c d : Nat} {t : Nat → Int32} (hg : g < 4) (hh : h < 4) (hc : c < 10) (hd0 : 0 < d) (hd : d < 10) (hC : tc_C g h c d t) :
    ∃ v w, v < 2 ^ 31 ∧ w < 2 ^ 31 ∧ t g = nI v ∧ min v c = c ∧ upd t g (nI c) h = nI w ∧ tc_Q g h c d (upd (upd t g (nI c)) h (nI (min w (c + d)))) := by
  obtain ⟨h4, hC⟩ := hC
  have hv : ∃ v, v < 2 ^ 31 ∧ t g = nI v ∧ min v c = c := by
    rcases hC g hg with e | e
    · exact ⟨1000000, by omega, e, by omega⟩
    · rw [tc_Kg hg] at e
      exact ⟨c, by omega, e, by omega⟩
  obtain ⟨v, v1, v2, v3⟩ := hv
  have hw : ∃ w, w < 2 ^ 31 ∧ upd t g (nI c) h = nI w ∧ min w (c + d) = tc_K g h c d h := by
    by_cases e : h = g
    · rw [e, pk_us, tc_Kg hg]
      exact ⟨c, by omega, rfl, by omega⟩
    · rw [pk_un e, tc_Kh hh e]
      rcases hC h hh with e' | e'
      · exact ⟨1000000, by omega, e', by omega⟩
      · rw [tc_Kh hh e] at e'
        exact ⟨c + d, by omega, e', by omega⟩
  obtain ⟨w, w1, w2, w3⟩ := hw
  refine ⟨v, w, v1, w1, v2, v3, w2, fun e he => ?_⟩
  rw [w3]
  by_cases eh : e = h
  · rw [eh, pk_us]
  · rw [pk_un eh]
    by_cases eg : e = g
    · rw [eg, pk_us, tc_Kg hg]
    · rw [pk_un eg]
      by_cases e4 : e = 4
      · rw [e4, h4, tc_K4]
      · rcases hC e (by omega) with q | q
        · rw [q, tc_Kn e4 eg eh]
        · exact q
theorem tc_pass {post : St2 → Prop} {J2 : Int32 → (Nat → Int32) → (Nat → Int32) → (Nat → Int32) → (Nat → Int32) → (Nat → Int32) → (Nat → Int32) → (Nat → Int32) → (Nat → Int32) → (Nat → Int32) → (Nat → Int32) → (Nat → Int32) → (Nat → Int32) → (Nat → Int32) → (Nat → Int32) → (Nat → Int32) → (Nat → Int32) → (Nat → Int32) → (Nat → Int32) → (Nat → Int32) → (Nat → Int32) → (Nat → Int32) → (Nat → Int32) → (Nat → Int32) → (Nat → Int32) → (Nat → Int32) → (Nat → Int32) → (Nat → Int32) → (Nat → Int32) → (Nat → Int32) → (Nat → Int32) → (Nat → Int32) → Prop} {a g h c d i : Nat}
    (hB : tc_B a g h c d a3 a4 a5 a6 a7 a8 a9 a10 a11) (hL : tc_L a g a12 a13 a14 a15) (hC : tc_C g h c d a24) (hp : ∀ (a24 : Nat → Int32), tc_Q g h c d a24 → J2 (nI (i + 1)) a1 a2 a3 a4 a5 a6 a7 a8 a9 a10 a11 a12 a13 a14 a15 a16 a17 a18 a19 a20 a21 a22 a23 a24 a25 a26 a27 a28 a29 a30 a31) : ∃ n, wX_useChains_9 post J2 (nI i) dr ph 2 no th il en sc iw tm tl co wk fs wf ws n 0 a1 a2 a3 a4 a5 a6 a7 a8 a9 a10 a11 a12 a13 a14 a15 a16 a17 a18 a19 a20 a21 a22 a23 a24 a25 a26 a27 a28 a29 a30 a31 := by
  obtain ⟨⟨ha, hg, hh, hc, hd0, hd⟩, b30, b31, b40, b41, b50, b51, b60, b67, b7, b8, b9, b10, b11⟩ := hB
  obtain ⟨l12, l13, l14, l150, l151⟩ := hL
  obtain ⟨v, w, v1, w1, v2, v3, w2, hq⟩ := tc_round hg hh hc hd0 hd hC
  have f0 : a24 (a15 (0 : Int32).toNatClampNeg).toNatClampNeg = nI 0 := by
    rw [show a15 (0 : Int32).toNatClampNeg = nI 4 from l150]
    exact hC.1
  have z0 : nI 0 + a4 (0 : Int32).toNatClampNeg = nI c := by
    rw [show a4 (0 : Int32).toNatClampNeg = nI c from b40, nI_add, Nat.zero_add]
  have f1 : (upd a24 g (nI c)) (a15 (1 : Int32).toNatClampNeg).toNatClampNeg = nI c := by
    rw [show a15 (1 : Int32).toNatClampNeg = nI g from l151, nI_clamp (by omega), pk_us]
  have z1 : nI c + a4 (1 : Int32).toNatClampNeg = nI (c + d) := by
    rw [show a4 (1 : Int32).toNatClampNeg = nI d from b41, nI_add]
  refine ⟨0 + 1 + 1 + 1, br_f (by decide) ⟨pk_in 0 10 (by decide), pk_in 4 74 (by decide) l150, nm_r f0 (br_t (by decide) ⟨pk_in 0 10 (by decide), ?_⟩)⟩⟩
  refine tc_ch48 (r := 0) (l := g) (z := c) (v := v) (by decide) b30 hg z0 (by omega) v2 v1 ?_
  rw [v3]
  refine br_f (by decide) ⟨pk_in 1 10 (by decide), pk_in g 74 (by omega) l151, nm_r f1 (br_t (nI_lt (b := 1000000) (by omega) (by decide)) ⟨pk_in 1 10 (by decide), ?_⟩)⟩
  refine tc_ch48 (r := 1) (l := h) (z := c + d) (v := w) (by decide) b31 hh z1 (by omega) w2 w1 ?_
  exact br_t (by decide) (nm_r (nI_1 i) (hp _ hq))
theorem tc_useChains {post : St2 → Prop} {a g h c d : Nat}
    (hB : tc_B a g h c d a3 a4 a5 a6 a7 a8 a9 a10 a11) (hL : tc_L a g a12 a13 a14 a15) (hC : tc_C g h c d a24) (hp : ∀ (a24 : Nat → Int32), tc_Q g h c d a24 → post (dr, ph, 2, no, th, il, en, sc, iw, tm, tl, co, wk, fs, wf, ws, a1, a2, a3, a4, a5, a6, a7, a8, a9, a10, a11, a12, a13, a14, a15, a16, a17, a18, a19, a20, a21, a22, a23, a24, a25, a26, a27, a28, a29, a30, a31)) : wpX_useChains post (dr, ph, 2, no, th, il, en, sc, iw, tm, tl, co, wk, fs, wf, ws, a1, a2, a3, a4, a5, a6, a7, a8, a9, a10, a11, a12, a13, a14, a15, a16, a17, a18, a19, a20, a21, a22, a23, a24, a25, a26, a27, a28, a29, a30, a31) := by
  have st : ∀ (n i : Nat) (t : Nat → Int32), i < 5 → tc_C g h c d t → (∀ t', tc_Q g h c d t' → wX_useChains_2 post dr ph 2 no th il en sc iw tm tl co wk fs wf ws n (nI (i + 1)) a1 a2 a3 a4 a5 a6 a7 a8 a9 a10 a11 a12 a13 a14 a15 a16 a17 a18 a19 a20 a21 a22 a23 t' a25 a26 a27 a28 a29 a30 a31) → wX_useChains_2 post dr ph 2 no th il en sc iw tm tl co wk fs wf ws (n + 1) (nI i) a1 a2 a3 a4 a5 a6 a7 a8 a9 a10 a11 a12 a13 a14 a15 a16 a17 a18 a19 a20 a21 a22 a23 t a25 a26 a27 a28 a29 a30 a31 := by
    intro n i t hi ht hw
    exact pk_le 5 i (fun z => absurd z (by omega)) (fun _ => tc_pass hB hL ht hw)
  refine ⟨0 + 1 + 1 + 1 + 1 + 1 + 1, ?_⟩
  refine st _ 0 a24 (by omega) hC (fun t1 h1 => st _ 1 t1 (by omega) (tc_CQ h1) (fun t2 h2 => st _ 2 t2 (by omega) (tc_CQ h2) (fun t3 h3 => st _ 3 t3 (by omega) (tc_CQ h3) (fun t4 h4 => st _ 4 t4 (by omega) (tc_CQ h4) (fun t5 h5 => ?_)))))
  exact br_t (by decide) (hp t5 h5)
theorem tc_helperCost {post : Int32 → Prop} {a : Nat} (ha : a < 2) (h12 : a12 4 = nI a) (hp : post 0) : wpX_helperCost post (dr, ph, ru, no, th, il, en, sc, iw, tm, tl, co, wk, fs, wf, ws, a1, a2, a3, a4, a5, a6, a7, a8, a9, a10, a11, a12, a13, a14, a15, a16, a17, a18, a19, a20, a21, a22, a23, a24, a25, a26, a27, a28, a29, a30, a31) 4 (nI a) := by
  refine ⟨pk_in 4 74 (by decide), br_t h12 (tc_arity ha ?_)⟩
  refine br_t (by decide) (br_t (by decide) (br_f (by decide) (br_t (by decide) ?_)))
  exact hp
theorem tc_tryOperator {post : St2 → Prop} {a g h c d : Nat}
    (hB : tc_B a g h c d a3 a4 a5 a6 a7 a8 a9 a10 a11) (hL : tc_L a g a12 a13 a14 a15) (hp : ∀ (a24 : Nat → Int32), tc_Q g h c d a24 → post (dr, ph, 2, no, th, il, 5, sc, iw, tm, tl, co, wk, fs, wf, ws, a1, a2, a3, a4, a5, a6, a7, a8, a9, a10, a11, a12, a13, a14, a15, a16, a17, a18, a19, a20, a21, a22, a23, a24, a25, a26, a27, a28, a29, a30, a31)) : wpX_tryOperator post (dr, ph, 2, no, th, il, 5, sc, iw, tm, tl, co, wk, fs, wf, ws, a1, a2, a3, a4, a5, a6, a7, a8, a9, a10, a11, a12, a13, a14, a15, a16, a17, a18, a19, a20, a21, a22, a23, a24, a25, a26, a27, a28, a29, a30, a31) (nI a) := by
  have ha : a < 2 := hB.1.1
  have lst : ∀ t : Nat → Int32, (∀ j, j < 4 → t j = nI 1000000) → ∃ n, wX_tryOperator_23 post (nI a) dr ph 2 no th il 5 sc iw tm tl co wk fs wf ws n 4 a1 a2 a3 a4 a5 a6 a7 a8 a9 a10 a11 a12 a13 a14 a15 a16 a17 a18 a19 a20 a21 a22 a23 t a25 a26 a27 a28 a29 a30 a31 := by
    intro t ht
    refine ⟨0 + 1 + 1, br_f (by decide) (tc_helperCost ha hL.1 ?_)⟩
    refine ⟨pk_in 4 74 (by decide), nm_r (e' := upd t 4 0) rfl (nm_r (e' := (5 : Int32)) (by decide) (br_t (by decide) ?_))⟩
    refine tc_useChains hB hL ⟨pk_us, fun e he => Or.inl ?_⟩ (fun t' ht' => hp t' ht')
    rw [pk_un (by omega)]
    exact ht e he
  exact pk_loop (fun n i s => wX_tryOperator_2 post (nI a) dr ph 2 no th il 5 sc iw tm tl co wk fs wf ws n (nI i) a1 a2 a3 a4 a5 a6 a7 a8 a9 a10 a11 a12 a13 a14 a15 a16 a17 a18 a19 a20 a21 a22 a23 s a25 a26 a27 a28 a29 a30 a31) (fun i s => ∀ j, j < i → s j = nI 1000000) 4 0 a24 (by omega) (fun j hj => absurd hj (by omega))
    (fun n s h => pk_le 4 4 (fun _ => lst s h) (fun z => absurd z (by omega)))
    (fun n i s hi h hw => pk_le 4 i (fun z => absurd z (by omega)) (fun _ => ⟨pk_in i 74 (by omega), nm_e (nm_r (nI_1 i) (hw _ (tc_fill (F := fun _ => nI 1000000) (nI_clamp (by omega)) h rfl)))⟩))
end
end
section
section
variable {dr ph ru no th il en sc iw tm tl co wk fs wf ws : Int32} {a1 a2 a3 a4 a5 a6 a7 a8 a9 a10 a11 a12 a13 a14 a15 a16 a17 a18 a19 a20 a21 a22 a23 a24 a25 a26 a27 a28 a29 a30 a31 : Nat → Int32}
theorem tc_low75 {post : St2 → Prop} {g h c d : Nat} (hc : c < 10) (hd : d < 10) (hq : tc_Q g h c d a24) (hp : ∀ (a24 : Nat → Int32), tc_Q g h c d a24 → post (dr, ph, ru, no, th, il, 5, sc, iw, tm, 0, co, wk, fs, wf, ws, a1, a2, a3, a4, a5, a6, a7, a8, a9, a10, a11, a12, a13, a14, a15, a16, a17, a18, a19, a20, a21, a22, a23, a24, a25, a26, a27, a28, a29, a30, a31)) : ∃ n, wX_lower_3_75 post dr ph ru no th il 5 sc iw tm 0 co wk fs wf ws n 0 a1 a2 a3 a4 a5 a6 a7 a8 a9 a10 a11 a12 a13 a14 a15 a16 a17 a18 a19 a20 a21 a22 a23 a24 a25 a26 a27 a28 a29 a30 a31 := by
  refine pk_loop (fun n i s => wX_lower_3_75 post dr ph ru no th il 5 sc iw tm 0 co wk fs wf ws n (nI i) a1 a2 a3 a4 a5 a6 a7 a8 a9 a10 a11 a12 a13 a14 a15 a16 a17 a18 a19 a20 a21 a22 a23 s a25 a26 a27 a28 a29 a30 a31) (fun _ s => tc_Q g h c d s) 5 0 a24 (by omega) hq ?_ ?_
  · intro n s h
    exact pk_le 5 5 (fun _ => hp s h) (fun z => absurd z (by omega))
  · intro n i s hi h' hw
    have hi' : (nI i).toNatClampNeg = i := nI_clamp (by omega)
    have hs : s (nI i).toNatClampNeg = nI (tc_K g h c d i) := by
      rw [hi']
      exact h' i hi
    have hk := tc_Kle (g := g) (h := h) hc hd i
    have hs0 : s (nI i).toNatClampNeg - 0 = nI (tc_K g h c d i) := by
      rw [hs, ← nI_0, pk_sub (by omega), Nat.sub_zero]
    refine pk_le 5 i (fun z => absurd z (by omega)) (fun _ => ⟨pk_in i 74 (by omega), pk_lt (tc_K g h c d i) 1000000 (fun _ => ?_) (fun z => ?_) hs⟩)
    · exact ⟨pk_in i 74 (by omega), pk_in i 74 (by omega), nm_e (nm_r (nI_1 i) (hw _ (tc_put (F := fun e => nI (tc_K g h c d e)) hi' h' hs0)))⟩
    · exact ⟨pk_in i 74 (by omega), nm_e (nm_r (nI_1 i) (hw _ (tc_put (F := fun e => nI (tc_K g h c d e)) hi' h' (show nI 1000000 = nI (tc_K g h c d i) by rw [show tc_K g h c d i = 1000000 by omega]))))⟩
theorem tc_lower {post : St2 → Prop} {g h c d : Nat} (hc : c < 10) (hd : d < 10) (hq : tc_Q g h c d a24) (hp : ∀ (a24 : Nat → Int32), tc_Q g h c d a24 → post (dr, ph, ru, no, th, il, 5, sc, iw, tm, 0, co, wk, fs, wf, ws, a1, a2, a3, a4, a5, a6, a7, a8, a9, a10, a11, a12, a13, a14, a15, a16, a17, a18, a19, a20, a21, a22, a23, a24, a25, a26, a27, a28, a29, a30, a31)) : wpX_lower_3 post (dr, ph, ru, no, th, il, 5, sc, iw, tm, tl, co, wk, fs, wf, ws, a1, a2, a3, a4, a5, a6, a7, a8, a9, a10, a11, a12, a13, a14, a15, a16, a17, a18, a19, a20, a21, a22, a23, a24, a25, a26, a27, a28, a29, a30, a31) := by
  refine pk_loop (fun n i (s : Nat) => wX_lower_3_8 post dr ph ru no th il 5 sc iw tm co wk fs wf ws a1 a2 a3 a4 a5 a6 a7 a8 a9 a10 a11 a12 a13 a14 a15 a16 a17 a18 a19 a20 a21 a22 a23 a24 a25 a26 a27 a28 a29 a30 a31 n (nI i) (nI s)) (fun i s => s ≤ 1000000 ∧ (i = 5 → s = 0)) 5 0 1000000 (by omega) ⟨by omega, fun z => absurd z (by omega)⟩ ?_ ?_
  · intro n s h
    have hs : s = 0 := h.2 rfl
    subst hs
    exact pk_le 5 5 (fun _ => br_f (by decide) (tc_low75 hc hd hq hp)) (fun z => absurd z (by omega))
  · intro n i s hi h' hw
    have hi' : (nI i).toNatClampNeg = i := nI_clamp (by omega)
    have hs : a24 (nI i).toNatClampNeg = nI (tc_K g h c d i) := by
      rw [hi']
      exact hq i hi
    have hk := tc_Kle (g := g) (h := h) hc hd i
    have h1 := h'.1
    have h4 : i = 4 → tc_K g h c d i = 0 := fun z => by rw [z, tc_K4]
    refine pk_le 5 i (fun z => absurd z (by omega)) (fun _ => ⟨pk_in i 74 (by omega), pk_le s (tc_K g h c d i) (fun z => ?_) (fun z => ?_) (hy := hs)⟩)
    · refine nm_r (nI_1 i) (hw s ⟨h1, fun y => ?_⟩)
      have := h4 (by omega)
      omega
    · refine ⟨pk_in i 74 (by omega), nm_r hs (nm_r (nI_1 i) (hw (tc_K g h c d i) ⟨hk, fun y => h4 (by omega)⟩))⟩
theorem tc_st51 {post : Int32 → St2 → Prop} {g h c d : Nat} (hq : tc_Q g h c d a24) (hp : ∀ (a17 : Nat → Int32), tc_Q g h c d a17 → post 0 (dr, ph, ru, no, th, il, 5, 1, iw, tm, tl, co, wk, fs, wf, ws, a1, a2, a3, a4, a5, a6, a7, a8, a9, a10, a11, a12, a13, a14, a15, a16, a17, a18, a19, a20, a21, a22, a23, a24, a25, a26, a27, a28, a29, a30, a31)) : ∃ n, wX_stateOfTrial_3_51 post dr ph ru no th il 5 0 iw tm tl co wk fs wf ws n 0 a1 a2 a3 a4 a5 a6 a7 a8 a9 a10 a11 a12 a13 a14 a15 a16 a17 a18 a19 a20 a21 a22 a23 a24 a25 a26 a27 a28 a29 a30 a31 := by
  refine pk_loop (fun n i s => wX_stateOfTrial_3_51 post dr ph ru no th il 5 0 iw tm tl co wk fs wf ws n (nI i) a1 a2 a3 a4 a5 a6 a7 a8 a9 a10 a11 a12 a13 a14 a15 a16 s a18 a19 a20 a21 a22 a23 a24 a25 a26 a27 a28 a29 a30 a31) (fun i s => ∀ j, j < i → s j = nI (tc_K g h c d j)) 5 0 a17 (by omega) (fun j hj => absurd hj (by omega)) ?_ ?_
  · intro n s h
    exact pk_le 5 5 (fun _ => nm_r (e' := (1 : Int32)) (by decide) (hp s h)) (fun z => absurd z (by omega))
  · intro n i s hi h' hw
    have hi' : (nI i).toNatClampNeg = i := nI_clamp (by omega)
    have hs : a24 (nI i).toNatClampNeg = nI (tc_K g h c d i) := by
      rw [hi']
      exact hq i hi
    have ex : (74 : Int32) * 0 + nI i = nI i := tc_ix 74 i
    have ex' : ((74 : Int32) * 0 + nI i).toNatClampNeg = i := by
      rw [ex]
      exact hi'
    exact pk_le 5 i (fun z => absurd z (by omega)) (fun _ => ⟨pk_in i 74 (by omega), pk_in i 1628 (by omega) ex, nm_e (nm_r (nI_1 i) (hw _ (tc_fill (F := fun e => nI (tc_K g h c d e)) ex' h' hs)))⟩)
theorem tc_stateOfTrial {post : Int32 → St2 → Prop} {g h c d : Nat} (hc : c < 10) (hd : d < 10) (hq : tc_Q g h c d a24) (hp : ∀ (a17 a24 : Nat → Int32), tc_Q g h c d a17 → post 0 (dr, ph, ru, no, th, il, 5, 1, iw, tm, 0, co, wk, fs, wf, ws, a1, a2, a3, a4, a5, a6, a7, a8, a9, a10, a11, a12, a13, a14, a15, a16, a17, a18, a19, a20, a21, a22, a23, a24, a25, a26, a27, a28, a29, a30, a31)) : wpX_stateOfTrial_3 post (dr, ph, ru, no, th, il, 5, 0, iw, tm, tl, co, wk, fs, wf, ws, a1, a2, a3, a4, a5, a6, a7, a8, a9, a10, a11, a12, a13, a14, a15, a16, a17, a18, a19, a20, a21, a22, a23, a24, a25, a26, a27, a28, a29, a30, a31) := by
  unfold wpX_stateOfTrial_3
  refine tc_lower hc hd hq (fun t ht => ⟨0 + 1, br_t (by decide) (br_f (by decide) ?_)⟩)
  exact tc_st51 ht (fun s hs => hp s t hs)
theorem tc_leafStep0 {post : Int32 → St2 → Prop} {a g h c d : Nat}
    (hB : tc_B a g h c d a3 a4 a5 a6 a7 a8 a9 a10 a11) (hL : tc_L a g a12 a13 a14 a15) (h18 : a18 a = -1)
    (hp : ∀ (sc tl fs wf ws : Int32) (a17 a18 a19 a24 : Nat → Int32), a18 a = 0 → a19 a = 0 → tc_Q g h c d a17 → post 0 (dr, ph, 2, no, th, il, 5, sc, iw, tm, tl, co, wk, fs, wf, ws, a1, a2, a3, a4, a5, a6, a7, a8, a9, a10, a11, a12, a13, a14, a15, a16, a17, a18, a19, a20, a21, a22, a23, a24, a25, a26, a27, a28, a29, a30, a31)) : wpX_leafStep post (dr, ph, 2, no, th, il, 5, 0, iw, tm, tl, co, wk, fs, wf, ws, a1, a2, a3, a4, a5, a6, a7, a8, a9, a10, a11, a12, a13, a14, a15, a16, a17, a18, a19, a20, a21, a22, a23, a24, a25, a26, a27, a28, a29, a30, a31) (nI a) := by
  have ha : a < 2 := hB.1.1
  have hc : c < 10 := hB.1.2.2.2.1
  have hd : d < 10 := hB.1.2.2.2.2.2
  have ea : (nI a).toNatClampNeg = a := nI_clamp (by omega)
  have e18 : a18 (nI a).toNatClampNeg = -1 := by
    rw [ea]
    exact h18
  refine ⟨pk_in a 2 ha, br_t e18 ⟨rfl, rfl, ?_⟩⟩
  refine tc_tryOperator hB hL (fun t ht => ?_)
  refine tc_stateOfTrial hc hd ht (fun s t' hs => ?_)
  refine ⟨pk_in a 2 ha, nm_r (e' := upd a18 a 0) (by rw [ea]) ⟨pk_in a 2 ha, nm_r (e' := upd a19 a 0) (by rw [ea]) ⟨pk_in a 2 ha, ?_⟩⟩⟩
  rw [ea, pk_us]
  exact hp _ _ _ _ _ _ _ _ _ pk_us pk_us hs
theorem tc_leafStep1 {post : Int32 → St2 → Prop} {a : Nat} (ha : a < 2) (h18 : a18 a = 0) (hp : post 0 (dr, ph, ru, no, th, il, en, sc, iw, tm, tl, co, wk, fs, wf, ws, a1, a2, a3, a4, a5, a6, a7, a8, a9, a10, a11, a12, a13, a14, a15, a16, a17, a18, a19, a20, a21, a22, a23, a24, a25, a26, a27, a28, a29, a30, a31)) : wpX_leafStep post (dr, ph, ru, no, th, il, en, sc, iw, tm, tl, co, wk, fs, wf, ws, a1, a2, a3, a4, a5, a6, a7, a8, a9, a10, a11, a12, a13, a14, a15, a16, a17, a18, a19, a20, a21, a22, a23, a24, a25, a26, a27, a28, a29, a30, a31) (nI a) := by
  have ea : (nI a).toNatClampNeg = a := nI_clamp (by omega)
  have e18 : a18 (nI a).toNatClampNeg = 0 := by
    rw [ea]
    exact h18
  refine ⟨pk_in a 2 ha, br_f (by rw [e18]; decide) ⟨pk_in a 2 ha, ?_⟩⟩
  rw [e18]
  exact hp
/-- costs of the node from its state -/
theorem tc_labelCosts {post : St2 → Prop} {g h c d : Nat} (hc : c < 10) (hd : d < 10) (hq : tc_Q g h c d a17) (h30 : a30 0 = 0) (h31 : a31 0 = 0)
    (hp : ∀ (a25 : Nat → Int32), tc_Q g h c d a25 → post (dr, ph, ru, no, th, il, 5, sc, iw, tm, tl, co, wk, fs, wf, ws, a1, a2, a3, a4, a5, a6, a7, a8, a9, a10, a11, a12, a13, a14, a15, a16, a17, a18, a19, a20, a21, a22, a23, a24, a25, a26, a27, a28, a29, a30, a31)) : wpX_labelCosts post (dr, ph, ru, no, th, il, 5, sc, iw, tm, tl, co, wk, fs, wf, ws, a1, a2, a3, a4, a5, a6, a7, a8, a9, a10, a11, a12, a13, a14, a15, a16, a17, a18, a19, a20, a21, a22, a23, a24, a25, a26, a27, a28, a29, a30, a31) 0 := by
  have e30 : a30 (0 : Int32).toNatClampNeg = 0 := h30
  have e31 : a31 (0 : Int32).toNatClampNeg = nI 0 := h31
  refine ⟨pk_in 0 24 (by decide), br_f (by rw [e30]; decide) ?_⟩
  refine pk_loop (fun n i s => wX_labelCosts_13 post 0 dr ph ru no th il 5 sc iw tm tl co wk fs wf ws n (nI i) a1 a2 a3 a4 a5 a6 a7 a8 a9 a10 a11 a12 a13 a14 a15 a16 a17 a18 a19 a20 a21 a22 a23 a24 s a26 a27 a28 a29 a30 a31) (fun i s => ∀ j, j < i → s j = nI (tc_K g h c d j)) 5 0 a25 (by omega) (fun j hj => absurd hj (by omega)) ?_ ?_
  · intro n s h
    exact pk_le 5 5 (fun _ => hp s h) (fun z => absurd z (by omega))
  · intro n i s hi h' hw
    have hi' : (nI i).toNatClampNeg = i := nI_clamp (by omega)
    have ex : (74 : Int32) * 0 + nI i = nI i := tc_ix 74 i
    have ex' : ((74 : Int32) * 0 + nI i).toNatClampNeg = i := by
      rw [ex]
      exact hi'
    have e1 : (74 : Int32) * (a30 (0 : Int32).toNatClampNeg) + nI i = nI i := by
      rw [e30]
      exact ex
    have hs : a17 ((74 : Int32) * (a30 (0 : Int32).toNatClampNeg) + nI i).toNatClampNeg = nI (tc_K g h c d i) := by
      rw [e1, hi']
      exact hq i hi
    have hk := tc_Kle (g := g) (h := h) hc hd i
    have hv : nI (tc_K g h c d i) + a31 (0 : Int32).toNatClampNeg = nI (tc_K g h c d i) := by
      rw [e31, nI_add, Nat.add_zero]
    refine pk_le 5 i (fun z => absurd z (by omega)) (fun _ => ⟨pk_in 0 24 (by decide), pk_in i 1628 (by omega) e1, nm_r hs (pk_lt (tc_K g h c d i) 1000000 (fun _ => ?_) (fun z => ?_))⟩)
    · exact ⟨pk_in 0 24 (by decide), pk_in i 1776 (by omega) ex, nm_e (nm_r (nI_1 i) (hw _ (tc_fill (F := fun e => nI (tc_K g h c d e)) ex' h' hv)))⟩
    · exact ⟨pk_in i 1776 (by omega) ex, nm_e (nm_r (nI_1 i) (hw _ (tc_fill (F := fun e => nI (tc_K g h c d e)) ex' h' (show nI 1000000 = nI (tc_K g h c d i) by rw [show tc_K g h c d i = 1000000 by omega]))))⟩
theorem tc_labelByTable0 {post : St2 → Prop} {a g h c d : Nat}
    (hB : tc_B a g h c d a3 a4 a5 a6 a7 a8 a9 a10 a11) (hL : tc_L a g a12 a13 a14 a15) (h18 : a18 a = -1)
    (hp : ∀ (sc tl fs wf ws : Int32) (a17 a18 a19 a24 a30 a31 : Nat → Int32), a18 a = 0 → a19 a = 0 → tc_Q g h c d a17 → a30 0 = 0 → a31 0 = 0 → post (dr, ph, 2, no, th, il, 5, sc, iw, tm, tl, co, wk, fs, wf, ws, a1, a2, a3, a4, a5, a6, a7, a8, a9, a10, a11, a12, a13, a14, a15, a16, a17, a18, a19, a20, a21, a22, a23, a24, a25, a26, a27, a28, a29, a30, a31)) : wpX_labelByTable post (dr, ph, 2, no, th, il, 5, 0, iw, tm, tl, co, wk, fs, wf, ws, a1, a2, a3, a4, a5, a6, a7, a8, a9, a10, a11, a12, a13, a14, a15, a16, a17, a18, a19, a20, a21, a22, a23, a24, a25, a26, a27, a28, a29, a30, a31) 0 := by
  have ha : a < 2 := hB.1.1
  have ea : (nI a).toNatClampNeg = a := nI_clamp (by omega)
  have B := hB
  obtain ⟨_, b30, b31, b40, b41, b50, b51, b60, b67, b7, b8, b9, b10, b11⟩ := B
  refine ⟨pk_in 0 24 (by decide), nm_r (e' := nI a) b7 ⟨pk_in 0 24 (by decide), nm_r (e' := (-1 : Int32)) b8 ⟨pk_in 0 24 (by decide), nm_r (e' := (-1 : Int32)) b9 (br_t rfl ?_)⟩⟩⟩
  refine tc_leafStep0 hB hL h18 (fun sc tl fs wf ws a17 a18 a19 a24 h18' h19' hq => ?_)
  refine ⟨pk_in 0 24 (by decide), nm_r (e' := upd a30 0 0) rfl ⟨pk_in a 2 ha, ⟨pk_in 0 24 (by decide), nm_r (e' := upd a31 0 (a19 a)) ?_ ?_⟩⟩⟩
  · show upd a31 0 (a19 (nI a).toNatClampNeg) = upd a31 0 (a19 a)
    rw [ea]
  · exact hp _ _ _ _ _ _ _ _ _ _ _ h18' h19' hq pk_us (by rw [pk_us]; exact h19')
theorem tc_labelByTable1 {post : St2 → Prop} {a g h c d : Nat}
    (hB : tc_B a g h c d a3 a4 a5 a6 a7 a8 a9 a10 a11) (h18 : a18 a = 0) (h19 : a19 a = 0)
    (hp : ∀ (a30 a31 : Nat → Int32), a30 0 = 0 → a31 0 = 0 → post (dr, ph, ru, no, th, il, en, sc, iw, tm, tl, co, wk, fs, wf, ws, a1, a2, a3, a4, a5, a6, a7, a8, a9, a10, a11, a12, a13, a14, a15, a16, a17, a18, a19, a20, a21, a22, a23, a24, a25, a26, a27, a28, a29, a30, a31)) : wpX_labelByTable post (dr, ph, ru, no, th, il, en, sc, iw, tm, tl, co, wk, fs, wf, ws, a1, a2, a3, a4, a5, a6, a7, a8, a9, a10, a11, a12, a13, a14, a15, a16, a17, a18, a19, a20, a21, a22, a23, a24, a25, a26, a27, a28, a29, a30, a31) 0 := by
  have ha : a < 2 := hB.1.1
  have ea : (nI a).toNatClampNeg = a := nI_clamp (by omega)
  obtain ⟨_, b30, b31, b40, b41, b50, b51, b60, b67, b7, b8, b9, b10, b11⟩ := hB
  refine ⟨pk_in 0 24 (by decide), nm_r (e' := nI a) b7 ⟨pk_in 0 24 (by decide), nm_r (e' := (-1 : Int32)) b8 ⟨pk_in 0 24 (by decide), nm_r (e' := (-1 : Int32)) b9 (br_t rfl ?_)⟩⟩⟩
  refine tc_leafStep1 ha h18 ?_
  refine ⟨pk_in 0 24 (by decide), nm_r (e' := upd a30 0 0) rfl ⟨pk_in a 2 ha, ⟨pk_in 0 24 (by decide), nm_r (e' := upd a31 0 (a19 a)) ?_ ?_⟩⟩⟩
  · show upd a31 0 (a19 (nI a).toNatClampNeg) = upd a31 0 (a19 a)
    rw [ea]
  · exact hp _ _ pk_us (by rw [pk_us]; exact h19)
theorem tc_labelTree0 {post : Int32 → St2 → Prop} {a g h c d : Nat} {u : St2} {p0 : Int32} (h0 : p0 = 0) (hP : tc_P0 a g h c d u) (hp : ∀ u', tc_P a g h c d u' → post 1 u') : wpX_labelTree post u p0 := by
  subst h0
  obtain ⟨dr, ph, ru, no, th, il, en, sc, iw, tm, tl, co, wk, fs, wf, ws, a1, a2, a3, a4, a5, a6, a7, a8, a9, a10, a11, a12, a13, a14, a15, a16, a17, a18, a19, a20, a21, a22, a23, a24, a25, a26, a27, a28, a29, a30, a31⟩ := u
  obtain ⟨⟨rfl, rfl, rfl⟩, hB⟩ := hP
  have hc : c < 10 := hB.1.2.2.2.1
  have hd : d < 10 := hB.1.2.2.2.2.2
  have ha : a < 2 := hB.1.1
  have B := hB
  obtain ⟨_, b30, b31, b40, b41, b50, b51, b60, b67, b7, b8, b9, b10, b11⟩ := B
  refine br_t (by decide) (tc_layOut0 hB (fun a12 a13 a14 a15 a16 a18 a20 a22 hL h18 => ?_))
  refine ⟨pk_in 0 8 (by decide), nm_r (e' := (0 : Int32)) b11 ⟨0 + 1 + 1, ⟨pk_in 0 8 (by decide), pk_lt 0 0 (fun z => absurd z (by decide)) (fun _ => ?_) (hx := b10)⟩⟩⟩
  refine tc_labelByTable0 hB hL (h18 a ha) (fun sc tl fs wf ws a17 a18 a19 a24 a30 a31 k18 k19 kq k30 k31 => ?_)
  refine tc_labelCosts hc hd kq k30 k31 (fun a25 k25 => ?_)
  refine nm_r (e' := (1 : Int32)) (by decide) ⟨pk_in 0 8 (by decide), pk_lt 0 1 (fun _ => ?_) (fun z => absurd z (by decide)) (hx := b10)⟩
  exact hp _ ⟨⟨rfl, rfl, rfl, rfl⟩, hB, hL, ⟨k18, k19, kq⟩, k25⟩
theorem tc_labelTree1 {post : Int32 → St2 → Prop} {a g h c d : Nat} {u : St2} {p0 : Int32} (h0 : p0 = 0) (hP : tc_P a g h c d u) (hp : ∀ u', tc_P a g h c d u' → post 1 u') : wpX_labelTree post u p0 := by
  subst h0
  obtain ⟨dr, ph, ru, no, th, il, en, sc, iw, tm, tl, co, wk, fs, wf, ws, a1, a2, a3, a4, a5, a6, a7, a8, a9, a10, a11, a12, a13, a14, a15, a16, a17, a18, a19, a20, a21, a22, a23, a24, a25, a26, a27, a28, a29, a30, a31⟩ := u
  obtain ⟨⟨rfl, rfl, rfl, rfl⟩, hB, hL, ⟨k18, k19, kq⟩, k25⟩ := hP
  have hc : c < 10 := hB.1.2.2.2.1
  have hd : d < 10 := hB.1.2.2.2.2.2
  have B := hB
  obtain ⟨_, b30, b31, b40, b41, b50, b51, b60, b67, b7, b8, b9, b10, b11⟩ := B
  refine br_t (by decide) (tc_layOut1 ?_)
  refine ⟨pk_in 0 8 (by decide), nm_r (e' := (0 : Int32)) b11 ⟨0 + 1 + 1, ⟨pk_in 0 8 (by decide), pk_lt 0 0 (fun z => absurd z (by decide)) (fun _ => ?_) (hx := b10)⟩⟩⟩
  refine tc_labelByTable1 hB k18 k19 (fun a30 a31 k30 k31 => ?_)
  refine tc_labelCosts hc hd kq k30 k31 (fun a25 k25 => ?_)
  refine nm_r (e' := (1 : Int32)) (by decide) ⟨pk_in 0 8 (by decide), pk_lt 0 1 (fun _ => ?_) (fun z => absurd z (by decide)) (hx := b10)⟩
  exact hp _ ⟨⟨rfl, rfl, rfl, rfl⟩, hB, hL, ⟨k18, k19, kq⟩, k25⟩
theorem tc_cost {post : Int32 → St2 → Prop} {a g h c d : Nat} {u : St2} (hP : tc_P0 a g h c d u) (hp : ∀ u', tc_P a g h c d u' → post (nI (tc_K g h c d h)) u') : wpX_cost post u (nI h) := by
  obtain ⟨dr, ph, ru, no, th, il, en, sc, iw, tm, tl, co, wk, fs, wf, ws, a1, a2, a3, a4, a5, a6, a7, a8, a9, a10, a11, a12, a13, a14, a15, a16, a17, a18, a19, a20, a21, a22, a23, a24, a25, a26, a27, a28, a29, a30, a31⟩ := u
  have hth : th = 1 := hP.1.2.1
  have hh : h < 4 := hP.2.1.2.2.1
  have hc : c < 10 := hP.2.1.2.2.2.1
  have hd : d < 10 := hP.2.1.2.2.2.2.2
  unfold wpX_cost
  refine tc_badGoal hh (br_t rfl (tc_labelTree0 (by rw [hth]; decide) hP (fun u' hP' => ?_)))
  obtain ⟨dr, ph, ru, no, th, il, en, sc, iw, tm, tl, co, wk, fs, wf, ws, a1, a2, a3, a4, a5, a6, a7, a8, a9, a10, a11, a12, a13, a14, a15, a16, a17, a18, a19, a20, a21, a22, a23, a24, a25, a26, a27, a28, a29, a30, a31⟩ := u'
  have hu := hp _ hP'
  obtain ⟨⟨rfl, rfl, rfl, rfl⟩, hB, hL, ⟨k18, k19, kq⟩, k25⟩ := hP'
  obtain ⟨_, b30, b31, b40, b41, b50, b51, b60, b67, b7, b8, b9, b10, b11⟩ := hB
  refine br_f (by decide) ⟨pk_in 0 8 (by decide), tc_costOf k25 (by omega) b10 rfl ?_⟩
  exact br_t (nI_lt (b := 1000000) (tc_Klt hc hd (Or.inr rfl)) (by decide)) hu
end
end
section
section
variable {dr ph ru no th il en sc iw tm tl co wk fs wf ws : Int32} {a1 a2 a3 a4 a5 a6 a7 a8 a9 a10 a11 a12 a13 a14 a15 a16 a17 a18 a19 a20 a21 a22 a23 a24 a25 a26 a27 a28 a29 a30 a31 : Nat → Int32}
/-- nextGoal from the start: after i places the best is g if it was there, else h, else none -/
def tc_b1 (g h i : Nat) : Int32 := if g < i then nI g else if h < i then nI h else -1
theorem tc_next1 {post : Int32 → Prop} {g h c d : Nat} (hg : g < 4) (hh : h < 4) (hc : c < 10) (hd0 : 0 < d) (hd : d < 10) (hq : tc_Q g h c d a25) (hp : post (nI g)) : wpX_nextGoal post (dr, ph, ru, no, th, il, en, sc, iw, tm, tl, co, wk, fs, wf, ws, a1, a2, a3, a4, a5, a6, a7, a8, a9, a10, a11, a12, a13, a14, a15, a16, a17, a18, a19, a20, a21, a22, a23, a24, a25, a26, a27, a28, a29, a30, a31) 0 (-1) := by
  have e0 : tc_b1 g h 0 = -1 := by
    unfold tc_b1
    rw [if_neg (by omega), if_neg (by omega)]
  suffices main : ∃ n, wX_nextGoal_5 post 0 (-1) dr ph ru no th il en sc iw tm tl co wk fs wf ws a1 a2 a3 a4 a5 a6 a7 a8 a9 a10 a11 a12 a13 a14 a15 a16 a17 a18 a19 a20 a21 a22 a23 a24 a25 a26 a27 a28 a29 a30 a31 n (tc_b1 g h 0) (nI 0) by
    rw [e0] at main
    exact main
  refine pk_loop (fun n i (_ : Unit) => wX_nextGoal_5 post 0 (-1) dr ph ru no th il en sc iw tm tl co wk fs wf ws a1 a2 a3 a4 a5 a6 a7 a8 a9 a10 a11 a12 a13 a14 a15 a16 a17 a18 a19 a20 a21 a22 a23 a24 a25 a26 a27 a28 a29 a30 a31 n (tc_b1 g h i) (nI i)) (fun _ _ => True) 4 0 () (by omega) trivial ?_ ?_
  · intro n _ _
    refine pk_le 4 4 (fun _ => ?_) (fun z => absurd z (by omega))
    unfold tc_b1
    rw [if_pos hg]
    exact hp
  · intro n i _ hi _ hw
    have hw := hw () trivial
    have hk := tc_Kle (g := g) (h := h) hc hd i
    refine pk_le 4 i (fun z => absurd z (by omega)) (fun _ => tc_costOf hq (by omega) rfl rfl (br_t rfl ?_))
    refine pk_le 1000000 (tc_K g h c d i) (fun z => nm_r (nI_1 i) ?_) (fun z => br_f (by decide) ?_)
    · have n1 : i ≠ g := fun e => absurd (tc_Klt (g := g) (h := h) hc hd (Or.inl e)) (by omega)
      have n2 : i ≠ h := fun e => absurd (tc_Klt (g := g) (h := h) hc hd (Or.inr e)) (by omega)
      have e : tc_b1 g h (i + 1) = tc_b1 g h i := by
        unfold tc_b1
        exact ite_congr (propext (by omega)) (fun _ => rfl) (fun _ => ite_congr (propext (by omega)) (fun _ => rfl) (fun _ => rfl))
      rw [e] at hw
      exact hw
    · have n1 : i = g ∨ i = h := by
        by_cases e1 : i = g
        · exact Or.inl e1
        · by_cases e2 : i = h
          · exact Or.inr e2
          · rw [tc_Kn (by omega) e1 e2] at z
            exact absurd z (by omega)
      by_cases q1 : g < i
      · -- g is the best already; i is h
        have e0 : tc_b1 g h i = nI g := by
          unfold tc_b1
          rw [if_pos q1]
        have e1 : tc_b1 g h (i + 1) = nI g := by
          unfold tc_b1
          rw [if_pos (by omega)]
        have ei : i = h := by omega
        rw [e1] at hw
        rw [e0]
        refine br_f (tc_m1 hg) (tc_costOf hq (by omega) rfl rfl ?_)
        have ek : tc_K g h c d i = c + d := by
          rw [ei]
          exact tc_Kh hh (by omega)
        rw [ek, tc_Kg hg]
        exact pk_le c (c + d) (fun _ => nm_r (nI_1 i) hw) (fun y => absurd y (by omega))
      · by_cases q2 : h < i
        · have e0 : tc_b1 g h i = nI h := by
            unfold tc_b1
            rw [if_neg q1, if_pos q2]
          have ei : i = g := by omega
          have e1 : tc_b1 g h (i + 1) = nI i := by
            unfold tc_b1
            rw [if_pos (by omega), ei]
          rw [e1] at hw
          rw [e0]
          refine br_f (tc_m1 hh) (tc_costOf hq (by omega) rfl rfl ?_)
          have ek : tc_K g h c d i = c := by
            rw [ei]
            exact tc_Kg hg
          rw [ek, tc_Kh hh (by omega)]
          exact pk_le (c + d) c (fun y => absurd y (by omega)) (fun _ => nm_r (nI_1 i) hw)
        · have e0 : tc_b1 g h i = -1 := by
            unfold tc_b1
            rw [if_neg q1, if_neg q2]
          have e1 : tc_b1 g h (i + 1) = nI i := by
            unfold tc_b1
            by_cases y : i = g
            · rw [if_pos (by omega), y]
            · rw [if_neg (by omega), if_pos (by omega), show h = i by omega]
          rw [e1] at hw
          rw [e0]
          exact br_t rfl (nm_r (nI_1 i) hw)
/-- nextGoal behind g: h if it is another goal, else none -/
def tc_b2 (g h i : Nat) : Int32 := if h ≠ g ∧ h < i then nI h else -1
theorem tc_next2 {post : Int32 → Prop} {g h c d : Nat} (hg : g < 4) (hh : h < 4) (hc : c < 10) (hd0 : 0 < d) (hd : d < 10) (hq : tc_Q g h c d a25) (hp : post (tc_b2 g h 4)) : wpX_nextGoal post (dr, ph, ru, no, th, il, en, sc, iw, tm, tl, co, wk, fs, wf, ws, a1, a2, a3, a4, a5, a6, a7, a8, a9, a10, a11, a12, a13, a14, a15, a16, a17, a18, a19, a20, a21, a22, a23, a24, a25, a26, a27, a28, a29, a30, a31) 0 (nI g) := by
  have e0 : tc_b2 g h 0 = -1 := by
    unfold tc_b2
    rw [if_neg (by omega)]
  suffices main : ∃ n, wX_nextGoal_5 post 0 (nI g) dr ph ru no th il en sc iw tm tl co wk fs wf ws a1 a2 a3 a4 a5 a6 a7 a8 a9 a10 a11 a12 a13 a14 a15 a16 a17 a18 a19 a20 a21 a22 a23 a24 a25 a26 a27 a28 a29 a30 a31 n (tc_b2 g h 0) (nI 0) by
    rw [e0] at main
    exact main
  refine pk_loop (fun n i (_ : Unit) => wX_nextGoal_5 post 0 (nI g) dr ph ru no th il en sc iw tm tl co wk fs wf ws a1 a2 a3 a4 a5 a6 a7 a8 a9 a10 a11 a12 a13 a14 a15 a16 a17 a18 a19 a20 a21 a22 a23 a24 a25 a26 a27 a28 a29 a30 a31 n (tc_b2 g h i) (nI i)) (fun _ _ => True) 4 0 () (by omega) trivial ?_ ?_
  · intro n _ _
    exact pk_le 4 4 (fun _ => hp) (fun z => absurd z (by omega))
  · intro n i _ hi _ hw
    have hw := hw () trivial
    have hk := tc_Kle (g := g) (h := h) hc hd i
    refine pk_le 4 i (fun z => absurd z (by omega)) (fun _ => tc_costOf hq (by omega) rfl rfl (br_f (tc_m1 hg) (tc_costOf hq (by omega) rfl rfl ?_)))
    rw [tc_Kg hg]
    by_cases e1 : i = g
    · -- g itself: not behind
      have e2 : tc_b2 g h (i + 1) = tc_b2 g h i := by
        unfold tc_b2
        by_cases y : h = g
        · rw [if_neg (fun z => z.1 y), if_neg (fun z => z.1 y)]
        · exact ite_congr (propext (by omega)) (fun _ => rfl) (fun _ => rfl)
      have ek : tc_K g h c d i = c := by
        rw [e1]
        exact tc_Kg hg
      rw [e2] at hw
      rw [ek]
      refine pk_lt c c (fun z => absurd z (by omega)) (fun _ => tc_costOf hq (by omega) rfl rfl ?_)
      rw [tc_Kg hg]
      refine br_t rfl (pk_le i g (fun _ => ?_) (fun z => absurd z (by omega)))
      exact pk_le 1000000 c (fun z => absurd z (by omega)) (fun _ => br_t rfl (nm_r (nI_1 i) hw))
    · by_cases e2 : i = h
      · have ek : tc_K g h c d i = c + d := by
          rw [e2]
          exact tc_Kh hh (by omega)
        have e3 : tc_b2 g h i = -1 := by
          unfold tc_b2
          rw [if_neg (by omega)]
        have e4 : tc_b2 g h (i + 1) = nI i := by
          unfold tc_b2
          rw [if_pos ⟨by omega, by omega⟩, e2]
        rw [e4] at hw
        rw [ek, e3]
        refine pk_lt c (c + d) (fun _ => ?_) (fun z => absurd z (by omega))
        exact pk_le 1000000 (c + d) (fun z => absurd z (by omega)) (fun _ => br_f (by decide) (br_t rfl (nm_r (nI_1 i) hw)))
      · have e3 : tc_b2 g h (i + 1) = tc_b2 g h i := by
          unfold tc_b2
          exact ite_congr (propext (by omega)) (fun _ => rfl) (fun _ => rfl)
        rw [e3] at hw
        rw [tc_Kn (by omega) e1 e2]
        refine pk_lt c 1000000 (fun _ => ?_) (fun z => absurd z (by omega))
        exact pk_le 1000000 1000000 (fun _ => nm_r (nI_1 i) hw) (fun z => absurd z (by omega))
/-- nextGoal behind h, another goal than g: none -/
theorem tc_next3 {post : Int32 → Prop} {g h c d : Nat} (hg : g < 4) (hh : h < 4) (hn : h ≠ g) (hc : c < 10) (hd0 : 0 < d) (hd : d < 10) (hq : tc_Q g h c d a25) (hp : post (-1)) : wpX_nextGoal post (dr, ph, ru, no, th, il, en, sc, iw, tm, tl, co, wk, fs, wf, ws, a1, a2, a3, a4, a5, a6, a7, a8, a9, a10, a11, a12, a13, a14, a15, a16, a17, a18, a19, a20, a21, a22, a23, a24, a25, a26, a27, a28, a29, a30, a31) 0 (nI h) := by
  refine pk_loop (fun n i (_ : Unit) => wX_nextGoal_5 post 0 (nI h) dr ph ru no th il en sc iw tm tl co wk fs wf ws a1 a2 a3 a4 a5 a6 a7 a8 a9 a10 a11 a12 a13 a14 a15 a16 a17 a18 a19 a20 a21 a22 a23 a24 a25 a26 a27 a28 a29 a30 a31 n (-1) (nI i)) (fun _ _ => True) 4 0 () (by omega) trivial ?_ ?_
  · intro n _ _
    exact pk_le 4 4 (fun _ => hp) (fun z => absurd z (by omega))
  · intro n i _ hi _ hw
    have hw := hw () trivial
    refine pk_le 4 i (fun z => absurd z (by omega)) (fun _ => tc_costOf hq (by omega) rfl rfl (br_f (tc_m1 hh) (tc_costOf hq (by omega) rfl rfl ?_)))
    rw [tc_Kh hh hn]
    by_cases e1 : i = g
    · have ek : tc_K g h c d i = c := by
        rw [e1]
        exact tc_Kg hg
      rw [ek]
      refine pk_lt (c + d) c (fun z => absurd z (by omega)) (fun _ => tc_costOf hq (by omega) rfl rfl ?_)
      rw [tc_Kh hh hn]
      refine pk_eq c (c + d) (fun z => absurd z (by omega)) (fun _ => ?_)
      exact pk_le 1000000 c (fun z => absurd z (by omega)) (fun _ => br_t rfl (nm_r (nI_1 i) hw))
    · by_cases e2 : i = h
      · have ek : tc_K g h c d i = c + d := by
          rw [e2]
          exact tc_Kh hh hn
        rw [ek]
        refine pk_lt (c + d) (c + d) (fun z => absurd z (by omega)) (fun _ => tc_costOf hq (by omega) rfl rfl ?_)
        rw [tc_Kh hh hn]
        refine br_t rfl (pk_le i h (fun _ => ?_) (fun z => absurd z (by omega)))
        exact pk_le 1000000 (c + d) (fun z => absurd z (by omega)) (fun _ => br_t rfl (nm_r (nI_1 i) hw))
      · rw [tc_Kn (by omega) e1 e2]
        refine pk_lt (c + d) 1000000 (fun _ => ?_) (fun z => absurd z (by omega))
        exact pk_le 1000000 1000000 (fun _ => nm_r (nI_1 i) hw) (fun z => absurd z (by omega))
theorem tc_isBest0 {post : Int32 → Prop} {a g h c d : Nat} (hB : tc_B a g h c d a3 a4 a5 a6 a7 a8 a9 a10 a11) (hL : tc_L a g a12 a13 a14 a15) (hq : tc_Q g h c d a25) (hp : post 1) : wpX_isBest post (dr, ph, ru, no, th, il, en, sc, iw, tm, tl, co, wk, fs, wf, ws, a1, a2, a3, a4, a5, a6, a7, a8, a9, a10, a11, a12, a13, a14, a15, a16, a17, a18, a19, a20, a21, a22, a23, a24, a25, a26, a27, a28, a29, a30, a31) 0 0 := by
  obtain ⟨⟨ha, hg, hh, hc, hd0, hd⟩, b30, b31, b40, b41, b50, b51, b60, b67, b7, b8, b9, b10, b11⟩ := hB
  obtain ⟨l12, l13, l14, l150, l151⟩ := hL
  have e4 : a4 (0 : Int32).toNatClampNeg = nI c := b40
  refine ⟨pk_in 0 10 (by decide), tc_costOf hq (by omega) rfl l150 ?_⟩
  rw [tc_K4]
  refine br_f (by decide) ⟨pk_in 0 10 (by decide), pk_in 0 10 (by decide), tc_costOf hq (by omega) rfl b30 ?_⟩
  rw [tc_Kg hg, e4]
  exact br_t (by rw [nI_add, Nat.zero_add]) hp
theorem tc_isBest1 {post : Int32 → Prop} {a g h c d : Nat} (hB : tc_B a g h c d a3 a4 a5 a6 a7 a8 a9 a10 a11) (hL : tc_L a g a12 a13 a14 a15) (hq : tc_Q g h c d a25) (hp0 : h = g → post 0) (hp1 : h ≠ g → post 1) : wpX_isBest post (dr, ph, ru, no, th, il, en, sc, iw, tm, tl, co, wk, fs, wf, ws, a1, a2, a3, a4, a5, a6, a7, a8, a9, a10, a11, a12, a13, a14, a15, a16, a17, a18, a19, a20, a21, a22, a23, a24, a25, a26, a27, a28, a29, a30, a31) 0 1 := by
  obtain ⟨⟨ha, hg, hh, hc, hd0, hd⟩, b30, b31, b40, b41, b50, b51, b60, b67, b7, b8, b9, b10, b11⟩ := hB
  obtain ⟨l12, l13, l14, l150, l151⟩ := hL
  have e4 : a4 (1 : Int32).toNatClampNeg = nI d := b41
  refine ⟨pk_in 1 10 (by decide), tc_costOf hq (by omega) rfl l151 ?_⟩
  rw [tc_Kg hg]
  refine pk_le 1000000 c (fun z => absurd z (by omega)) (fun _ => ⟨pk_in 1 10 (by decide), pk_in 1 10 (by decide), tc_costOf hq (by omega) rfl b31 ?_⟩)
  rw [e4, nI_add]
  by_cases e : h = g
  · rw [e, tc_Kg hg]
    exact pk_eq (c + d) c (fun z => absurd z (by omega)) (fun _ => hp0 e)
  · rw [tc_Kh hh e]
    exact br_t rfl (hp1 e)
theorem tc_addParts {post : St2 → Prop} {x : Int32} (h13 : a13 4 = -1) (h14 : a14 4 = -1) (hp : post (dr, ph, ru, no, th, il, en, sc, iw, tm, tl, co, wk, fs, wf, ws, a1, a2, a3, a4, a5, a6, a7, a8, a9, a10, a11, a12, a13, a14, a15, a16, a17, a18, a19, a20, a21, a22, a23, a24, a25, a26, a27, a28, a29, a30, a31)) : wpX_addParts post (dr, ph, ru, no, th, il, en, sc, iw, tm, tl, co, wk, fs, wf, ws, a1, a2, a3, a4, a5, a6, a7, a8, a9, a10, a11, a12, a13, a14, a15, a16, a17, a18, a19, a20, a21, a22, a23, a24, a25, a26, a27, a28, a29, a30, a31) 4 x :=
  ⟨pk_in 4 74 (by decide), br_t h14 ⟨pk_in 4 74 (by decide), br_t h13 hp⟩⟩
theorem tc_helperWays {post : Int32 → St2 → Prop} (h13 : a13 4 = -1) (h14 : a14 4 = -1) (hp : ∀ (wk : Int32) (a28 a29 : Nat → Int32), post 1 (dr, ph, ru, no, th, il, en, sc, iw, tm, tl, co, wk, fs, wf, ws, a1, a2, a3, a4, a5, a6, a7, a8, a9, a10, a11, a12, a13, a14, a15, a16, a17, a18, a19, a20, a21, a22, a23, a24, a25, a26, a27, a28, a29, a30, a31)) : wpX_helperWays post (dr, ph, ru, no, th, il, en, sc, iw, tm, tl, co, wk, fs, wf, ws, a1, a2, a3, a4, a5, a6, a7, a8, a9, a10, a11, a12, a13, a14, a15, a16, a17, a18, a19, a20, a21, a22, a23, a24, a25, a26, a27, a28, a29, a30, a31) 0 4 := by
  refine ⟨pk_in 0 700 (by decide), nm_r (e' := upd a28 0 4) rfl ⟨pk_in 0 700 (by decide), nm_r (e' := upd a29 0 0) rfl (nm_r (e' := (1 : Int32)) (by decide) ?_)⟩⟩
  refine ⟨0 + 1 + 1, br_f (by decide) (br_f (by decide) (nm_r (e' := (0 : Int32)) (by decide) ⟨pk_in 0 700 (by decide), nm_r (e' := (4 : Int32)) rfl ⟨pk_in 0 700 (by decide), nm_r (e' := (0 : Int32)) rfl (br_t (by decide) ?_)⟩⟩))⟩
  refine tc_addParts h13 h14 ?_
  exact nm_r (e' := (1 : Int32)) (by decide) (br_f (by decide) (br_t (by decide) (hp _ _ _)))
theorem tc_waysG {post : Int32 → St2 → Prop} {a g h c d : Nat} (hB : tc_B a g h c d a3 a4 a5 a6 a7 a8 a9 a10 a11) (hL : tc_L a g a12 a13 a14 a15) (hq : tc_Q g h c d a25) (hp : ∀ (wk : Int32) (a28 a29 : Nat → Int32), post 1 (dr, ph, 2, no, th, il, en, sc, iw, tm, tl, co, wk, fs, wf, ws, a1, a2, a3, a4, a5, a6, a7, a8, a9, a10, a11, a12, a13, a14, a15, a16, a17, a18, a19, a20, a21, a22, a23, a24, a25, a26, a27, a28, a29, a30, a31)) : wpX_waysOf post (dr, ph, 2, no, th, il, en, sc, iw, tm, tl, co, wk, fs, wf, ws, a1, a2, a3, a4, a5, a6, a7, a8, a9, a10, a11, a12, a13, a14, a15, a16, a17, a18, a19, a20, a21, a22, a23, a24, a25, a26, a27, a28, a29, a30, a31) 0 (nI g) := by
  have B := hB
  obtain ⟨⟨ha, hg, hh, hc, hd0, hd⟩, b30, b31, b40, b41, b50, b51, b60, b67, b7, b8, b9, b10, b11⟩ := B
  have L := hL
  obtain ⟨l12, l13, l14, l150, l151⟩ := L
  refine ⟨0 + 1 + 1 + 1, br_f (by decide) ⟨pk_in 0 10 (by decide), br_t b30 (tc_isBest0 hB hL hq (br_f (by decide) ⟨pk_in 0 10 (by decide), nm_r (e' := (4 : Int32)) l150 (br_t (by decide) ?_)⟩))⟩⟩
  refine tc_helperWays l13 l14 (fun wk a28 a29 => nm_r (e' := (1 : Int32)) (by decide) (nm_r (e' := (1 : Int32)) (by decide) ?_))
  refine br_f (by decide) ⟨pk_in 1 10 (by decide), pk_eq h g (fun e => ?_) (fun _ => ?_) (hx := b31)⟩
  · exact tc_isBest1 hB hL hq (fun _ => br_t rfl (nm_r (e' := (2 : Int32)) (by decide) (br_t (by decide) (hp _ _ _)))) (fun n => absurd e n)
  · exact nm_r (e' := (2 : Int32)) (by decide) (br_t (by decide) (hp _ _ _))
theorem tc_waysH {post : Int32 → St2 → Prop} {a g h c d : Nat} (hB : tc_B a g h c d a3 a4 a5 a6 a7 a8 a9 a10 a11) (hL : tc_L a g a12 a13 a14 a15) (hq : tc_Q g h c d a25) (hn : h ≠ g) (h26 : a26 g = 1) (hp : post 1 (dr, ph, 2, no, th, il, en, sc, iw, tm, tl, co, wk, fs, wf, ws, a1, a2, a3, a4, a5, a6, a7, a8, a9, a10, a11, a12, a13, a14, a15, a16, a17, a18, a19, a20, a21, a22, a23, a24, a25, a26, a27, a28, a29, a30, a31)) : wpX_waysOf post (dr, ph, 2, no, th, il, en, sc, iw, tm, tl, co, wk, fs, wf, ws, a1, a2, a3, a4, a5, a6, a7, a8, a9, a10, a11, a12, a13, a14, a15, a16, a17, a18, a19, a20, a21, a22, a23, a24, a25, a26, a27, a28, a29, a30, a31) 0 (nI h) := by
  have B := hB
  obtain ⟨⟨ha, hg, hh, hc, hd0, hd⟩, b30, b31, b40, b41, b50, b51, b60, b67, b7, b8, b9, b10, b11⟩ := B
  have L := hL
  obtain ⟨l12, l13, l14, l150, l151⟩ := L
  have ex : (4 : Int32) * 0 + nI g = nI g := tc_ix 4 g
  have e26 : a26 ((4 : Int32) * 0 + nI g).toNatClampNeg = 1 := by
    rw [ex, nI_clamp (by omega)]
    exact h26
  refine ⟨0 + 1 + 1 + 1, br_f (by decide) ⟨pk_in 0 10 (by decide), pk_eq g h (fun e => absurd e.symm hn) (fun _ => nm_r (e' := (1 : Int32)) (by decide) ?_) (hx := b30)⟩⟩
  refine br_f (by decide) ⟨pk_in 1 10 (by decide), br_t b31 (tc_isBest1 hB hL hq (fun e => absurd e hn) (fun _ => br_f (by decide) ⟨pk_in 1 10 (by decide), nm_r (e' := nI g) l151 ?_⟩))⟩
  refine pk_le 4 g (fun z => absurd z (by omega)) (fun _ => ⟨pk_in g 96 (by omega) ex, nm_r (e' := (1 : Int32)) e26 (nm_r (e' := (1 : Int32)) (by decide) (nm_r (e' := (2 : Int32)) (by decide) ?_))⟩)
  exact br_t (by decide) hp
theorem tc_count33 {post : St2 → Prop} {a g h c d : Nat} (hB : tc_B a g h c d a3 a4 a5 a6 a7 a8 a9 a10 a11) (hL : tc_L a g a12 a13 a14 a15) (hq : tc_Q g h c d a25) (hp : ∀ (wk : Int32) (a26 a28 a29 : Nat → Int32), a26 h = 1 → post (dr, ph, 2, no, th, il, en, sc, iw, tm, tl, co, wk, fs, wf, ws, a1, a2, a3, a4, a5, a6, a7, a8, a9, a10, a11, a12, a13, a14, a15, a16, a17, a18, a19, a20, a21, a22, a23, a24, a25, a26, a27, a28, a29, a30, a31)) : ∃ n, wX_countWays_33 post 0 n (nI g) 0 dr ph 2 no th il en sc iw tm tl co wk fs wf ws a1 a2 a3 a4 a5 a6 a7 a8 a9 a10 a11 a12 a13 a14 a15 a16 a17 a18 a19 a20 a21 a22 a23 a24 a25 a26 a27 a28 a29 a30 a31 := by
  have B := hB
  obtain ⟨⟨ha, hg, hh, hc, hd0, hd⟩, b30, b31, b40, b41, b50, b51, b60, b67, b7, b8, b9, b10, b11⟩ := B
  have exg : (4 : Int32) * 0 + nI g = nI g := tc_ix 4 g
  have exh : (4 : Int32) * 0 + nI h = nI h := tc_ix 4 h
  refine ⟨0 + 1 + 1 + 1, br_f (by decide) (br_f (tc_m1 hg) (tc_waysG hB hL hq (fun wk a28 a29 => ?_)))⟩
  refine ⟨pk_in g 96 (by omega) exg, nm_r (e' := upd a26 g 1) (by rw [exg, nI_clamp (by omega)]) (tc_next2 hg hh hc hd0 hd hq (nm_r (e' := (1 : Int32)) (by decide) ?_))⟩
  refine br_f (by decide) ?_
  by_cases e : h = g
  · have eb : tc_b2 g h 4 = -1 := by
      unfold tc_b2
      rw [if_neg (fun z => z.1 e)]
    refine br_t eb (hp _ _ _ _ ?_)
    rw [e, pk_us]
  · have eb : tc_b2 g h 4 = nI h := by
      unfold tc_b2
      rw [if_pos ⟨e, hh⟩]
    rw [eb]
    refine br_f (tc_m1 hh) (tc_waysH hB hL hq e pk_us ?_)
    refine ⟨pk_in h 96 (by omega) exh, nm_r (e' := upd (upd a26 g 1) h 1) (by rw [exh, nI_clamp (by omega)]) (tc_next3 hg hh e hc hd0 hd hq (nm_r (e' := (2 : Int32)) (by decide) ?_))⟩
    exact br_f (by decide) (br_t rfl (hp _ _ _ _ pk_us))
theorem tc_countWays {post : St2 → Prop} {a g h c d : Nat} (hB : tc_B a g h c d a3 a4 a5 a6 a7 a8 a9 a10 a11) (hL : tc_L a g a12 a13 a14 a15) (hq : tc_Q g h c d a25) (hp : ∀ (wk : Int32) (a26 a28 a29 : Nat → Int32), a26 h = 1 → post (dr, ph, 2, no, th, il, en, sc, iw, tm, tl, co, wk, fs, wf, ws, a1, a2, a3, a4, a5, a6, a7, a8, a9, a10, a11, a12, a13, a14, a15, a16, a17, a18, a19, a20, a21, a22, a23, a24, a25, a26, a27, a28, a29, a30, a31)) : wpX_countWays post (dr, ph, 2, no, th, il, en, sc, iw, tm, tl, co, wk, fs, wf, ws, a1, a2, a3, a4, a5, a6, a7, a8, a9, a10, a11, a12, a13, a14, a15, a16, a17, a18, a19, a20, a21, a22, a23, a24, a25, a26, a27, a28, a29, a30, a31) 0 := by
  have B := hB
  obtain ⟨⟨ha, hg, hh, hc, hd0, hd⟩, b30, b31, b40, b41, b50, b51, b60, b67, b7, b8, b9, b10, b11⟩ := B
  refine pk_loop (fun n i s => wX_countWays_2 post 0 dr ph 2 no th il en sc iw tm tl co wk fs wf ws n (nI i) a1 a2 a3 a4 a5 a6 a7 a8 a9 a10 a11 a12 a13 a14 a15 a16 a17 a18 a19 a20 a21 a22 a23 a24 a25 s a27 a28 a29 a30 a31) (fun _ _ => True) 4 0 a26 (by omega) trivial ?_ ?_
  · intro n s _
    exact pk_le 4 4 (fun _ => tc_next1 hg hh hc hd0 hd hq (tc_count33 hB hL hq hp)) (fun z => absurd z (by omega))
  · intro n i s hi _ hw
    exact pk_le 4 i (fun z => absurd z (by omega)) (fun _ => ⟨pk_in i 96 (by omega) (tc_ix 4 i), nm_e (nm_r (nI_1 i) (hw _ trivial))⟩)
theorem tc_ways {post : Int32 → St2 → Prop} {a g h c d : Nat} {u : St2} (hP : tc_P a g h c d u) (hp : ∀ u', tc_P a g h c d u' → post 1 u') : wpX_ways post u (nI h) := by
  obtain ⟨dr, ph, ru, no, th, il, en, sc, iw, tm, tl, co, wk, fs, wf, ws, a1, a2, a3, a4, a5, a6, a7, a8, a9, a10, a11, a12, a13, a14, a15, a16, a17, a18, a19, a20, a21, a22, a23, a24, a25, a26, a27, a28, a29, a30, a31⟩ := u
  have hth : th = 1 := hP.1.2.1
  have hh : h < 4 := hP.2.1.1.2.2.1
  unfold wpX_ways
  refine tc_badGoal hh (br_t rfl (tc_labelTree1 (by rw [hth]; decide) hP (fun u' hP' => ?_)))
  obtain ⟨dr, ph, ru, no, th, il, en, sc, iw, tm, tl, co, wk, fs, wf, ws, a1, a2, a3, a4, a5, a6, a7, a8, a9, a10, a11, a12, a13, a14, a15, a16, a17, a18, a19, a20, a21, a22, a23, a24, a25, a26, a27, a28, a29, a30, a31⟩ := u'
  obtain ⟨⟨rfl, rfl, rfl, rfl⟩, hB, hL, ⟨k18, k19, kq⟩, k25⟩ := hP'
  have B := hB
  obtain ⟨_, b30, b31, b40, b41, b50, b51, b60, b67, b7, b8, b9, b10, b11⟩ := B
  refine br_f (by decide) ⟨pk_in 0 8 (by decide), nm_r (e' := (0 : Int32)) b10 ⟨pk_in 0 8 (by decide), nm_r (e' := (0 : Int32)) b11 ⟨0 + 1 + 1, br_f (by decide) ?_⟩⟩⟩
  refine tc_countWays hB hL k25 (fun wk a26 a28 a29 k26 => nm_r (e' := (1 : Int32)) (by decide) (br_t (by decide) ⟨pk_in h 96 (by omega) (tc_ix 4 h), ?_⟩))
  have e26 : a26 ((4 : Int32) * 0 + nI h).toNatClampNeg = 1 := by
    rw [show (4 : Int32) * 0 + nI h = nI h from tc_ix 4 h, nI_clamp (by omega)]
    exact k26
  rw [e26]
  exact hp _ ⟨⟨rfl, rfl, rfl, rfl⟩, hB, hL, ⟨k18, k19, kq⟩, k25⟩
end
end
section
section
variable {dr ph ru no th il en sc iw tm tl co wk fs wf ws : Int32} {a1 a2 a3 a4 a5 a6 a7 a8 a9 a10 a11 a12 a13 a14 a15 a16 a17 a18 a19 a20 a21 a22 a23 a24 a25 a26 a27 a28 a29 a30 a31 : Nat → Int32}
theorem tc_addParts_2 {post : St2 → Prop} {x : Int32} (h13 : a13 4 = -1) (h14 : a14 4 = -1) (hp : post (dr, ph, ru, no, th, il, en, sc, iw, tm, tl, co, wk, fs, wf, ws, a1, a2, a3, a4, a5, a6, a7, a8, a9, a10, a11, a12, a13, a14, a15, a16, a17, a18, a19, a20, a21, a22, a23, a24, a25, a26, a27, a28, a29, a30, a31)) : wpX_addParts_2 post (dr, ph, ru, no, th, il, en, sc, iw, tm, tl, co, wk, fs, wf, ws, a1, a2, a3, a4, a5, a6, a7, a8, a9, a10, a11, a12, a13, a14, a15, a16, a17, a18, a19, a20, a21, a22, a23, a24, a25, a26, a27, a28, a29, a30, a31) 4 x :=
  ⟨pk_in 4 74 (by decide), br_t h14 ⟨pk_in 4 74 (by decide), br_t h13 hp⟩⟩
theorem tc_firstG {post : Int32 → Prop} {a g h c d : Nat} (hB : tc_B a g h c d a3 a4 a5 a6 a7 a8 a9 a10 a11) (hL : tc_L a g a12 a13 a14 a15) (hq : tc_Q g h c d a25) (hp : post 0) : wpX_firstRule post (dr, ph, 2, no, th, il, en, sc, iw, tm, tl, co, wk, fs, wf, ws, a1, a2, a3, a4, a5, a6, a7, a8, a9, a10, a11, a12, a13, a14, a15, a16, a17, a18, a19, a20, a21, a22, a23, a24, a25, a26, a27, a28, a29, a30, a31) 0 (nI g) :=
  ⟨0 + 1, br_f (by decide) ⟨pk_in 0 10 (by decide), br_t hB.2.1 (tc_isBest0 hB hL hq (br_f (by decide) hp))⟩⟩
theorem tc_firstH {post : Int32 → Prop} {a g h c d : Nat} (hB : tc_B a g h c d a3 a4 a5 a6 a7 a8 a9 a10 a11) (hL : tc_L a g a12 a13 a14 a15) (hq : tc_Q g h c d a25) (hn : h ≠ g) (hp : post 1) : wpX_firstRule post (dr, ph, 2, no, th, il, en, sc, iw, tm, tl, co, wk, fs, wf, ws, a1, a2, a3, a4, a5, a6, a7, a8, a9, a10, a11, a12, a13, a14, a15, a16, a17, a18, a19, a20, a21, a22, a23, a24, a25, a26, a27, a28, a29, a30, a31) 0 (nI h) := by
  have B := hB
  obtain ⟨⟨ha, hg, hh, hc, hd0, hd⟩, b30, b31, b40, b41, b50, b51, b60, b67, b7, b8, b9, b10, b11⟩ := B
  refine ⟨0 + 1 + 1, br_f (by decide) ⟨pk_in 0 10 (by decide), pk_eq g h (fun e => absurd e.symm hn) (fun _ => nm_r (e' := (1 : Int32)) (by decide) ?_) (hx := b30)⟩⟩
  exact br_f (by decide) ⟨pk_in 1 10 (by decide), br_t b31 (tc_isBest1 hB hL hq (fun e => absurd e hn) (fun _ => br_f (by decide) hp))⟩
/-- the work at the helper: nothing more -/
theorem tc_cov4 {post : Int32 → St2 → Prop} {n i : Nat} (hi : i < 300) (h13 : a13 4 = -1) (h14 : a14 4 = -1) (h28 : a28 0 = 4) (hp : post 1 (dr, ph, ru, no, th, il, en, sc, iw, tm, tl, co, 0, fs, wf, ws, a1, a2, a3, a4, a5, a6, a7, a8, a9, a10, a11, a12, a13, a14, a15, a16, a17, a18, a19, a20, a21, a22, a23, a24, a25, a26, a27, a28, a29, a30, a31)) : wX_writeCover_66 post (n + 1 + 1) (nI i) dr ph ru no th il en sc iw tm tl co 1 fs wf ws a1 a2 a3 a4 a5 a6 a7 a8 a9 a10 a11 a12 a13 a14 a15 a16 a17 a18 a19 a20 a21 a22 a23 a24 a25 a26 a27 a28 a29 a30 a31 := by
  refine pk_le 400 i (fun z => absurd z (by omega)) (fun _ => br_f (by decide) (nm_r (e' := (0 : Int32)) (by decide) ⟨pk_in 0 700 (by decide), nm_r (e' := (4 : Int32)) h28 ⟨pk_in 0 700 (by decide), nm_e (br_t (by decide) ?_)⟩⟩))
  refine tc_addParts_2 h13 h14 (nm_r (nI_1 i) ?_)
  exact pk_le 400 (i + 1) (fun z => absurd z (by omega)) (fun _ => br_t (by decide) hp)
/-- the work at goal g: rule 0, then the helper -/
theorem tc_covG {post : Int32 → St2 → Prop} {a g h c d n i k : Nat} (hi : i < 200) (hk : k < 200) (hB : tc_B a g h c d a3 a4 a5 a6 a7 a8 a9 a10 a11) (hL : tc_L a g a12 a13 a14 a15) (hq : tc_Q g h c d a25) (h28 : a28 0 = nI g) (h29 : a29 0 = 0)
    (hp : ∀ (a28 a29 : Nat → Int32), post 1 (dr, ph, 2, no, th, il, en, sc, iw, tm, tl, nI (k + 1), 0, fs, wf, ws, a1, a2, a3, a4, a5, a6, a7, a8, a9, a10, a11, a12, a13, a14, a15, a16, a17, a18, a19, a20, a21, a22, a23, a24, a25, a26, upd a27 k 0, a28, a29, a30, a31)) : wX_writeCover_66 post (n + 1 + 1 + 1) (nI i) dr ph 2 no th il en sc iw tm tl (nI k) 1 fs wf ws a1 a2 a3 a4 a5 a6 a7 a8 a9 a10 a11 a12 a13 a14 a15 a16 a17 a18 a19 a20 a21 a22 a23 a24 a25 a26 a27 a28 a29 a30 a31 := by
  have B := hB
  obtain ⟨⟨ha, hg, hh, hc, hd0, hd⟩, b30, b31, b40, b41, b50, b51, b60, b67, b7, b8, b9, b10, b11⟩ := B
  have L := hL
  obtain ⟨l12, l13, l14, l150, l151⟩ := L
  have ek : (nI k).toNatClampNeg = k := nI_clamp (by omega)
  refine pk_le 400 i (fun z => absurd z (by omega)) (fun _ => br_f (by decide) (nm_r (e' := (0 : Int32)) (by decide) ⟨pk_in 0 700 (by decide), nm_r (e' := nI g) h28 ⟨pk_in 0 700 (by decide), nm_r (e' := (0 : Int32)) h29 (pk_le 4 g (fun z => absurd z (by omega)) (fun _ => ?_))⟩⟩))
  refine tc_firstG hB hL hq ⟨pk_in k 600 (by omega), nm_r (e' := upd a27 k 0) (by rw [ek]) (nm_r (nI_1 k) ⟨pk_in 0 10 (by decide), ?_⟩)⟩
  refine ⟨pk_in 0 700 (by decide), nm_e ⟨pk_in 0 700 (by decide), nm_e (nm_r (e' := (1 : Int32)) (by decide) (nm_r (nI_1 i) ?_))⟩⟩
  exact tc_cov4 (by omega) l13 l14 l150 (hp _ _)
/-- the work at goal h, another goal than g: rule 1, then g -/
theorem tc_covH {post : Int32 → St2 → Prop} {a g h c d n i k : Nat} (hi : i < 100) (hk : k < 100) (hB : tc_B a g h c d a3 a4 a5 a6 a7 a8 a9 a10 a11) (hL : tc_L a g a12 a13 a14 a15) (hq : tc_Q g h c d a25) (hn : h ≠ g) (h28 : a28 0 = nI h) (h29 : a29 0 = 0)
    (hp : ∀ (a28 a29 : Nat → Int32), post 1 (dr, ph, 2, no, th, il, en, sc, iw, tm, tl, nI (k + 1 + 1), 0, fs, wf, ws, a1, a2, a3, a4, a5, a6, a7, a8, a9, a10, a11, a12, a13, a14, a15, a16, a17, a18, a19, a20, a21, a22, a23, a24, a25, a26, upd (upd a27 k 1) (k + 1) 0, a28, a29, a30, a31)) : wX_writeCover_66 post (n + 1 + 1 + 1 + 1) (nI i) dr ph 2 no th il en sc iw tm tl (nI k) 1 fs wf ws a1 a2 a3 a4 a5 a6 a7 a8 a9 a10 a11 a12 a13 a14 a15 a16 a17 a18 a19 a20 a21 a22 a23 a24 a25 a26 a27 a28 a29 a30 a31 := by
  have B := hB
  obtain ⟨⟨ha, hg, hh, hc, hd0, hd⟩, b30, b31, b40, b41, b50, b51, b60, b67, b7, b8, b9, b10, b11⟩ := B
  have L := hL
  obtain ⟨l12, l13, l14, l150, l151⟩ := L
  have ek : (nI k).toNatClampNeg = k := nI_clamp (by omega)
  refine pk_le 400 i (fun z => absurd z (by omega)) (fun _ => br_f (by decide) (nm_r (e' := (0 : Int32)) (by decide) ⟨pk_in 0 700 (by decide), nm_r (e' := nI h) h28 ⟨pk_in 0 700 (by decide), nm_r (e' := (0 : Int32)) h29 (pk_le 4 h (fun z => absurd z (by omega)) (fun _ => ?_))⟩⟩))
  refine tc_firstH hB hL hq hn ⟨pk_in k 600 (by omega), nm_r (e' := upd a27 k 1) (by rw [ek]) (nm_r (nI_1 k) ⟨pk_in 1 10 (by decide), ?_⟩)⟩
  refine ⟨pk_in 0 700 (by decide), nm_e ⟨pk_in 0 700 (by decide), nm_e (nm_r (e' := (1 : Int32)) (by decide) (nm_r (nI_1 i) ?_))⟩⟩
  exact tc_covG (by omega) (by omega) hB hL hq l151 rfl hp
/-- what a written cover holds -/
def tc_W (g h : Nat) (u : St2) : Prop := match u with
  | (dr, ph, ru, no, th, il, en, sc, iw, tm, tl, co, wk, fs, wf, ws, a1, a2, a3, a4, a5, a6, a7, a8, a9, a10, a11, a12, a13, a14, a15, a16, a17, a18, a19, a20, a21, a22, a23, a24, a25, a26, a27, a28, a29, a30, a31) => (h = g → co = 1 ∧ a27 0 = 0) ∧ (h ≠ g → co = 2 ∧ a27 0 = 1)
theorem tc_writeCover {post : Int32 → St2 → Prop} {a g h c d : Nat} {u : St2} (hP : tc_P a g h c d u) (hp : ∀ u', tc_P a g h c d u' → tc_W g h u' → post 1 u') : wpX_writeCover post u (nI h) := by
  obtain ⟨dr, ph, ru, no, th, il, en, sc, iw, tm, tl, co, wk, fs, wf, ws, a1, a2, a3, a4, a5, a6, a7, a8, a9, a10, a11, a12, a13, a14, a15, a16, a17, a18, a19, a20, a21, a22, a23, a24, a25, a26, a27, a28, a29, a30, a31⟩ := u
  have hth : th = 1 := hP.1.2.1
  unfold wpX_writeCover
  refine tc_labelTree1 (by rw [hth]; decide) hP (fun u' hP' => ?_)
  obtain ⟨dr, ph, ru, no, th, il, en, sc, iw, tm, tl, co, wk, fs, wf, ws, a1, a2, a3, a4, a5, a6, a7, a8, a9, a10, a11, a12, a13, a14, a15, a16, a17, a18, a19, a20, a21, a22, a23, a24, a25, a26, a27, a28, a29, a30, a31⟩ := u'
  obtain ⟨⟨rfl, rfl, rfl, rfl⟩, hB, hL, ⟨k18, k19, kq⟩, k25⟩ := hP'
  have B := hB
  obtain ⟨⟨ha, hg, hh, hc, hd0, hd⟩, b30, b31, b40, b41, b50, b51, b60, b67, b7, b8, b9, b10, b11⟩ := B
  refine br_f (by decide) ⟨pk_in 0 8 (by decide), tc_costOf k25 (by omega) b10 rfl ?_⟩
  refine br_t (nI_lt (b := 1000000) (tc_Klt hc hd (Or.inr rfl)) (by decide)) ⟨pk_in 0 8 (by decide), ?_⟩
  refine ⟨pk_in 0 700 (by decide), nm_r (e' := upd a28 0 (nI h)) rfl ⟨pk_in 0 700 (by decide), nm_r (e' := upd a29 0 0) (congrArg (upd a29 0) b10) (nm_r (e' := (1 : Int32)) (by decide) ?_)⟩⟩
  by_cases e : h = g
  · subst e
    refine ⟨0 + 1 + 1 + 1, tc_covG (i := 0) (k := 0) (by omega) (by omega) hB hL k25 pk_us pk_us (fun s28 s29 => hp _ ?_ ?_)⟩
    · exact ⟨⟨rfl, rfl, rfl, rfl⟩, hB, hL, ⟨k18, k19, kq⟩, k25⟩
    · exact ⟨fun _ => ⟨rfl, pk_us⟩, fun n => absurd rfl n⟩
  · refine ⟨0 + 1 + 1 + 1 + 1, tc_covH (i := 0) (k := 0) (by omega) (by omega) hB hL k25 e pk_us pk_us (fun s28 s29 => hp _ ?_ ?_)⟩
    · exact ⟨⟨rfl, rfl, rfl, rfl⟩, hB, hL, ⟨k18, k19, kq⟩, k25⟩
    · exact ⟨fun n => absurd n e, fun _ => ⟨rfl, by rw [pk_un (by omega), pk_us]⟩⟩
theorem tc_uses {post : Int32 → St2 → Prop} {a g h c d : Nat} {u : St2} (hP : tc_P a g h c d u) (hp : ∀ u', tc_P a g h c d u' → post (if h = g then 1 else 2) u') : wpX_uses post u (nI h) := by
  obtain ⟨dr, ph, ru, no, th, il, en, sc, iw, tm, tl, co, wk, fs, wf, ws, a1, a2, a3, a4, a5, a6, a7, a8, a9, a10, a11, a12, a13, a14, a15, a16, a17, a18, a19, a20, a21, a22, a23, a24, a25, a26, a27, a28, a29, a30, a31⟩ := u
  have hh : h < 4 := hP.2.1.1.2.2.1
  unfold wpX_uses
  refine tc_badGoal hh (br_t rfl (tc_writeCover hP (fun u' hP' hW => ?_)))
  have hu := hp _ hP'
  obtain ⟨dr, ph, ru, no, th, il, en, sc, iw, tm, tl, co, wk, fs, wf, ws, a1, a2, a3, a4, a5, a6, a7, a8, a9, a10, a11, a12, a13, a14, a15, a16, a17, a18, a19, a20, a21, a22, a23, a24, a25, a26, a27, a28, a29, a30, a31⟩ := u'
  refine br_f (by decide) ?_
  by_cases e : h = g
  · rw [(hW.1 e).1]
    rw [if_pos e, (hW.1 e).1] at hu
    exact hu
  · rw [(hW.2 e).1]
    rw [if_neg e, (hW.2 e).1] at hu
    exact hu
theorem tc_used {post : Int32 → St2 → Prop} {a g h c d : Nat} {u : St2} (hP : tc_P a g h c d u) (hp : ∀ u', tc_P a g h c d u' → post (if h = g then 0 else 1) u') : wpX_used post u (nI h) 0 := by
  obtain ⟨dr, ph, ru, no, th, il, en, sc, iw, tm, tl, co, wk, fs, wf, ws, a1, a2, a3, a4, a5, a6, a7, a8, a9, a10, a11, a12, a13, a14, a15, a16, a17, a18, a19, a20, a21, a22, a23, a24, a25, a26, a27, a28, a29, a30, a31⟩ := u
  have hh : h < 4 := hP.2.1.1.2.2.1
  unfold wpX_used
  refine tc_badGoal hh (br_t rfl (tc_writeCover hP (fun u' hP' hW => ?_)))
  have hu := hp _ hP'
  obtain ⟨dr, ph, ru, no, th, il, en, sc, iw, tm, tl, co, wk, fs, wf, ws, a1, a2, a3, a4, a5, a6, a7, a8, a9, a10, a11, a12, a13, a14, a15, a16, a17, a18, a19, a20, a21, a22, a23, a24, a25, a26, a27, a28, a29, a30, a31⟩ := u'
  refine br_f (by decide) (br_f (by decide) ?_)
  by_cases e : h = g
  · obtain ⟨w1, w2⟩ := hW.1 e
    rw [if_pos e] at hu
    refine br_f (by rw [w1]; decide) ⟨pk_in 0 600 (by decide), ?_⟩
    rw [show a27 (0 : Int32).toNatClampNeg = 0 from w2]
    exact hu
  · obtain ⟨w1, w2⟩ := hW.2 e
    rw [if_neg e] at hu
    refine br_f (by rw [w1]; decide) ⟨pk_in 0 600 (by decide), ?_⟩
    rw [show a27 (0 : Int32).toNatClampNeg = 1 from w2]
    exact hu
/-- the set of goals below i -/
def tc_set (g h : Nat) : Nat → Int32
  | 0 => 0
  | i + 1 => if i = g ∨ i = h then tc_set g h i ||| ((1 : Int32) <<< (nI i &&& 31)) else tc_set g h i
theorem tc_set4 {g h : Nat} (hg : g < 4) (hh : h < 4) : tc_set g h 4 = ((1 : Int32) <<< (nI g &&& 31)) ||| ((1 : Int32) <<< (nI h &&& 31)) := by
  have e1 : g = 0 ∨ g = 1 ∨ g = 2 ∨ g = 3 := by omega
  have e2 : h = 0 ∨ h = 1 ∨ h = 2 ∨ h = 3 := by omega
  rcases e1 with rfl | rfl | rfl | rfl <;> rcases e2 with rfl | rfl | rfl | rfl <;> decide
theorem tc_goals {post : Int32 → St2 → Prop} {a g h c d : Nat} {u : St2} (hP : tc_P a g h c d u) (hp : ∀ u', tc_P a g h c d u' → post (tc_set g h 4) u') : wpX_goals post u := by
  obtain ⟨dr, ph, ru, no, th, il, en, sc, iw, tm, tl, co, wk, fs, wf, ws, a1, a2, a3, a4, a5, a6, a7, a8, a9, a10, a11, a12, a13, a14, a15, a16, a17, a18, a19, a20, a21, a22, a23, a24, a25, a26, a27, a28, a29, a30, a31⟩ := u
  have hth : th = 1 := hP.1.2.1
  unfold wpX_goals
  refine tc_labelTree1 (by rw [hth]; decide) hP (fun u' hP' => ?_)
  have hu := hp _ hP'
  obtain ⟨dr, ph, ru, no, th, il, en, sc, iw, tm, tl, co, wk, fs, wf, ws, a1, a2, a3, a4, a5, a6, a7, a8, a9, a10, a11, a12, a13, a14, a15, a16, a17, a18, a19, a20, a21, a22, a23, a24, a25, a26, a27, a28, a29, a30, a31⟩ := u'
  obtain ⟨⟨rfl, rfl, rfl, rfl⟩, hB, hL, ⟨k18, k19, kq⟩, k25⟩ := hP'
  obtain ⟨⟨ha, hg, hh, hc, hd0, hd⟩, b30, b31, b40, b41, b50, b51, b60, b67, b7, b8, b9, b10, b11⟩ := hB
  refine pk_loop (fun n i (_ : Unit) => wX_goals_15 post 1 dr ph 2 no 1 1 5 sc iw tm tl co wk fs wf ws a1 a2 a3 a4 a5 a6 a7 a8 a9 a10 a11 a12 a13 a14 a15 a16 a17 a18 a19 a20 a21 a22 a23 a24 a25 a26 a27 a28 a29 a30 a31 n (tc_set g h i) (nI i)) (fun _ _ => True) 4 0 () (by omega) trivial ?_ ?_
  · intro n _ _
    exact pk_le 4 4 (fun _ => hu) (fun z => absurd z (by omega))
  · intro n i _ hi _ hw
    have hw := hw () trivial
    have es : tc_set g h (i + 1) = if i = g ∨ i = h then tc_set g h i ||| ((1 : Int32) <<< (nI i &&& 31)) else tc_set g h i := rfl
    rw [es] at hw
    have hk := tc_Kle (g := g) (h := h) hc hd i
    refine pk_le 4 i (fun z => absurd z (by omega)) (fun _ => br_f (by decide) ⟨pk_in 0 8 (by decide), tc_costOf k25 (by omega) b10 rfl ?_⟩)
    by_cases e : i = g ∨ i = h
    · rw [if_pos e] at hw
      have hl := tc_Klt hc hd e
      exact pk_le 1000000 (tc_K g h c d i) (fun z => absurd z (by omega)) (fun _ => nm_e (nm_r (nI_1 i) hw))
    · rw [if_neg e] at hw
      rw [tc_Kn (by omega) (fun q => e (Or.inl q)) (fun q => e (Or.inr q))]
      exact pk_le 1000000 1000000 (fun _ => nm_r (nI_1 i) hw) (fun z => absurd z (by omega))
end
end
section
section
theorem tc_and1 (x : Int32) : ∃ j : Nat, j < 2 ∧ x &&& 1 = nI j := pk_andE x 1 (by decide)
theorem tc_and3 (x : Int32) : ∃ j : Nat, j < 4 ∧ x &&& 3 = nI j := pk_andE x 2 (by decide)
theorem tc_and15 (x : Int32) : ∃ j : Nat, j < 16 ∧ x &&& 15 = nI j := pk_andE x 4 (by decide)
theorem tc_c (x : Int32) : ∃ c : Nat, c < 10 ∧ (x &&& 15) - (x &&& 15) / 10 * 10 = nI c := by
  obtain ⟨j, hj, e⟩ := tc_and15 x
  rw [e]
  exact ⟨j % 10, by omega, pk_rem (a := j) (d := 10) (by omega) (by decide) (by decide)⟩
theorem tc_d (x : Int32) : ∃ d : Nat, 0 < d ∧ d < 10 ∧ 1 + ((x &&& 15) - (x &&& 15) / 9 * 9) = nI d := by
  obtain ⟨j, hj, e⟩ := tc_and15 x
  have h : nI j - nI j / 9 * 9 = nI (j % 9) := pk_rem (a := j) (d := 9) (by omega) (by decide) (by decide)
  rw [e, h]
  exact ⟨1 + j % 9, by omega, by omega, nI_add 1 (j % 9)⟩
theorem tc_fin {post : Int32 → St0 → Prop} {mc ms kc ks g h c d : Nat} {z : Int32} (hg : g < 4) (hh : h < 4) (hp : post 1 ()) (hz : (h = g → ¬ z = 0) ∧ (h ≠ g → z = 0)) :
    wL_lawOf_136 post mc ms (nI g) (nI h) (nI c) (nI d) (nI (tc_K g h c d h)) 1 (if h = g then 1 else 2) (if h = g then 0 else 1) (tc_set g h 4) z kc ks := by
  by_cases e : h = g
  · rw [if_pos e, if_pos e]
    refine br_f (hz.1 e) (br_t ?_ (br_t rfl (br_f (hz.1 e) (br_t rfl (br_f (hz.1 e) (br_t rfl (br_t (tc_set4 hg hh) hp)))))))
    rw [e, tc_Kg hg]
  · rw [if_neg e, if_neg e]
    refine br_t (hz.2 e) (br_t ?_ (br_t rfl (br_t (hz.2 e) (br_t rfl (br_t (hz.2 e) (br_t rfl (br_t (tc_set4 hg hh) hp)))))))
    rw [tc_Kh hh e, nI_add]
theorem tc_lawOf {post : Int32 → St0 → Prop} {x y : Int32} (hp : post 1 ()) : wpL_lawOf post 4096 66112 () x y := by
  obtain ⟨a, ha, ea⟩ := tc_and1 x
  obtain ⟨g, hg, eg⟩ := tc_and3 (x >>> ((1 : Int32) &&& 31))
  obtain ⟨h, hh, eh⟩ := tc_and3 (x >>> ((3 : Int32) &&& 31))
  obtain ⟨c, hc, ec⟩ := tc_c y
  obtain ⟨d, hd0, hd, ed⟩ := tc_d (y >>> ((4 : Int32) &&& 31))
  refine ⟨by decide, by decide, 4000, 60000, by decide, by decide, ?_⟩
  have t1 : ∀ (k : Nat), k ≤ 31 → k ≤ 4000 := fun k hk => by omega
  have t2 : ∀ (k : Nat), k ≤ 8090 → k ≤ 60000 := fun k hk => by omega
  refine ⟨t1 1 (by decide), t2 7 (by decide), t1 2 (by decide), t2 13 (by decide), t1 3 (by decide), t2 23 (by decide), t1 4 (by decide), t2 33 (by decide), t1 5 (by decide), t2 43 (by decide), t1 6 (by decide), t2 113 (by decide), t1 7 (by decide), t2 137 (by decide), t1 8 (by decide), t2 161 (by decide), t1 9 (by decide), t2 185 (by decide), t1 10 (by decide), t2 193 (by decide), t1 11 (by decide), t2 201 (by decide), t1 12 (by decide), t2 275 (by decide), t1 13 (by decide), t2 349 (by decide), t1 14 (by decide), t2 423 (by decide), t1 15 (by decide), t2 433 (by decide), t1 16 (by decide), t2 440 (by decide), t1 17 (by decide), t2 2068 (by decide), t1 18 (by decide), t2 2070 (by decide), t1 19 (by decide), t2 2072 (by decide), t1 20 (by decide), t2 2116 (by decide), t1 21 (by decide), t2 2160 (by decide), t1 22 (by decide), t2 3128 (by decide), t1 23 (by decide), t2 4096 (by decide), t1 24 (by decide), t2 4170 (by decide), t1 25 (by decide), t2 5946 (by decide), t1 26 (by decide), t2 6042 (by decide), t1 27 (by decide), t2 6642 (by decide), t1 28 (by decide), t2 7342 (by decide), t1 29 (by decide), t2 8042 (by decide), t1 30 (by decide), t2 8066 (by decide), t1 31 (by decide), t2 8090 (by decide), ?_⟩
  refine nm_r ea (nm_r eg (nm_r eh ⟨by decide, nm_r ec ⟨by decide, nm_r ed ?_⟩⟩))
  refine tc_pattern ha ?_
  refine tc_rule (r := 0) hg hc (by decide) (fun _ => nI_pos' (by omega)) ?_
  refine tc_goal hg ?_
  refine tc_rule (r := 1) hh hd (by decide) (fun e => absurd e (by omega)) ?_
  refine tc_tree ha ?_
  refine tc_cost (a := a) (g := g) (h := h) (c := c) (d := d) ⟨⟨rfl, rfl, rfl⟩, ⟨ha, hg, hh, hc, hd0, hd⟩, rfl, rfl, rfl, rfl, rfl, rfl, rfl, rfl, rfl, rfl, rfl, rfl, rfl⟩ (fun u hP => ?_)
  obtain ⟨dr, ph, ru, no, th, il, en, sc, iw, tm, tl, co, wk, fs, wf, ws, a1, a2, a3, a4, a5, a6, a7, a8, a9, a10, a11, a12, a13, a14, a15, a16, a17, a18, a19, a20, a21, a22, a23, a24, a25, a26, a27, a28, a29, a30, a31⟩ := u
  refine tc_ways hP (fun u hP => ?_)
  obtain ⟨dr, ph, ru, no, th, il, en, sc, iw, tm, tl, co, wk, fs, wf, ws, a1, a2, a3, a4, a5, a6, a7, a8, a9, a10, a11, a12, a13, a14, a15, a16, a17, a18, a19, a20, a21, a22, a23, a24, a25, a26, a27, a28, a29, a30, a31⟩ := u
  refine tc_uses hP (fun u hP => ?_)
  obtain ⟨dr, ph, ru, no, th, il, en, sc, iw, tm, tl, co, wk, fs, wf, ws, a1, a2, a3, a4, a5, a6, a7, a8, a9, a10, a11, a12, a13, a14, a15, a16, a17, a18, a19, a20, a21, a22, a23, a24, a25, a26, a27, a28, a29, a30, a31⟩ := u
  refine tc_used hP (fun u hP => ?_)
  obtain ⟨dr, ph, ru, no, th, il, en, sc, iw, tm, tl, co, wk, fs, wf, ws, a1, a2, a3, a4, a5, a6, a7, a8, a9, a10, a11, a12, a13, a14, a15, a16, a17, a18, a19, a20, a21, a22, a23, a24, a25, a26, a27, a28, a29, a30, a31⟩ := u
  refine tc_goals hP (fun u hP => ?_)
  obtain ⟨dr, ph, ru, no, th, il, en, sc, iw, tm, tl, co, wk, fs, wf, ws, a1, a2, a3, a4, a5, a6, a7, a8, a9, a10, a11, a12, a13, a14, a15, a16, a17, a18, a19, a20, a21, a22, a23, a24, a25, a26, a27, a28, a29, a30, a31⟩ := u
  refine pk_eq g h (fun e => ?_) (fun e => ?_)
  · exact tc_fin hg hh hp ⟨fun _ => by decide, fun n => absurd e.symm n⟩
  · exact tc_fin hg hh hp ⟨fun n => absurd n.symm e, fun _ => rfl⟩
theorem tc_cell {post : Int32 → Prop} {L : Nat} {xs : Nat → Int32} {k : Nat} (hL : L ≤ 2) (hk : k < 2) (hp : ∀ v, post v) : wpL_cellAt post L xs () (nI k) :=
  pk_le L k (fun _ => hp _) (fun z => ⟨pk_in k L z, hp _⟩)
end
theorem i_vc (xs : Nat → Int32) (L : Nat) (hL : L ≤ 2) : wpL_law (fun r => r = 1) L xs := by
  unfold wpL_law
  refine tc_cell (k := 0) hL (by omega) (fun x => tc_cell (k := 1) hL (by omega) (fun y => ?_))
  exact ⟨4096, 66112, by decide, by decide, tc_lawOf rfl⟩
end
