section
/-- three known places, the rest as g -/
def te_3 (x y z : Int32) (g : Nat → Int32) : Nat → Int32 := fun j => if j = 0 then x else if j = 1 then y else if j = 2 then z else g j
/-- two known places, the rest as g -/
def te_2 (x y : Int32) (g : Nat → Int32) : Nat → Int32 := fun j => if j = 0 then x else if j = 1 then y else g j
theorem te_3u0 {x y z w : Int32} {g : Nat → Int32} : upd (te_3 x y z g) 0 w = te_3 w y z g := by
  funext j
  show (if j = 0 then w else if j = 0 then x else if j = 1 then y else if j = 2 then z else g j) = (if j = 0 then w else if j = 1 then y else if j = 2 then z else g j)
  by_cases h : j = 0
  · rw [if_pos h, if_pos h]
  · rw [if_neg h, if_neg h, if_neg h]
theorem te_3u1 {x y z w : Int32} {g : Nat → Int32} : upd (te_3 x y z g) 1 w = te_3 x w z g := by
  funext j
  show (if j = 1 then w else if j = 0 then x else if j = 1 then y else if j = 2 then z else g j) = (if j = 0 then x else if j = 1 then w else if j = 2 then z else g j)
  by_cases h : j = 0
  · subst h; rfl
  · by_cases h1 : j = 1
    · subst h1; rfl
    · rw [if_neg h1, if_neg h, if_neg h1, if_neg h, if_neg h1]
theorem te_3u2 {x y z w : Int32} {g : Nat → Int32} : upd (te_3 x y z g) 2 w = te_3 x y w g := by
  funext j
  show (if j = 2 then w else if j = 0 then x else if j = 1 then y else if j = 2 then z else g j) = (if j = 0 then x else if j = 1 then y else if j = 2 then w else g j)
  by_cases h : j = 0
  · subst h; rfl
  · by_cases h1 : j = 1
    · subst h1; rfl
    · by_cases h2 : j = 2
      · subst h2; rfl
      · rw [if_neg h2, if_neg h, if_neg h1, if_neg h2, if_neg h, if_neg h1, if_neg h2]
theorem te_3i {w : Int32} {g : Nat → Int32} : upd g 0 w = te_3 w (g 1) (g 2) g := by
  funext j
  show (if j = 0 then w else g j) = (if j = 0 then w else if j = 1 then g 1 else if j = 2 then g 2 else g j)
  by_cases h : j = 0
  · rw [if_pos h, if_pos h]
  · by_cases h1 : j = 1
    · subst h1; rfl
    · by_cases h2 : j = 2
      · subst h2; rfl
      · rw [if_neg h, if_neg h, if_neg h1, if_neg h2]
theorem te_2u0 {x y w : Int32} {g : Nat → Int32} : upd (te_2 x y g) 0 w = te_2 w y g := by
  funext j
  show (if j = 0 then w else if j = 0 then x else if j = 1 then y else g j) = (if j = 0 then w else if j = 1 then y else g j)
  by_cases h : j = 0
  · rw [if_pos h, if_pos h]
  · rw [if_neg h, if_neg h, if_neg h]
theorem te_2u1 {x y w : Int32} {g : Nat → Int32} : upd (te_2 x y g) 1 w = te_2 x w g := by
  funext j
  show (if j = 1 then w else if j = 0 then x else if j = 1 then y else g j) = (if j = 0 then x else if j = 1 then w else g j)
  by_cases h : j = 0
  · subst h; rfl
  · by_cases h1 : j = 1
    · subst h1; rfl
    · rw [if_neg h1, if_neg h, if_neg h1, if_neg h, if_neg h1]
theorem te_2o (g : Nat → Int32) : te_2 (g 0) (g 1) g = g := by
  funext j
  show (if j = 0 then g 0 else if j = 1 then g 1 else g j) = g j
  by_cases h : j = 0
  · subst h; rfl
  · by_cases h1 : j = 1
    · subst h1; rfl
    · rw [if_neg h, if_neg h1]
/-- what a step of kind p (0 .. 3) at place c with number x of thread t makes of a state -/
def te_af (t c p x st : Int32) : Int32 :=
  if p = 0 then (st &&& (((7 : Int32) <<< ((9 + (3 * t)) &&& 31)) ^^^ (-1))) ||| (((st >>> ((3 * c) &&& 31)) &&& 7) <<< ((9 + (3 * t)) &&& 31))
  else if p = 1 then (st &&& (((7 : Int32) <<< ((3 * c) &&& 31)) ^^^ (-1))) ||| (x <<< ((3 * c) &&& 31))
  else if p = 2 then (st &&& (((7 : Int32) <<< ((3 * c) &&& 31)) ^^^ (-1))) ||| (((((st >>> ((9 + (3 * t)) &&& 31)) &&& 7) + x) &&& 7) <<< ((3 * c) &&& 31))
  else (st &&& (((7 : Int32) <<< ((3 * c) &&& 31)) ^^^ (-1))) ||| (((((st >>> ((3 * c) &&& 31)) &&& 7) + x) &&& 7) <<< ((3 * c) &&& 31))
/-- the result's number of a state -/
def te_R (st : Int32) : Int32 := ((64 * (st &&& 7)) + (8 * ((st >>> ((3 : Int32) &&& 31)) &&& 7))) + ((st >>> ((6 : Int32) &&& 31)) &&& 7)
/-- the law's own 'after' -/
def te_lf (p v k : Nat) : Nat := if p = 0 then v else if p = 3 then (v + k) % 8 else k
theorem te_lf8 {p v k : Nat} (hv : v < 8) (hk : k < 8) : te_lf p v k < 8 := by
  unfold te_lf
  split
  · exact hv
  · split
    · omega
    · exact hk
theorem te_a1 : ∀ p, p < 4 → ∀ x, x < 8 → ∀ s, s < 8 → te_af 0 1 (nI p) (nI x) (nI (8 * s)) = nI (8 * te_lf p s x + 512 * (if p = 0 then s else 0)) := by decide +kernel
theorem te_b1 : ∀ p, p < 4 → ∀ x, x < 8 → ∀ s, s < 8 → te_af 2 1 (nI p) (nI x) (nI (8 * s)) = nI (8 * te_lf p s x + 32768 * (if p = 0 then s else 0)) := by decide +kernel
theorem te_a2 : ∀ q, q < 4 → ∀ y, y < 8 → ∀ l, l < 8 → ∀ a, a < 8 → te_R (te_af 2 1 (nI q) (nI y) (nI (8 * l + 512 * a))) = nI (8 * te_lf q l y) := by decide +kernel
theorem te_a3 : ∀ q, q < 4 → ∀ y, y < 8 → ∀ l, l < 8 → ∀ a, a < 8 → te_R (te_af 2 0 (nI q) (nI y) (nI (8 * l + 512 * a))) = nI (64 * te_lf q 0 y + 8 * l) := by decide +kernel
theorem te_b2 : ∀ p, p < 4 → ∀ x, x < 8 → ∀ l, l < 8 → ∀ a, a < 8 → te_R (te_af 0 1 (nI p) (nI x) (nI (8 * l + 32768 * a))) = nI (8 * te_lf p l x) := by decide +kernel
theorem te_s0 : ∀ s, s < 8 → (((0 : Int32) ||| (nI s <<< ((3 : Int32) &&& 31))) ||| ((0 : Int32) <<< ((6 : Int32) &&& 31))) = nI (8 * s) := by decide +kernel
theorem te_R512 (st : Int32) : ∃ r : Nat, r < 512 ∧ te_R st = nI r := by
  obtain ⟨i, hi, ei⟩ := pk_andE st (m := 7) 3 (by decide)
  obtain ⟨j, hj, ej⟩ := pk_andE (st >>> ((3 : Int32) &&& 31)) (m := 7) 3 (by decide)
  obtain ⟨k, hk, ek⟩ := pk_andE (st >>> ((6 : Int32) &&& 31)) (m := 7) 3 (by decide)
  refine ⟨64 * i + 8 * j + k, by omega, ?_⟩
  unfold te_R
  rw [ei, ej, ek, show (64 : Int32) = nI 64 from rfl, show (8 : Int32) = nI 8 from rfl, pk_mul, pk_mul, nI_add, nI_add]
/-- first thread 0's step, then thread 2's, at one place -/
theorem te_r1 {p q x y s : Nat} (hp : p < 4) (hq : q < 4) (hx : x < 8) (hy : y < 8) (hs : s < 8) : te_R (te_af 2 1 (nI q) (nI y) (te_af 0 1 (nI p) (nI x) (nI (8 * s)))) = nI (8 * te_lf q (te_lf p s x) y) := by
  rw [te_a1 p hp x hx s hs]
  exact te_a2 q hq y hy _ (te_lf8 hs hx) _ (by split <;> omega)
/-- the same, at two places -/
theorem te_r0 {p q x y s : Nat} (hp : p < 4) (hq : q < 4) (hx : x < 8) (hy : y < 8) (hs : s < 8) : te_R (te_af 2 0 (nI q) (nI y) (te_af 0 1 (nI p) (nI x) (nI (8 * s)))) = nI (64 * te_lf q 0 y + 8 * te_lf p s x) := by
  rw [te_a1 p hp x hx s hs]
  exact te_a3 q hq y hy _ (te_lf8 hs hx) _ (by split <;> omega)
/-- first thread 2's step, then thread 0's, at one place -/
theorem te_r2 {p q x y s : Nat} (hp : p < 4) (hq : q < 4) (hx : x < 8) (hy : y < 8) (hs : s < 8) : te_R (te_af 0 1 (nI p) (nI x) (te_af 2 1 (nI q) (nI y) (nI (8 * s)))) = nI (8 * te_lf p (te_lf q s y) x) := by
  rw [te_b1 q hq y hy s hs]
  exact te_b2 p hp x hx _ (te_lf8 hs hy) _ (by split <;> omega)
/-- what the two steps hold: kinds p q, the second one's place c, numbers x y, the first value s of place 1 -/
def te_A (p q c x y s : Int32) (a1 a2 a3 a4 a5 : Nat → Int32) : Prop :=
  (a1 0 = 1 ∧ a1 1 = 0 ∧ a1 2 = 1) ∧ (a2 0 = p ∧ a2 6 = q) ∧ (a3 0 = 1 ∧ a3 6 = c) ∧ (a4 0 = x ∧ a4 6 = y) ∧ (a5 0 = 0 ∧ a5 1 = s ∧ a5 2 = 0)
def te_4 (p : Int32) : Prop := p = 0 ∨ p = 1 ∨ p = 2 ∨ p = 3
theorem te_4n : ∀ p, p < 4 → te_4 (nI p) := by
  intro p hp
  have h : p = 0 ∨ p = 1 ∨ p = 2 ∨ p = 3 := by omega
  rcases h with h | h | h | h
  · subst h; exact Or.inl rfl
  · subst h; exact Or.inr (Or.inl rfl)
  · subst h; exact Or.inr (Or.inr (Or.inl rfl))
  · subst h; exact Or.inr (Or.inr (Or.inr rfl))
theorem te_4l {p : Int32} (h : te_4 p) : p < 4 ∧ ¬ 4 ≤ p ∧ ¬ p = 4 := by
  rcases h with h | h | h | h
  · subst h; decide
  · subst h; decide
  · subst h; decide
  · subst h; decide
/-- whether the two steps are tied -/
def te_td (p q c : Int32) : Int32 := if c = 1 then (if p = 0 then (if q = 0 then 0 else 1) else 1) else 0
theorem te_td01 (p q c : Int32) : te_td p q c = 0 ∨ te_td p q c = 1 := by
  unfold te_td
  split
  · split
    · split
      · exact Or.inl rfl
      · exact Or.inr rfl
    · exact Or.inr rfl
  · exact Or.inl rfl
theorem te_at {a : Nat → Int32} {k : Nat} {v : Int32} (hk : k < 1000) (h : a k = v) : a (nI k).toNatClampNeg = v := by
  rw [nI_clamp (by omega)]; exact h
theorem te_cl {k : Nat} (hk : k < 1000) : (nI k).toNatClampNeg = k := nI_clamp (by omega)
theorem te_cl1 {k : Nat} (hk : k < 1000) : (nI k + 1).toNatClampNeg = k + 1 := by
  rw [nI_1]; exact nI_clamp (by omega)
/-- what has been found so far: g j at place j -/
def te_F (g : Nat → Nat) (F : Nat → Int32) : Prop := ∀ j, j < 512 → F j = nI (g j)
theorem te_Fu {g : Nat → Nat} {F : Nat → Int32} {r : Nat} (hr : r < 512) (h : te_F g F) : te_F (fun j => g j + (if j = r then 1 else 0)) (upd F r (F r + 1)) := by
  intro j hj
  show upd F r (F r + 1) j = nI (g j + (if j = r then 1 else 0))
  by_cases e : j = r
  · subst e
    rw [pk_us, h j hj, nI_1, if_pos rfl]
  · rw [pk_un e, if_neg e, h j hj]; rfl
end
section
section
variable {post : St2 → Prop} {qo : Int32 → Prop} {v rc kc sc sh fs ss io : Int32} {a1 a2 a3 a4 a5 a6 a7 a8 a9 a10 a11 a12 a13 : Nat → Int32}
theorem te_nextC {t : Nat} {d d' kk z : Int32} (ht : t < 3) (hd : d = d') (h1 : a1 t = z) (hk : (d' >>> ((2 * nI t) &&& 31)) &&& 3 = kk) (H1 : z ≤ kk → qo (-1)) (H2 : ¬ z ≤ kk → qo ((3 * nI t) + kk)) : wpX_nextOf qo (rc, kc, sc, sh, fs, ss, io, a1, a2, a3, a4, a5, a6, a7, a8, a9, a10, a11, a12, a13) (nI t) d := by
  subst hd
  refine nm_r hk ⟨pk_in t 3 ht, ?_⟩
  rw [te_cl (by omega), h1]
  exact ⟨H1, H2⟩
theorem te_nextN {t : Nat} {d d' kk z : Int32} (ht : t < 3) (hd : d = d') (h1 : a1 t = z) (hk : (d' >>> ((2 * nI t) &&& 31)) &&& 3 = kk) (hz : z ≤ kk) (H : qo (-1)) : wpX_nextOf qo (rc, kc, sc, sh, fs, ss, io, a1, a2, a3, a4, a5, a6, a7, a8, a9, a10, a11, a12, a13) (nI t) d :=
  te_nextC ht hd h1 hk (fun _ => H) (fun z => absurd hz z)
theorem te_nextY {t w : Nat} {d d' kk z : Int32} (ht : t < 3) (hd : d = d') (h1 : a1 t = z) (hk : (d' >>> ((2 * nI t) &&& 31)) &&& 3 = kk) (hz : ¬ z ≤ kk) (hw : (3 * nI t) + kk = nI w) (H : qo (nI w)) : wpX_nextOf qo (rc, kc, sc, sh, fs, ss, io, a1, a2, a3, a4, a5, a6, a7, a8, a9, a10, a11, a12, a13) (nI t) d :=
  te_nextC ht hd h1 hk (fun e => absurd e hz) (fun _ => by rw [hw]; exact H)
theorem te_nextA {t : Nat} {d : Int32} (ht : t < 3) (H : ∀ r, qo r) : wpX_nextOf qo (rc, kc, sc, sh, fs, ss, io, a1, a2, a3, a4, a5, a6, a7, a8, a9, a10, a11, a12, a13) (nI t) d :=
  te_nextC ht rfl rfl rfl (fun _ => H _) (fun _ => H _)
theorem te_can {w : Nat} {st p : Int32} (hw : w < 9) (h2 : a2 w = p) (hp : te_4 p) (H : qo 1) : wpX_canDo qo (rc, kc, sc, sh, fs, ss, io, a1, a2, a3, a4, a5, a6, a7, a8, a9, a10, a11, a12, a13) (nI w) st :=
  ⟨pk_in w 9 hw, br_f (by rw [te_cl (by omega), h2]; exact (te_4l hp).2.2) H⟩
theorem te_after {w : Nat} {t c p x st : Int32} (hw : w < 9) (ht : nI w / 3 = t) (h3 : a3 w = c) (h2 : a2 w = p) (h4 : a4 w = x) (hp : te_4 p) (H : qo (te_af t c p x st)) : wpX_after qo (rc, kc, sc, sh, fs, ss, io, a1, a2, a3, a4, a5, a6, a7, a8, a9, a10, a11, a12, a13) (nI w) st := by
  refine ⟨by decide, nm_r ht ⟨pk_in w 9 hw, nm_r (e' := 3 * c) (by rw [te_at (by omega) h3]) (nm_e (nm_e (nm_e ⟨pk_in w 9 hw, nm_r (te_at (by omega) h2) ?_⟩)))⟩⟩
  rw [te_at (a := a4) (by omega) h4]
  rcases hp with e | e | e | e
  · subst e
    exact br_t rfl H
  · subst e
    exact br_f (by decide) (br_t rfl ⟨pk_in w 9 hw, H⟩)
  · subst e
    exact br_f (by decide) (br_f (by decide) (br_t rfl ⟨pk_in w 9 hw, H⟩))
  · subst e
    exact br_f (by decide) (br_f (by decide) (br_f (by decide) (br_t rfl ⟨pk_in w 9 hw, H⟩)))
theorem te_t87 {c z0 : Int32} (h30 : a3 0 = 1) (h36 : a3 6 = c) (H : qo (if c = 1 then (if z0 = 0 then 1 else 0) else 0)) : wX_areTied_87 qo 0 6 0 1 z0 rc kc sc sh fs ss io a1 a2 a3 a4 a5 a6 a7 a8 a9 a10 a11 a12 a13 := by
  refine ⟨pk_in 0 9 (by decide), pk_in 6 9 (by decide), ?_⟩
  rw [show a3 (0 : Int32).toNatClampNeg = 1 from h30, show a3 (6 : Int32).toNatClampNeg = c from h36]
  by_cases hc : c = 1
  · rw [if_pos hc] at H
    refine br_t hc.symm (br_t rfl (br_f (by decide) ?_))
    by_cases hz : z0 = 0
    · rw [if_pos hz] at H
      exact br_t hz H
    · rw [if_neg hz] at H
      exact br_f hz H
  · rw [if_neg hc] at H
    exact br_f (fun e => hc e.symm) H
theorem te_tied {p q c : Int32} (h2 : a2 0 = p ∧ a2 6 = q) (h3 : a3 0 = 1 ∧ a3 6 = c) (hp : te_4 p) (hq : te_4 q) (H : qo (te_td p q c)) : wpX_areTied qo (rc, kc, sc, sh, fs, ss, io, a1, a2, a3, a4, a5, a6, a7, a8, a9, a10, a11, a12, a13) 0 6 := by
  have e0 : a2 (0 : Int32).toNatClampNeg = p := h2.1
  have e6 : a2 (6 : Int32).toNatClampNeg = q := h2.2
  refine ⟨by decide, by decide, br_f (by decide) ⟨pk_in 0 9 (by decide), br_t (by rw [e0]; exact (te_4l hp).1) ?_⟩⟩
  refine ⟨pk_in 0 9 (by decide), br_f (by rw [e0]; exact (te_4l hp).2.1) ⟨pk_in 6 9 (by decide), br_f (by rw [e6]; exact (te_4l hq).2.1) ?_⟩⟩
  refine ⟨pk_in 0 9 (by decide), ?_⟩
  rw [e0, e6]
  unfold te_td at H
  by_cases ep : p = 0
  · refine br_t ep ⟨pk_in 6 9 (by decide), ?_⟩
    by_cases eq : q = 0
    · refine br_t eq (te_t87 h3.1 h3.2 ?_)
      rw [if_pos ep, if_pos eq] at H
      exact H
    · refine br_f eq (te_t87 h3.1 h3.2 ?_)
      rw [if_pos ep, if_neg eq] at H
      exact H
  · refine br_f ep (te_t87 h3.1 h3.2 ?_)
    rw [if_neg ep] at H
    exact H
theorem te_ends {n k t : Nat} {d kk z : Int32} (hk : k < 11) (ht : t < 3) (h7 : a7 k = d) (h1 : a1 t = z) (hd : (d >>> ((2 * nI t) &&& 31)) &&& 3 = kk) (hz : z ≤ kk) (H : wX_isEnd_2 qo (nI k) rc kc sc sh fs ss io a1 a2 a3 a4 a5 a6 a7 a8 a9 a10 a11 a12 a13 n (nI (t + 1))) : wX_isEnd_2 qo (nI k) rc kc sc sh fs ss io a1 a2 a3 a4 a5 a6 a7 a8 a9 a10 a11 a12 a13 (n + 1) (nI t) :=
  pk_le 3 t (fun z => absurd z (by omega)) (fun _ => ⟨pk_in k 11 hk, te_nextN ht (te_at (by omega) h7) h1 hd hz (br_t (by decide) (nm_r (nI_1 t) H))⟩)
theorem te_endx {n k t w : Nat} {d kk z p : Int32} (hk : k < 11) (ht : t < 3) (h7 : a7 k = d) (h1 : a1 t = z) (hd : (d >>> ((2 * nI t) &&& 31)) &&& 3 = kk) (hz : ¬ z ≤ kk) (hw : (3 * nI t) + kk = nI w) (hw9 : w < 9) (h2 : a2 w = p) (hp : te_4 p) (H : qo 0) : wX_isEnd_2 qo (nI k) rc kc sc sh fs ss io a1 a2 a3 a4 a5 a6 a7 a8 a9 a10 a11 a12 a13 (n + 1) (nI t) :=
  pk_le 3 t (fun z => absurd z (by omega)) (fun _ => ⟨pk_in k 11 hk, te_nextY ht (te_at (by omega) h7) h1 hd hz hw (br_f (nI_pos (by omega)) ⟨pk_in k 11 hk, te_can hw9 h2 hp (br_f (by decide) H)⟩)⟩)
theorem te_end17 {k : Nat} (hk : k < 11) (h7 : a7 k = 17) (h1 : a1 0 = 1 ∧ a1 1 = 0 ∧ a1 2 = 1) (H : qo 1) : wpX_isEnd qo (rc, kc, sc, sh, fs, ss, io, a1, a2, a3, a4, a5, a6, a7, a8, a9, a10, a11, a12, a13) (nI k) :=
  ⟨4, te_ends hk (t := 0) (by decide) h7 h1.1 rfl (by decide) (te_ends hk (t := 1) (by decide) h7 h1.2.1 rfl (by decide) (te_ends hk (t := 2) (by decide) h7 h1.2.2 rfl (by decide) (pk_le 3 3 (fun _ => H) (fun z => absurd z (by omega)))))⟩
theorem te_end0 {k : Nat} {d p : Int32} (hk : k < 11) (h7 : a7 k = d) (hd : (d >>> ((2 * nI 0) &&& 31)) &&& 3 = 0) (h1 : a1 0 = 1 ∧ a1 1 = 0 ∧ a1 2 = 1) (h2 : a2 0 = p) (hp : te_4 p) (H : qo 0) : wpX_isEnd qo (rc, kc, sc, sh, fs, ss, io, a1, a2, a3, a4, a5, a6, a7, a8, a9, a10, a11, a12, a13) (nI k) :=
  ⟨4, te_endx hk (t := 0) (w := 0) (by decide) h7 h1.1 hd (by decide) (by decide) (by decide) h2 hp H⟩
theorem te_end1 {k : Nat} {q : Int32} (hk : k < 11) (h7 : a7 k = 1) (h1 : a1 0 = 1 ∧ a1 1 = 0 ∧ a1 2 = 1) (h2 : a2 6 = q) (hq : te_4 q) (H : qo 0) : wpX_isEnd qo (rc, kc, sc, sh, fs, ss, io, a1, a2, a3, a4, a5, a6, a7, a8, a9, a10, a11, a12, a13) (nI k) :=
  ⟨4, te_ends hk (t := 0) (by decide) h7 h1.1 rfl (by decide) (te_ends hk (t := 1) (by decide) h7 h1.2.1 rfl (by decide) (te_endx hk (t := 2) (w := 6) (by decide) h7 h1.2.2 rfl (by decide) (by decide) (by decide) h2 hq H))⟩
end
end
section
section
variable {post : St2 → Prop} {qo : Int32 → Prop} {v rc kc sc sh fs ss io : Int32} {a1 a2 a3 a4 a5 a6 a7 a8 a9 a10 a11 a12 a13 : Nat → Int32}
theorem te_e139 {k : Nat} (hk : k < 10) (H : ∀ b12, post (rc, kc, sc, sh, fs, ss, io, a1, a2, a3, a4, a5, a6, a7, a8, a9, a10, a11, b12, a13)) : ∃ n, wX_enter_139 post (nI k) rc kc sc sh fs ss io n 0 a1 a2 a3 a4 a5 a6 a7 a8 a9 a10 a11 a12 a13 :=
  pk_loop (fun n i s => wX_enter_139 post (nI k) rc kc sc sh fs ss io n (nI i) a1 a2 a3 a4 a5 a6 a7 a8 a9 a10 a11 s a13) (fun _ _ => True) 3 0 a12 (by omega) trivial
    (fun n s _ => pk_le 3 3 (fun _ => H s) (fun z => absurd z (by omega)))
    (fun n i s hi _ hw => pk_le 3 i (fun z => absurd z (by omega)) (fun _ => ⟨pk_in (k + 1) 11 (by omega) (nI_1 k), nm_e ⟨pk_in i 3 hi, br_c (fun _ => ⟨pk_in i 3 hi, pk_in i 3 hi, nm_e (nm_r (nI_1 i) (hw _ trivial))⟩) (fun _ => ⟨pk_in i 3 hi, nm_e (nm_r (nI_1 i) (hw _ trivial))⟩)⟩⟩))
/-- a thread that doesn't sleep -/
theorem te_e52n {n k t : Nat} {w x4 z : Int32} (hk : k < 10) (ht : t < 3) (h8 : a8 k = z) (hb : ¬ ((z >>> (nI t &&& 31)) &&& 1) = 1) (H : wX_enter_52 post (nI k) w rc kc sc sh fs ss io a1 a2 a3 a4 a5 a6 a7 a8 a9 a10 a11 a12 a13 n x4 (nI (t + 1))) : wX_enter_52 post (nI k) w rc kc sc sh fs ss io a1 a2 a3 a4 a5 a6 a7 a8 a9 a10 a11 a12 a13 (n + 1) x4 (nI t) :=
  pk_le 3 t (fun z => absurd z (by omega)) (fun _ => ⟨pk_in k 11 (by omega), te_nextA ht (fun r => ⟨pk_in k 11 (by omega), br_f (by rw [te_at (by omega) h8]; exact hb) (nm_r (nI_1 t) H)⟩)⟩)
/-- the end of the loop over the threads -/
theorem te_e52e {n k : Nat} {w x4 : Int32} (hk : k < 10) (H : ∀ b12, post (rc, kc, sc, sh, fs, ss, io, a1, a2, a3, a4, a5, a6, a7, upd a8 (k + 1) x4, upd a9 (k + 1) 0, a10, a11, b12, a13)) : wX_enter_52 post (nI k) w rc kc sc sh fs ss io a1 a2 a3 a4 a5 a6 a7 a8 a9 a10 a11 a12 a13 (n + 1) x4 (nI 3) :=
  pk_le 3 3 (fun _ => ⟨pk_in (k + 1) 11 (by omega) (nI_1 k), nm_r (e' := upd a8 (k + 1) x4) (by rw [te_cl1 (by omega)]) ⟨pk_in (k + 1) 11 (by omega) (nI_1 k), nm_r (e' := upd a9 (k + 1) 0) (by rw [te_cl1 (by omega)]) (te_e139 hk H)⟩⟩) (fun z => absurd z (by omega))
/-- thread 0 sleeps, thread 2 takes its step: does it go on sleeping? -/
theorem te_e52s {n k : Nat} {p q c : Int32} (hk : k < 10) (h1 : a1 0 = 1) (h2 : a2 0 = p ∧ a2 6 = q) (h3 : a3 0 = 1 ∧ a3 6 = c) (hp : te_4 p) (hq : te_4 q) (h7 : a7 k = 0) (h8 : a8 k = 1) (H : wX_enter_52 post (nI k) 6 rc kc sc sh fs ss io a1 a2 a3 a4 a5 a6 a7 a8 a9 a10 a11 a12 a13 n (if te_td p q c = 0 then 1 else 0) (nI 1)) : wX_enter_52 post (nI k) 6 rc kc sc sh fs ss io a1 a2 a3 a4 a5 a6 a7 a8 a9 a10 a11 a12 a13 (n + 1) 0 (nI 0) := by
  refine pk_le 3 0 (fun z => absurd z (by omega)) (fun _ => ⟨pk_in k 11 (by omega), te_nextY (t := 0) (w := 0) (kk := 0) (d' := 0) (by decide) (te_at (by omega) h7) h1 (by decide) (by decide) (by decide) ⟨pk_in k 11 (by omega), br_t (by rw [te_at (by omega) h8]; decide) (br_f (by decide) (te_tied h2 h3 hp hq ?_))⟩⟩)
  by_cases e : te_td p q c = 0
  · rw [if_pos e] at H
    exact br_t e (nm_r (e' := 1) (by decide) (nm_r (nI_1 0) H))
  · rw [if_neg e] at H
    exact br_f e (nm_r (nI_1 0) H)
/-- which of the sleepers stay asleep -/
def te_still (p q c z d w stl : Int32) : Prop := (z = 0 ∧ stl = 0) ∨ (z = 1 ∧ d = 0 ∧ w = 6 ∧ stl = (if te_td p q c = 0 then 1 else 0))
theorem te_e52 {k : Nat} {p q c z d w stl : Int32} (hk : k < 10) (h1 : a1 0 = 1) (h2 : a2 0 = p ∧ a2 6 = q) (h3 : a3 0 = 1 ∧ a3 6 = c) (hp : te_4 p) (hq : te_4 q) (h7 : a7 k = d) (h8 : a8 k = z) (hs : te_still p q c z d w stl) (H : ∀ b12, post (rc, kc, sc, sh, fs, ss, io, a1, a2, a3, a4, a5, a6, a7, upd a8 (k + 1) stl, upd a9 (k + 1) 0, a10, a11, b12, a13)) : ∃ n, wX_enter_52 post (nI k) w rc kc sc sh fs ss io a1 a2 a3 a4 a5 a6 a7 a8 a9 a10 a11 a12 a13 n 0 0 := by
  refine ⟨4, ?_⟩
  rcases hs with ⟨e1, e2⟩ | ⟨e1, e2, e3, e4⟩
  · subst e1 e2
    exact te_e52n (t := 0) hk (by decide) h8 (by decide) (te_e52n (t := 1) hk (by decide) h8 (by decide) (te_e52n (t := 2) hk (by decide) h8 (by decide) (te_e52e hk H)))
  · subst e1 e2 e3
    rw [e4] at H
    exact te_e52s hk h1 h2 h3 hp hq h7 h8 (te_e52n (t := 1) hk (by decide) h8 (by decide) (te_e52n (t := 2) hk (by decide) h8 (by decide) (te_e52e hk H)))
theorem te_enter {k t w : Nat} {p q c tt cc pp xx st d d' z stl : Int32} (hk : k < 9) (h1 : a1 0 = 1) (h2 : a2 0 = p ∧ a2 6 = q) (h3 : a3 0 = 1 ∧ a3 6 = c) (hp : te_4 p) (hq : te_4 q)
    (hw : w < 9) (ht : nI w / 3 = tt) (w3 : a3 w = cc) (w2 : a2 w = pp) (w4 : a4 w = xx) (hpp : te_4 pp) (h6 : a6 k = st) (h7 : a7 k = d) (h8 : a8 k = z) (hd : d + ((1 : Int32) <<< ((2 * nI t) &&& 31)) = d') (hs : te_still p q c z d (nI w) stl)
    (H : ∀ b12, post (rc, kc, sc, sh, fs, ss, io, a1, a2, a3, a4, a5, upd a6 (k + 1) (te_af tt cc pp xx st), upd a7 (k + 1) d', upd a8 (k + 1) stl, upd a9 (k + 1) 0, upd a10 k (nI w), a11, b12, a13)) : wpX_enter post (rc, kc, sc, sh, fs, ss, io, a1, a2, a3, a4, a5, a6, a7, a8, a9, a10, a11, a12, a13) (nI k) (nI t) (nI w) := by
  have i11 : vp_in (nI k + 1) 11 := pk_in (k + 1) 11 (by omega) (nI_1 k)
  refine ⟨pk_in k 11 (by omega), te_after hw ht w3 w2 w4 hpp ⟨i11, nm_r (e' := upd a6 (k + 1) (te_af tt cc pp xx st)) ?_ ⟨pk_in k 11 (by omega), i11, nm_r (e' := upd a7 (k + 1) d') ?_ ⟨pk_in k 10 (by omega), nm_r (e' := upd a10 k (nI w)) ?_ (te_e52 (by omega) h1 h2 h3 hp hq ?_ h8 hs H)⟩⟩⟩⟩
  · rw [te_cl1 (by omega), te_at (by omega) h6]
  · rw [te_cl1 (by omega), te_at (by omega) h7, hd]
  · rw [te_cl (by omega)]
  · rw [pk_un (by omega)]; exact h7
end
end
section
section
variable {post : St2 → Prop} {qo : Int32 → Prop} {v rc kc sc sh fs ss io : Int32} {a1 a2 a3 a4 a5 a6 a7 a8 a9 a10 a11 a12 a13 : Nat → Int32}
theorem te_f190s {n j : Nat} {x5 x6 : Int32} (hj : j < 2) (H : ∀ y5 y6, wX_finish_190 post (nI 2) rc kc sc sh fs ss io a1 a2 a3 a4 a5 a6 a7 a8 a9 a10 a11 a12 a13 n y5 y6 (nI (j + 1))) : wX_finish_190 post (nI 2) rc kc sc sh fs ss io a1 a2 a3 a4 a5 a6 a7 a8 a9 a10 a11 a12 a13 (n + 1) x5 x6 (nI j) :=
  pk_le 2 j (fun z => absurd z (by omega)) (fun _ => ⟨pk_in j 10 (by omega), br_c
    (fun _ => ⟨pk_in j 10 (by omega), br_c (fun _ => nm_r (nI_1 j) (H _ _)) (fun _ => nm_r (nI_1 j) (H _ _))⟩)
    (fun _ => ⟨pk_in j 10 (by omega), br_c (fun _ => nm_r (nI_1 j) (H _ _)) (fun _ => nm_r (nI_1 j) (H _ _))⟩)⟩)
theorem te_f190e {n : Nat} {x5 x6 : Int32} (H : ∀ io', post (rc, kc, sc, sh, fs, ss, io', a1, a2, a3, a4, a5, a6, a7, a8, a9, a10, a11, a12, a13)) : wX_finish_190 post (nI 2) rc kc sc sh fs ss io a1 a2 a3 a4 a5 a6 a7 a8 a9 a10 a11 a12 a13 (n + 1) x5 x6 (nI 2) :=
  pk_le 2 2 (fun _ => br_c (fun _ => br_c (fun _ => H 0) (fun _ => H 1)) (fun _ => H 1)) (fun z => absurd z (by omega))
theorem te_f190a {x5 x6 : Int32} (H : ∀ io', post (rc, kc, sc, sh, fs, ss, io', a1, a2, a3, a4, a5, a6, a7, a8, a9, a10, a11, a12, a13)) : ∃ n, wX_finish_190 post (nI 2) rc kc sc sh fs ss io a1 a2 a3 a4 a5 a6 a7 a8 a9 a10 a11 a12 a13 n x5 x6 0 :=
  ⟨3, te_f190s (j := 0) (by decide) (fun _ _ => te_f190s (j := 1) (by decide) (fun _ _ => te_f190e H))⟩
theorem te_f190b (hf : fs = 6) (hs : ss = 0) (h0 : a10 0 = 6) (h1 : a10 1 = 0) (H : post (rc, kc, sc, sh, fs, ss, 1, a1, a2, a3, a4, a5, a6, a7, a8, a9, a10, a11, a12, a13)) : ∃ n, wX_finish_190 post (nI 2) rc kc sc sh fs ss io a1 a2 a3 a4 a5 a6 a7 a8 a9 a10 a11 a12 a13 n (nI 2) (nI 2) 0 := by
  have e0 : a10 (0 : Int32).toNatClampNeg = 6 := h0
  have e1 : a10 (nI 1).toNatClampNeg = 0 := te_at (by decide) h1
  refine ⟨3, pk_le 2 0 (fun z => absurd z (by omega)) (fun _ => ⟨pk_in 0 10 (by decide), br_t (by rw [e0, hf]) ⟨pk_in 0 10 (by decide), br_f (by rw [e0, hs]; decide) (nm_r (e' := nI 1) (by decide) ?_)⟩⟩)⟩
  refine pk_le 2 1 (fun z => absurd z (by omega)) (fun _ => ⟨pk_in 1 10 (by decide), br_f (by rw [e1, hf]; decide) ⟨pk_in 1 10 (by decide), br_t (by rw [e1, hs]) (nm_r (e' := nI 2) (by decide) ?_)⟩⟩)
  exact pk_le 2 2 (fun _ => br_c (fun _ => pk_le 1 0 (fun z => absurd z (by omega)) (fun _ => H)) (fun _ => H)) (fun z => absurd z (by omega))
theorem te_f190 (H : ∀ io', (fs = 6 → ss = 0 → a10 0 = 6 → a10 1 = 0 → io' = 1) → post (rc, kc, sc, sh, fs, ss, io', a1, a2, a3, a4, a5, a6, a7, a8, a9, a10, a11, a12, a13)) : ∃ n, wX_finish_190 post (nI 2) rc kc sc sh fs ss io a1 a2 a3 a4 a5 a6 a7 a8 a9 a10 a11 a12 a13 n (nI 2) (nI 2) 0 := by
  by_cases hc : fs = 6 ∧ ss = 0 ∧ a10 0 = 6 ∧ a10 1 = 0
  · exact te_f190b hc.1 hc.2.1 hc.2.2.1 hc.2.2.2 (H 1 (fun _ _ _ _ => rfl))
  · exact te_f190a (fun io' => H io' (fun u1 u2 u3 u4 => absurd ⟨u1, u2, u3, u4⟩ hc))
theorem te_f140 {st : Int32} (H : ∀ io' b13, (fs = 6 → ss = 0 → a10 0 = 6 → a10 1 = 0 → io' = 1) → post (rc, kc, sc, sh, fs, ss, io', a1, a2, a3, a4, a5, a6, a7, a8, a9, a10, a11, a12, b13)) : ∃ n, wX_finish_140 post (nI 2) st rc kc sc sh fs ss io n 0 a1 a2 a3 a4 a5 a6 a7 a8 a9 a10 a11 a12 a13 :=
  pk_loop (fun n i s => wX_finish_140 post (nI 2) st rc kc sc sh fs ss io n (nI i) a1 a2 a3 a4 a5 a6 a7 a8 a9 a10 a11 a12 s) (fun _ _ => True) 3 0 a13 (by omega) trivial
    (fun n s _ => pk_le 3 3 (fun _ => te_f190 (fun io' h => H io' s h)) (fun z => absurd z (by omega)))
    (fun n i s hi _ hw => pk_le 3 i (fun z => absurd z (by omega)) (fun _ => ⟨pk_in i 3 hi, pk_in i 3 hi, nm_e (nm_r (nI_1 i) (hw _ trivial))⟩))
theorem te_finish {r : Nat} {st : Int32} (h1 : a1 0 = 1 ∧ a1 1 = 0 ∧ a1 2 = 1) (h6 : a6 2 = st) (hr : te_R st = nI r) (h512 : r < 512)
    (H : ∀ io' b13, (fs = 6 → ss = 0 → a10 0 = 6 → a10 1 = 0 → io' = 1) → post (rc + 1, kc + 1, sc, sh, fs, ss, io', a1, a2, a3, a4, a5, a6, a7, a8, a9, a10, upd a11 r (a11 r + 1), a12, b13)) : wpX_finish post (rc, kc, sc, sh, fs, ss, io, a1, a2, a3, a4, a5, a6, a7, a8, a9, a10, a11, a12, a13) (nI 2) := by
  have e11 : upd a11 (nI r).toNatClampNeg (a11 (nI r).toNatClampNeg + 1) = upd a11 r (a11 r + 1) := by rw [te_cl (by omega)]
  refine nm_e (nm_e (br_t (by rw [h1.1, h1.2.1, h1.2.2]; decide) ?_))
  exact br_f (by decide) ⟨pk_in 2 11 (by decide), nm_r (te_at (by decide) h6) (nm_r hr ⟨pk_in r 512 h512, pk_in r 512 h512, nm_r e11 (te_f140 H)⟩)⟩
theorem te_c49 (H : ∀ b12 b13, post (rc, kc, sc, sh, fs, ss, io, a1, a2, a3, a4, a5, a6, a7, a8, a9, a10, a11, b12, b13)) : ∃ n, wX_clear_49 post rc kc sc sh fs ss io n 0 a1 a2 a3 a4 a5 a6 a7 a8 a9 a10 a11 a12 a13 :=
  pk_loop (σ := (Nat → Int32) × (Nat → Int32)) (fun n i s => wX_clear_49 post rc kc sc sh fs ss io n (nI i) a1 a2 a3 a4 a5 a6 a7 a8 a9 a10 a11 s.1 s.2) (fun _ _ => True) 3 0 (a12, a13) (by omega) trivial
    (fun n s _ => pk_le 3 3 (fun _ => H s.1 s.2) (fun z => absurd z (by omega)))
    (fun n i s hi _ hw => pk_le 3 i (fun z => absurd z (by omega)) (fun _ => ⟨pk_in i 3 hi, pk_in i 3 hi, nm_e ⟨pk_in i 3 hi, nm_e (nm_r (nI_1 i) (hw (_, _) trivial))⟩⟩))
theorem te_clear (H : ∀ b11 b12 b13, te_F (fun _ => 0) b11 → post (0, 0, 0, 0, fs, ss, 0, a1, a2, a3, a4, a5, a6, a7, a8, a9, a10, b11, b12, b13)) : wpX_clear post (rc, kc, sc, sh, fs, ss, io, a1, a2, a3, a4, a5, a6, a7, a8, a9, a10, a11, a12, a13) :=
  pk_loop (fun n i s => wX_clear_27 post 0 0 0 0 fs ss 0 n (nI i) a1 a2 a3 a4 a5 a6 a7 a8 a9 a10 s a12 a13) (fun i s => ∀ j, j < i → s j = 0) 512 0 a11 (by omega) (fun j hj => absurd hj (by omega))
    (fun n s h => pk_le 512 512 (fun _ => te_c49 (fun b12 b13 => H s b12 b13 h)) (fun z => absurd z (by omega)))
    (fun n i s hi h hw => pk_le 512 i (fun z => absurd z (by omega)) (fun _ => ⟨pk_in i 512 hi, nm_r (e' := upd s i 0) (by rw [te_cl (by omega)]) (nm_r (nI_1 i) (hw _ (fun j hj => by
      by_cases e : j = i
      · subst e; exact pk_us
      · rw [pk_un e]; exact h j (by omega))))⟩))
end
end
section
section
variable {post : St2 → Prop} {qo : Int32 → Prop} {v rc kc sc sh fs ss io : Int32} {a1 a2 a3 a4 a5 a6 a7 a8 a9 a10 a11 a12 a13 : Nat → Int32}
/-- a turn that passes a thread over -/
theorem te_xskip {n i k t : Nat} {d z1 kk : Int32} {B9 : Nat → Int32} (hi : i < 1000) (hk : k < 3) (ht : t < 3) (h9 : a9 k = nI t) (h7 : a7 k = d) (h1 : a1 t = z1) (hd : (d >>> ((2 * nI t) &&& 31)) &&& 3 = kk) (hc : z1 ≤ kk ∨ ¬ ((a8 k >>> (nI t &&& 31)) &&& 1) = 0)
    (e9 : upd a9 k (nI (t + 1)) = B9) (H : wX_explore_60 post v n (nI k) (nI (i + 1)) rc kc sc sh fs ss io a1 a2 a3 a4 a5 a6 a7 a8 B9 a10 a11 a12 a13) : wX_explore_60 post v (n + 1) (nI k) (nI i) rc kc sc sh fs ss io a1 a2 a3 a4 a5 a6 a7 a8 a9 a10 a11 a12 a13 := by
  have i11 : vp_in (nI k) 11 := pk_in k 11 (by omega)
  have e9' : upd a9 (nI k).toNatClampNeg (a9 (nI k).toNatClampNeg + 1) = B9 := by rw [te_cl (by omega), h9, nI_1]; exact e9
  refine pk_le 100000 i (fun z => absurd z (by omega)) (fun _ => br_f (nI_pos (by omega)) ⟨i11, nm_r (te_at (by omega) h9) (pk_eq t 3 (fun z => absurd z (by omega)) (fun _ => ⟨i11, i11, nm_r e9' ⟨i11, ?_⟩⟩))⟩)
  rcases hc with hc | hc
  · exact te_nextN ht (te_at (by omega) h7) h1 hd hc (br_t (by decide) (br_t rfl (nm_r (nI_1 i) H)))
  · refine te_nextC ht (te_at (by omega) h7) h1 hd (fun _ => br_t (by decide) (br_t rfl (nm_r (nI_1 i) H))) (fun _ => br_c (fun _ => br_t rfl (nm_r (nI_1 i) H)) (fun _ => ⟨i11, br_f ?_ (br_t rfl (nm_r (nI_1 i) H))⟩))
    rw [te_cl (by omega)]
    exact hc
/-- a turn that takes a thread's step -/
theorem te_xenter {n i k t w : Nat} {p q c tt cc pp xx st d d' z stl z1 kk : Int32} {B6 B7 B8 B9 B10 : Nat → Int32} (hi : i < 1000) (hk : k < 3) (ht : t < 3) (hA1 : a1 0 = 1) (h2 : a2 0 = p ∧ a2 6 = q) (h3 : a3 0 = 1 ∧ a3 6 = c) (hp : te_4 p) (hq : te_4 q)
    (h9 : a9 k = nI t) (h6 : a6 k = st) (h7 : a7 k = d) (h8 : a8 k = z) (h1 : a1 t = z1) (hd : (d >>> ((2 * nI t) &&& 31)) &&& 3 = kk) (hc : ¬ z1 ≤ kk) (hw : (3 * nI t) + kk = nI w) (hz : ((z >>> (nI t &&& 31)) &&& 1) = 0)
    (hw9 : w < 9) (htt : nI w / 3 = tt) (w3 : a3 w = cc) (w2 : a2 w = pp) (w4 : a4 w = xx) (hpp : te_4 pp) (hd' : d + ((1 : Int32) <<< ((2 * nI t) &&& 31)) = d') (hs : te_still p q c z d (nI w) stl)
    (e6 : upd a6 (k + 1) (te_af tt cc pp xx st) = B6) (e7 : upd a7 (k + 1) d' = B7) (e80 : v = 0 → upd a8 (k + 1) stl = B8) (e81 : ¬ v = 0 → upd (upd a8 (k + 1) stl) k (z ||| ((1 : Int32) <<< (nI t &&& 31))) = B8) (e9 : upd (upd a9 k (nI (t + 1))) (k + 1) 0 = B9) (e10 : upd a10 k (nI w) = B10)
    (H : ∀ b12, wX_explore_60 post v n (nI (k + 1)) (nI (i + 1)) rc kc sc sh fs ss io a1 a2 a3 a4 a5 B6 B7 B8 B9 B10 a11 b12 a13) : wX_explore_60 post v (n + 1) (nI k) (nI i) rc kc sc sh fs ss io a1 a2 a3 a4 a5 a6 a7 a8 a9 a10 a11 a12 a13 := by
  have i11 : vp_in (nI k) 11 := pk_in k 11 (by omega)
  have e9' : upd a9 (nI k).toNatClampNeg (a9 (nI k).toNatClampNeg + 1) = upd a9 k (nI (t + 1)) := by rw [te_cl (by omega), h9, nI_1]
  subst e6 e7 e9 e10
  refine pk_le 100000 i (fun z => absurd z (by omega)) (fun _ => br_f (nI_pos (by omega)) ⟨i11, nm_r (te_at (by omega) h9) (pk_eq t 3 (fun z => absurd z (by omega)) (fun _ => ⟨i11, i11, nm_r e9' ⟨i11, ?_⟩⟩))⟩)
  refine te_nextY ht (te_at (by omega) h7) h1 hd hc hw (br_f (nI_pos (by omega)) ⟨i11, br_t (by rw [te_at (by omega) h8]; exact hz) ?_⟩)
  refine br_f (by decide) ⟨i11, te_can hw9 w2 hpp (br_f (by decide) (te_enter (by omega) hA1 h2 h3 hp hq hw9 htt w3 w2 w4 hpp h6 h7 h8 hd' hs (fun b12 => ?_)))⟩
  refine br_c (fun hv => nm_r (nI_1 k) (nm_r (nI_1 i) ?_)) (fun hv => ⟨i11, i11, nm_r (e' := B8) ?_ (nm_r (nI_1 k) (nm_r (nI_1 i) (H b12)))⟩)
  · rw [e80 hv]
    exact H b12
  · rw [← e81 hv, te_cl (by omega), pk_un (f := a8) (by omega), h8]
/-- the end of a depth that isn't the end of a run -/
theorem te_xpop {n i k : Nat} {X : Int32} (hi : i < 1000) (hk : k < 3) (h9 : a9 k = nI 3) (hX : nI k + (-1) = X) (hE : ∀ ro : Int32 → Prop, ro 0 → wpX_isEnd ro (rc, kc, sc, sh, fs, ss, io, a1, a2, a3, a4, a5, a6, a7, a8, a9, a10, a11, a12, a13) (nI k))
    (H : wX_explore_60 post v n X (nI (i + 1)) rc kc sc sh fs ss io a1 a2 a3 a4 a5 a6 a7 a8 a9 a10 a11 a12 a13) : wX_explore_60 post v (n + 1) (nI k) (nI i) rc kc sc sh fs ss io a1 a2 a3 a4 a5 a6 a7 a8 a9 a10 a11 a12 a13 := by
  have i11 : vp_in (nI k) 11 := pk_in k 11 (by omega)
  exact pk_le 100000 i (fun z => absurd z (by omega)) (fun _ => br_f (nI_pos (by omega)) ⟨i11, nm_r (te_at (by omega) h9) (br_t rfl (hE _ (br_t rfl (nm_r hX (nm_r (nI_1 i) H)))))⟩)
/-- the end of a run -/
theorem te_xfin {n i r : Nat} {st : Int32} (hi : i < 1000) (h9 : a9 2 = nI 3) (h7 : a7 2 = 17) (h1 : a1 0 = 1 ∧ a1 1 = 0 ∧ a1 2 = 1) (h6 : a6 2 = st) (hr : te_R st = nI r) (h512 : r < 512)
    (H : ∀ io' b13, (fs = 6 → ss = 0 → a10 0 = 6 → a10 1 = 0 → io' = 1) → wX_explore_60 post v n (nI 1) (nI (i + 1)) (rc + 1) (kc + 1) sc sh fs ss io' a1 a2 a3 a4 a5 a6 a7 a8 a9 a10 (upd a11 r (a11 r + 1)) a12 b13) : wX_explore_60 post v (n + 1) (nI 2) (nI i) rc kc sc sh fs ss io a1 a2 a3 a4 a5 a6 a7 a8 a9 a10 a11 a12 a13 := by
  have i11 : vp_in (nI 2) 11 := pk_in 2 11 (by omega)
  exact pk_le 100000 i (fun z => absurd z (by omega)) (fun _ => br_f (nI_pos (by omega)) ⟨i11, nm_r (te_at (by omega) h9) (br_t rfl (te_end17 (by omega) h7 h1 (br_f (by decide) (te_finish h1 h6 hr h512 (fun io' b13 h => nm_r (e' := nI 1) (by decide) (nm_r (nI_1 i) (H io' b13 h)))))))⟩)
/-- the end of it all -/
theorem te_xdone {n i : Nat} {X : Int32} (hi : i < 1000) (hX : X < 0) (H : post (rc, kc, sc, sh, fs, ss, io, a1, a2, a3, a4, a5, a6, a7, a8, a9, a10, a11, a12, a13)) : wX_explore_60 post v (n + 1) X (nI i) rc kc sc sh fs ss io a1 a2 a3 a4 a5 a6 a7 a8 a9 a10 a11 a12 a13 :=
  pk_le 100000 i (fun z => absurd z (by omega)) (fun _ => br_t hX H)
end
end
section
section
variable {post : St2 → Prop} {v rc kc sc sh fs ss io : Int32} {a1 a2 a3 a4 a5 a6 a7 a8 a9 a10 a11 a12 a13 : Nat → Int32}
theorem te_run1 {p q c x y s st0 s1 s2 d1 d2 z0 z1 z2 t1 t2 : Int32} {g6 g7 g8 g9 : Nat → Int32} {n r : Nat} (hA : te_A p q c x y s a1 a2 a3 a4 a5) (hp : te_4 p) (hq : te_4 q) (hv : v = 0 ∧ z0 = 0 ∨ v = 1 ∧ z0 = 1)
    (hr : te_R (te_af 2 c q y (te_af 0 1 p x st0)) = nI r) (h512 : r < 512)
    (H : ∀ (io' s1' s2' d1' d2' z1' z2' t1' t2' : Int32) (b10 b12 b13 : Nat → Int32), wX_explore_60 post v n (nI 0) (nI 10) (rc + 1) (kc + 1) sc sh fs ss io' a1 a2 a3 a4 a5 (te_3 st0 s1' s2' g6) (te_3 0 d1' d2' g7) (te_3 z0 z1' z2' g8) (te_3 (nI 2) t1' t2' g9) b10 (upd a11 r (a11 r + 1)) b12 b13) :
    wX_explore_60 post v (n + 10) (nI 0) (nI 0) rc kc sc sh fs ss io a1 a2 a3 a4 a5 (te_3 st0 s1 s2 g6) (te_3 0 d1 d2 g7) (te_3 0 z1 z2 g8) (te_3 (nI 0) t1 t2 g9) a10 a11 a12 a13 := by
  obtain ⟨h1, h2, h3, h4, h5⟩ := hA
  refine te_xenter (k := 0) (t := 0) (w := 0) (d := 0) (d' := 1) (z := 0) (stl := 0) (tt := 0) (kk := 0) (B6 := te_3 st0 (te_af 0 1 p x st0) s2 g6) (B7 := te_3 0 1 d2 g7) (B8 := te_3 z0 0 z2 g8) (B9 := te_3 (nI 1) 0 t2 g9) (B10 := upd a10 0 (nI 0)) (by omega) (by omega) (by omega) h1.1 h2 h3 hp hq rfl rfl rfl rfl h1.1 (by decide) (by decide) (by decide) (by decide) (by omega) (by decide) h3.1 h2.1 h4.1 hp (by decide) (Or.inl ⟨rfl, rfl⟩) te_3u1 te_3u1 ?_ ?_ ?_ rfl (fun b12 => ?_)
  · intro e
    rcases hv with ⟨_, e0⟩ | ⟨e1, _⟩
    · subst e0; exact te_3u1
    · subst e1; exact absurd e (by decide)
  · intro e
    rcases hv with ⟨e1, _⟩ | ⟨_, e0⟩
    · exact absurd e1 e
    · subst e0
      exact (congrArg (fun f => upd f 0 ((0 : Int32) ||| ((1 : Int32) <<< (nI 0 &&& 31)))) te_3u1).trans te_3u0
  · exact (congrArg (fun f => upd f 1 (0 : Int32)) te_3u0).trans te_3u1
  refine te_xskip (k := 1) (t := 0) (d := 1) (kk := 1) (by omega) (by omega) (by omega) rfl rfl h1.1 (by decide) (Or.inl (by decide)) te_3u1 ?_
  refine te_xskip (k := 1) (t := 1) (d := 1) (kk := 0) (by omega) (by omega) (by omega) rfl rfl h1.2.1 (by decide) (Or.inl (by decide)) te_3u1 ?_
  refine te_xenter (k := 1) (t := 2) (w := 6) (d := 1) (d' := 17) (z := 0) (stl := 0) (tt := 2) (kk := 0) (B6 := te_3 st0 (te_af 0 1 p x st0) (te_af 2 c q y (te_af 0 1 p x st0)) g6) (B7 := te_3 0 1 17 g7) (B8 := te_3 z0 (if v = 0 then 0 else (0 : Int32) ||| ((1 : Int32) <<< (nI 2 &&& 31))) 0 g8) (B9 := te_3 (nI 1) (nI 3) 0 g9) (B10 := upd (upd a10 0 (nI 0)) 1 (nI 6)) (by omega) (by omega) (by omega) h1.1 h2 h3 hp hq rfl rfl rfl rfl h1.2.2 (by decide) (by decide) (by decide) (by decide) (by omega) (by decide) h3.2 h2.2 h4.2 hq (by decide) (Or.inl ⟨rfl, rfl⟩) te_3u2 te_3u2 ?_ ?_ ?_ rfl (fun b12 => ?_)
  · intro e
    rw [if_pos e]
    exact te_3u2
  · intro e
    rw [if_neg e]
    exact (congrArg (fun f => upd f 1 ((0 : Int32) ||| ((1 : Int32) <<< (nI 2 &&& 31)))) te_3u2).trans te_3u1
  · exact (congrArg (fun f => upd f 2 (0 : Int32)) te_3u1).trans te_3u2
  refine te_xskip (k := 2) (t := 0) (d := 17) (kk := 1) (by omega) (by omega) (by omega) rfl rfl h1.1 (by decide) (Or.inl (by decide)) te_3u2 ?_
  refine te_xskip (k := 2) (t := 1) (d := 17) (kk := 0) (by omega) (by omega) (by omega) rfl rfl h1.2.1 (by decide) (Or.inl (by decide)) te_3u2 ?_
  refine te_xskip (k := 2) (t := 2) (d := 17) (kk := 1) (by omega) (by omega) (by omega) rfl rfl h1.2.2 (by decide) (Or.inl (by decide)) te_3u2 ?_
  refine te_xfin (by omega) rfl rfl h1 rfl hr h512 (fun io' b13 _ => ?_)
  refine te_xpop (k := 1) (X := nI 0) (by omega) (by omega) rfl (by decide) (fun ro hro => te_end1 (by omega) rfl h1 h2.2 hq hro) ?_
  refine te_xskip (k := 0) (t := 1) (d := 0) (kk := 0) (by omega) (by omega) (by omega) rfl rfl h1.2.1 (by decide) (Or.inl (by decide)) te_3u0 ?_
  exact H _ _ _ _ _ _ _ _ _ _ _ _
/-- the second run, gone to its end -/
theorem te_run2a {p q c x y s st0 s1 s2 d1 d2 z0 z1 z2 t1 t2 : Int32} {g6 g7 g8 g9 : Nat → Int32} {n r : Nat} (hA : te_A p q c x y s a1 a2 a3 a4 a5) (hp : te_4 p) (hq : te_4 q) (hz : z0 = 0 ∨ z0 = 1) (hs : te_still p q c z0 0 (nI 6) 0)
    (hr : te_R (te_af 0 1 p x (te_af 2 c q y st0)) = nI r) (h512 : r < 512)
    (H : ∀ (io' : Int32) (b6 b7 b8 b9 b10 b12 b13 : Nat → Int32), (fs = 6 → ss = 0 → io' = 1) → post (rc + 1, kc + 1, sc, sh, fs, ss, io', a1, a2, a3, a4, a5, b6, b7, b8, b9, b10, upd a11 r (a11 r + 1), b12, b13)) :
    wX_explore_60 post v (n + 11) (nI 0) (nI 10) rc kc sc sh fs ss io a1 a2 a3 a4 a5 (te_3 st0 s1 s2 g6) (te_3 0 d1 d2 g7) (te_3 z0 z1 z2 g8) (te_3 (nI 2) t1 t2 g9) a10 a11 a12 a13 := by
  obtain ⟨h1, h2, h3, h4, h5⟩ := hA
  refine te_xenter (k := 0) (t := 2) (w := 6) (d := 0) (d' := 16) (z := z0) (stl := 0) (tt := 2) (kk := 0) (B6 := te_3 st0 (te_af 2 c q y st0) s2 g6) (B7 := te_3 0 16 d2 g7) (B8 := te_3 (if v = 0 then z0 else z0 ||| ((1 : Int32) <<< (nI 2 &&& 31))) 0 z2 g8) (B9 := te_3 (nI 3) 0 t2 g9) (B10 := upd a10 0 (nI 6)) (by omega) (by omega) (by omega) h1.1 h2 h3 hp hq rfl rfl rfl rfl h1.2.2 (by decide) (by decide) (by decide) ?_ (by omega) (by decide) h3.2 h2.2 h4.2 hq (by decide) hs te_3u1 te_3u1 ?_ ?_ ?_ rfl (fun b12 => ?_)
  · rcases hz with e | e
    · subst e; decide
    · subst e; decide
  · intro e
    rw [if_pos e]
    exact te_3u1
  · intro e
    rw [if_neg e]
    exact (congrArg (fun f => upd f 0 (z0 ||| ((1 : Int32) <<< (nI 2 &&& 31)))) te_3u1).trans te_3u0
  · exact (congrArg (fun f => upd f 1 (0 : Int32)) te_3u0).trans te_3u1
  refine te_xenter (k := 1) (t := 0) (w := 0) (d := 16) (d' := 17) (z := 0) (stl := 0) (tt := 0) (kk := 0) (B6 := te_3 st0 (te_af 2 c q y st0) (te_af 0 1 p x (te_af 2 c q y st0)) g6) (B7 := te_3 0 16 17 g7) (B8 := te_3 (if v = 0 then z0 else z0 ||| ((1 : Int32) <<< (nI 2 &&& 31))) (if v = 0 then 0 else (0 : Int32) ||| ((1 : Int32) <<< (nI 0 &&& 31))) 0 g8) (B9 := te_3 (nI 3) (nI 1) 0 g9) (B10 := upd (upd a10 0 (nI 6)) 1 (nI 0)) (by omega) (by omega) (by omega) h1.1 h2 h3 hp hq rfl rfl rfl rfl h1.1 (by decide) (by decide) (by decide) (by decide) (by omega) (by decide) h3.1 h2.1 h4.1 hp (by decide) (Or.inl ⟨rfl, rfl⟩) te_3u2 te_3u2 ?_ ?_ ?_ rfl (fun b12 => ?_)
  · intro e
    rw [if_pos e, if_pos e]
    exact te_3u2
  · intro e
    rw [if_neg e, if_neg e]
    exact (congrArg (fun f => upd f 1 ((0 : Int32) ||| ((1 : Int32) <<< (nI 0 &&& 31)))) te_3u2).trans te_3u1
  · exact (congrArg (fun f => upd f 2 (0 : Int32)) te_3u1).trans te_3u2
  refine te_xskip (k := 2) (t := 0) (d := 17) (kk := 1) (by omega) (by omega) (by omega) rfl rfl h1.1 (by decide) (Or.inl (by decide)) te_3u2 ?_
  refine te_xskip (k := 2) (t := 1) (d := 17) (kk := 0) (by omega) (by omega) (by omega) rfl rfl h1.2.1 (by decide) (Or.inl (by decide)) te_3u2 ?_
  refine te_xskip (k := 2) (t := 2) (d := 17) (kk := 1) (by omega) (by omega) (by omega) rfl rfl h1.2.2 (by decide) (Or.inl (by decide)) te_3u2 ?_
  refine te_xfin (by omega) rfl rfl h1 rfl hr h512 (fun io' b13 hio => ?_)
  refine te_xskip (k := 1) (t := 1) (d := 16) (kk := 0) (by omega) (by omega) (by omega) rfl rfl h1.2.1 (by decide) (Or.inl (by decide)) te_3u1 ?_
  refine te_xskip (k := 1) (t := 2) (d := 16) (kk := 1) (by omega) (by omega) (by omega) rfl rfl h1.2.2 (by decide) (Or.inl (by decide)) te_3u1 ?_
  refine te_xpop (k := 1) (X := nI 0) (by omega) (by omega) rfl (by decide) (fun ro hro => te_end0 (d := 16) (by omega) rfl (by decide) h1 h2.1 hp hro) ?_
  refine te_xpop (k := 0) (X := -1) (by omega) (by omega) rfl (by decide) (fun ro hro => te_end0 (d := 0) (by omega) rfl (by decide) h1 h2.1 hp hro) ?_
  exact te_xdone (by omega) (by decide) (H _ _ _ _ _ _ _ _ (fun u1 u2 => hio u1 u2 rfl rfl))
/-- the second run, asleep -/
theorem te_run2b {p q c x y s st0 s1 s2 d1 d2 z1 z2 t1 t2 : Int32} {g6 g7 g8 g9 : Nat → Int32} {n : Nat} (hA : te_A p q c x y s a1 a2 a3 a4 a5) (hp : te_4 p) (hq : te_4 q) (hs : te_still p q c 1 0 (nI 6) 1)
    (H : ∀ (b6 b7 b8 b9 b10 b12 : Nat → Int32), post (rc, kc, sc, sh, fs, ss, io, a1, a2, a3, a4, a5, b6, b7, b8, b9, b10, a11, b12, a13)) :
    wX_explore_60 post v (n + 7) (nI 0) (nI 10) rc kc sc sh fs ss io a1 a2 a3 a4 a5 (te_3 st0 s1 s2 g6) (te_3 0 d1 d2 g7) (te_3 1 z1 z2 g8) (te_3 (nI 2) t1 t2 g9) a10 a11 a12 a13 := by
  obtain ⟨h1, h2, h3, h4, h5⟩ := hA
  refine te_xenter (k := 0) (t := 2) (w := 6) (d := 0) (d' := 16) (z := 1) (stl := 1) (tt := 2) (kk := 0) (B6 := te_3 st0 (te_af 2 c q y st0) s2 g6) (B7 := te_3 0 16 d2 g7) (B8 := te_3 (if v = 0 then 1 else (1 : Int32) ||| ((1 : Int32) <<< (nI 2 &&& 31))) 1 z2 g8) (B9 := te_3 (nI 3) 0 t2 g9) (B10 := upd a10 0 (nI 6)) (by omega) (by omega) (by omega) h1.1 h2 h3 hp hq rfl rfl rfl rfl h1.2.2 (by decide) (by decide) (by decide) (by decide) (by omega) (by decide) h3.2 h2.2 h4.2 hq (by decide) hs te_3u1 te_3u1 ?_ ?_ ?_ rfl (fun b12 => ?_)
  · intro e
    rw [if_pos e]
    exact te_3u1
  · intro e
    rw [if_neg e]
    exact (congrArg (fun f => upd f 0 ((1 : Int32) ||| ((1 : Int32) <<< (nI 2 &&& 31)))) te_3u1).trans te_3u0
  · exact (congrArg (fun f => upd f 1 (0 : Int32)) te_3u0).trans te_3u1
  refine te_xskip (k := 1) (t := 0) (d := 16) (kk := 0) (by omega) (by omega) (by omega) rfl rfl h1.1 (by decide) (Or.inr ?_) te_3u1 ?_
  · show ¬ (((1 : Int32) >>> (nI 0 &&& 31)) &&& 1) = 0
    decide
  refine te_xskip (k := 1) (t := 1) (d := 16) (kk := 0) (by omega) (by omega) (by omega) rfl rfl h1.2.1 (by decide) (Or.inl (by decide)) te_3u1 ?_
  refine te_xskip (k := 1) (t := 2) (d := 16) (kk := 1) (by omega) (by omega) (by omega) rfl rfl h1.2.2 (by decide) (Or.inl (by decide)) te_3u1 ?_
  refine te_xpop (k := 1) (X := nI 0) (by omega) (by omega) rfl (by decide) (fun ro hro => te_end0 (d := 16) (by omega) rfl (by decide) h1 h2.1 hp hro) ?_
  refine te_xpop (k := 0) (X := -1) (by omega) (by omega) rfl (by decide) (fun ro hro => te_end0 (d := 0) (by omega) rfl (by decide) h1 h2.1 hp hro) ?_
  exact te_xdone (by omega) (by decide) (H _ _ _ _ _ _)
theorem te_st0 {p q c x y : Int32} {s : Nat} (hs : s < 8) (hA : te_A p q c x y (nI s) a1 a2 a3 a4 a5) : upd a6 0 ((a5 0 ||| (a5 1 <<< ((3 : Int32) &&& 31))) ||| (a5 2 <<< ((6 : Int32) &&& 31))) = te_3 (nI (8 * s)) (a6 1) (a6 2) a6 := by
  rw [hA.2.2.2.2.1, hA.2.2.2.2.2.1, hA.2.2.2.2.2.2, te_s0 s hs]
  exact te_3i
/-- both runs are gone to their ends -/
theorem te_ex2 {p q c x y : Int32} {s r1 r2 : Nat} (hs : s < 8) (hA : te_A p q c x y (nI s) a1 a2 a3 a4 a5) (hp : te_4 p) (hq : te_4 q) (hv : v = 0 ∨ v = 1 ∧ te_td p q c = 1)
    (hr1 : te_R (te_af 2 c q y (te_af 0 1 p x (nI (8 * s)))) = nI r1) (h1 : r1 < 512) (hr2 : te_R (te_af 0 1 p x (te_af 2 c q y (nI (8 * s)))) = nI r2) (h2 : r2 < 512)
    (H : ∀ (sc' sh' io' : Int32) (b6 b7 b8 b9 b10 b11 b12 b13 : Nat → Int32), te_F (fun j => (if j = r1 then 1 else 0) + (if j = r2 then 1 else 0)) b11 → (fs = 6 → ss = 0 → io' = 1) → post (2, 2, sc', sh', fs, ss, io', a1, a2, a3, a4, a5, b6, b7, b8, b9, b10, b11, b12, b13)) : wpX_explore post (rc, kc, sc, sh, fs, ss, io, a1, a2, a3, a4, a5, a6, a7, a8, a9, a10, a11, a12, a13) v := by
  refine te_clear (rc := rc) (kc := kc) (sc := sc) (sh := sh) (io := io) (fun b11 b12 b13 hF => nm_r (te_st0 hs hA) (nm_r te_3i (nm_r te_3i (nm_r te_3i ⟨21, ?_⟩))))
  have hF2 := te_Fu h2 (te_Fu h1 hF)
  have hz : ∃ z0 : Int32, (v = 0 ∧ z0 = 0 ∨ v = 1 ∧ z0 = 1) ∧ (z0 = 0 ∨ z0 = 1) ∧ te_still p q c z0 0 (nI 6) 0 := by
    rcases hv with e | ⟨e, et⟩
    · exact ⟨0, Or.inl ⟨e, rfl⟩, Or.inl rfl, Or.inl ⟨rfl, rfl⟩⟩
    · exact ⟨1, Or.inr ⟨e, rfl⟩, Or.inr rfl, Or.inr ⟨rfl, rfl, rfl, by rw [et]; decide⟩⟩
  obtain ⟨z0, hv0, hz0, hst⟩ := hz
  refine te_run1 (n := 11) (z0 := z0) hA hp hq hv0 hr1 h1 (fun io' s1' s2' d1' d2' z1' z2' t1' t2' b10 b12 b13 => ?_)
  refine te_run2a (n := 0) hA hp hq hz0 hst hr2 h2 (fun io' b6 b7 b8 b9 b10 b12 b13 hio => ?_)
  refine H _ _ _ _ _ _ _ _ _ _ _ (fun j hj => ?_) hio
  have e := hF2 j hj
  dsimp only at e
  rw [Nat.zero_add] at e
  exact e
/-- the second run sleeps -/
theorem te_ex1 {p q c x y : Int32} {s r1 : Nat} (hs : s < 8) (hA : te_A p q c x y (nI s) a1 a2 a3 a4 a5) (hp : te_4 p) (hq : te_4 q) (hv : v = 1) (ht : te_td p q c = 0)
    (hr1 : te_R (te_af 2 c q y (te_af 0 1 p x (nI (8 * s)))) = nI r1) (h1 : r1 < 512)
    (H : ∀ (sc' sh' io' : Int32) (b6 b7 b8 b9 b10 b11 b12 b13 : Nat → Int32), te_F (fun j => if j = r1 then 1 else 0) b11 → post (1, 1, sc', sh', fs, ss, io', a1, a2, a3, a4, a5, b6, b7, b8, b9, b10, b11, b12, b13)) : wpX_explore post (rc, kc, sc, sh, fs, ss, io, a1, a2, a3, a4, a5, a6, a7, a8, a9, a10, a11, a12, a13) v := by
  refine te_clear (rc := rc) (kc := kc) (sc := sc) (sh := sh) (io := io) (fun b11 b12 b13 hF => nm_r (te_st0 hs hA) (nm_r te_3i (nm_r te_3i (nm_r te_3i ⟨17, ?_⟩))))
  have hF2 := te_Fu h1 hF
  refine te_run1 (n := 7) (z0 := 1) hA hp hq (Or.inr ⟨hv, rfl⟩) hr1 h1 (fun io' s1' s2' d1' d2' z1' z2' t1' t2' b10 b12 b13 => ?_)
  refine te_run2b (n := 0) hA hp hq (Or.inr ⟨rfl, rfl, rfl, by rw [ht]; decide⟩) (fun b6 b7 b8 b9 b10 b12 => ?_)
  refine H _ _ _ _ _ _ _ _ _ _ _ (fun j hj => ?_)
  have e := hF2 j hj
  dsimp only at e
  rw [Nat.zero_add] at e
  exact e
end
end
section
section
variable {post : St2 → Prop} {po : Int32 → St2 → Prop} {qo : Int32 → Prop} {v rc kc sc sh fs ss io : Int32} {a1 a2 a3 a4 a5 a6 a7 a8 a9 a10 a11 a12 a13 : Nat → Int32}
theorem te_thr {u : St0} {t : Nat} (ht : t < 3) (H : qo 1) : wpX_isThread qo u (nI t) :=
  br_f (nI_pos (by omega)) (pk_le 3 t (fun z => absurd z (by omega)) (fun _ => H))
theorem te_init {s : Nat} (hs : s < 8) (H : ∀ r, po r (rc, kc, sc, sh, fs, ss, io, a1, a2, a3, a4, upd a5 1 (nI s), a6, a7, a8, a9, a10, a11, a12, a13)) : wpX_initial po (rc, kc, sc, sh, fs, ss, io, a1, a2, a3, a4, a5, a6, a7, a8, a9, a10, a11, a12, a13) (nI 1) (nI s) := by
  unfold wpX_initial
  exact te_thr (by decide) (br_f (by decide) (br_f (nI_pos (by omega)) (pk_le s 7 (fun _ => ⟨pk_in 1 3 (by decide), nm_e ⟨pk_in 1 3 (by decide), nm_r (e' := upd a5 1 (nI s)) (by rw [te_cl (by decide)]) (H _)⟩⟩) (fun z => absurd z (by omega)))))
theorem te_w : ∀ p, p < 4 → ∀ c, c < 2 → (8 * nI p + nI c) >>> ((3 : Int32) &&& 31) = nI p ∧ (8 * nI p + nI c) &&& 7 = nI c ∧ ¬ (8 * nI p + nI c) < 0 := by decide +kernel
theorem te_step51 {t p c x : Nat} (ht : t < 3) (hx : x < 8) (h0 : a1 t = 0)
    (H : po 1 (rc, kc, sc, sh, fs, ss, io, upd a1 t 1, upd a2 (3 * t) (nI p), upd a3 (3 * t) (nI c), upd a4 (3 * t) (nI x), a5, a6, a7, a8, a9, a10, a11, a12, a13)) : wX_step_51 po (nI t) (nI x) (nI p) (nI c) rc kc sc sh fs ss io a1 a2 a3 a4 a5 a6 a7 a8 a9 a10 a11 a12 a13 := by
  have i3 : vp_in (nI t) 3 := pk_in t 3 ht
  have i9 : vp_in (nI (3 * t)) 9 := pk_in (3 * t) 9 (by omega)
  have e0 : a1 (nI t).toNatClampNeg = 0 := te_at (by omega) h0
  have e1 : 3 * nI t + a1 (nI t).toNatClampNeg = nI (3 * t) := by
    rw [e0, show (3 : Int32) = nI 3 from rfl, pk_mul, show (0 : Int32) = nI 0 from rfl, nI_add]; rfl
  have ec : (nI (3 * t)).toNatClampNeg = 3 * t := te_cl (by omega)
  have e2 : upd a1 (nI t).toNatClampNeg (a1 (nI t).toNatClampNeg + 1) = upd a1 t 1 := by
    rw [e0, te_cl (by omega)]; rfl
  refine br_f (nI_pos (by omega)) (pk_le x 7 (fun _ => ⟨i3, br_f (by rw [e0]; decide) ⟨i3, nm_r e1 ⟨i9, nm_r (e' := upd a2 (3 * t) (nI p)) (by rw [ec]) ⟨i9, nm_r (e' := upd a3 (3 * t) (nI c)) (by rw [ec]) ⟨i9, nm_r (e' := upd a4 (3 * t) (nI x)) (by rw [ec]) ⟨i3, i3, nm_r e2 ⟨i3, ?_⟩⟩⟩⟩⟩⟩⟩) (fun z => absurd z (by omega)))
  rw [te_cl (by omega), pk_us]
  exact H
theorem te_step {t p c x : Nat} {P1 : Int32} (ht : t < 3) (hp : p < 4) (hc : c < 2) (hx : x < 8) (hP : P1 = 8 * nI p + nI c) (h0 : a1 t = 0)
    (H : po 1 (rc, kc, sc, sh, fs, ss, io, upd a1 t 1, upd a2 (3 * t) (nI p), upd a3 (3 * t) (nI c), upd a4 (3 * t) (nI x), a5, a6, a7, a8, a9, a10, a11, a12, a13)) : wpX_step po (rc, kc, sc, sh, fs, ss, io, a1, a2, a3, a4, a5, a6, a7, a8, a9, a10, a11, a12, a13) (nI t) P1 (nI x) := by
  subst hP
  obtain ⟨w1, w2, w3⟩ := te_w p hp c hc
  unfold wpX_step
  exact te_thr ht (br_f (by decide) (nm_r w1 (nm_r w2 (br_f w3 (pk_lt 5 p (fun z => absurd z (by omega)) (fun _ => pk_lt 2 c (fun z => absurd z (by omega)) (fun _ => pk_lt p 4 (fun _ => te_step51 ht hx h0 H) (fun z => absurd z (by omega)))))))))
theorem te_ref08 (h1 : a1 0 = 1 ∧ a1 1 = 0 ∧ a1 2 = 1) (H : po 0 (rc, kc, sc, sh, 0, 6, io, a1, a2, a3, a4, a5, a6, a7, a8, a9, a10, a11, a12, a13)) : wpX_refused po (rc, kc, sc, sh, fs, ss, io, a1, a2, a3, a4, a5, a6, a7, a8, a9, a10, a11, a12, a13) 0 8 :=
  nm_r (e' := nI 0) (by decide) (nm_r (e' := nI 2) (by decide) (br_f (by decide) (br_f (by decide) (te_thr (by decide) (br_f (by decide) (te_thr (by decide) (br_f (by decide) ⟨pk_in 0 3 (by decide), br_f (by rw [te_at (by decide) h1.1]; decide) ⟨pk_in 2 3 (by decide), br_t (by rw [te_at (by decide) h1.2.2]; decide) (nm_r (e' := 0) (by decide) (nm_r (e' := 6) (by decide) (br_f (by decide) H)))⟩⟩)))))))
theorem te_ref80 (h1 : a1 0 = 1 ∧ a1 1 = 0 ∧ a1 2 = 1) (H : po 0 (rc, kc, sc, sh, 6, 0, io, a1, a2, a3, a4, a5, a6, a7, a8, a9, a10, a11, a12, a13)) : wpX_refused po (rc, kc, sc, sh, fs, ss, io, a1, a2, a3, a4, a5, a6, a7, a8, a9, a10, a11, a12, a13) 8 0 :=
  nm_r (e' := nI 2) (by decide) (nm_r (e' := nI 0) (by decide) (br_f (by decide) (br_f (by decide) (te_thr (by decide) (br_f (by decide) (te_thr (by decide) (br_f (by decide) ⟨pk_in 2 3 (by decide), br_f (by rw [te_at (by decide) h1.2.2]; decide) ⟨pk_in 0 3 (by decide), br_t (by rw [te_at (by decide) h1.1]; decide) (nm_r (e' := 6) (by decide) (nm_r (e' := 0) (by decide) (br_f (by decide) H)))⟩⟩)))))))
theorem te_tiedM {p q c x y s td : Int32} (hA : te_A p q c x y s a1 a2 a3 a4 a5) (hp : te_4 p) (hq : te_4 q) (ht : te_td p q c = td) (h01 : td = 0 ∨ td = 1) (H : po td (rc, kc, sc, sh, 0, 6, io, a1, a2, a3, a4, a5, a6, a7, a8, a9, a10, a11, a12, a13)) : wpX_tied po (rc, kc, sc, sh, fs, ss, io, a1, a2, a3, a4, a5, a6, a7, a8, a9, a10, a11, a12, a13) 0 8 := by
  unfold wpX_tied
  refine te_ref08 hA.1 (br_t (by decide) (te_tied hA.2.1 hA.2.2.1 hp hq ?_))
  rw [ht]
  rcases h01 with e | e
  · subst e
    exact br_t rfl H
  · subst e
    exact br_f (by decide) H
theorem te_res {g cnt : Nat → Nat} (hF : te_F g a11) (hg : ∀ j, g j ≤ 2) (c0 : cnt 0 = 0) (cs : ∀ j, j < 512 → cnt (j + 1) = cnt j + (if g j = 0 then 0 else 1)) (H : po (nI (cnt 512)) (rc, kc, sc, sh, fs, ss, io, a1, a2, a3, a4, a5, a6, a7, a8, a9, a10, a11, a12, a13)) : ∃ n, wX_results_9 po rc kc sc sh fs ss io a1 a2 a3 a4 a5 a6 a7 a8 a9 a10 a11 a12 a13 n 0 0 := by
  have key : ∃ n, (fun n i (_ : Unit) => wX_results_9 po rc kc sc sh fs ss io a1 a2 a3 a4 a5 a6 a7 a8 a9 a10 a11 a12 a13 n (nI (cnt i)) (nI i)) n 0 () :=
    pk_loop (σ := Unit) (fun n i _ => wX_results_9 po rc kc sc sh fs ss io a1 a2 a3 a4 a5 a6 a7 a8 a9 a10 a11 a12 a13 n (nI (cnt i)) (nI i)) (fun _ _ => True) 512 0 () (by omega) trivial
      (fun n _ _ => pk_le 512 512 (fun _ => H) (fun z => absurd z (by omega)))
      (fun n i _ hi _ hw => pk_le 512 i (fun z => absurd z (by omega)) (fun _ => ⟨pk_in i 512 hi, pk_le (g i) 0
        (fun z => nm_r (e' := nI (cnt (i + 1))) (by rw [cs i hi, if_pos (by omega)]; exact nI_add (cnt i) 0) (nm_r (nI_1 i) (hw () trivial)))
        (fun z => nm_r (e' := nI (cnt (i + 1))) (by rw [cs i hi, if_neg (by omega)]; exact nI_1 (cnt i)) (nm_r (nI_1 i) (hw () trivial))) (te_at (by omega) (hF i hi)) rfl (by have := hg i; omega) (by omega)⟩))
  obtain ⟨n, hn⟩ := key
  have hn' : wX_results_9 po rc kc sc sh fs ss io a1 a2 a3 a4 a5 a6 a7 a8 a9 a10 a11 a12 a13 n (nI (cnt 0)) (nI 0) := hn
  rw [c0] at hn'
  exact ⟨n, hn'⟩
theorem te_m1 {i : Nat} (hi : i < 1000) : ¬ nI i ≤ (-1) := by
  rw [Int32.le_iff_toInt_le, nI_toInt (by omega), show (-1 : Int32).toInt = -1 by decide]
  omega
theorem te_nxt {g : Nat → Nat} {r1 : Nat} (hF : te_F g a11) (h1 : r1 < 512) (hg : ∀ j, g j ≤ 2) (hl : ∀ j, j < r1 → g j = 0) (hr : 0 < g r1) (H : po (nI r1) (rc, kc, sc, sh, fs, ss, io, a1, a2, a3, a4, a5, a6, a7, a8, a9, a10, a11, a12, a13)) : ∃ n, wX_nextResult_18 po (-1) rc kc sc sh fs ss io a1 a2 a3 a4 a5 a6 a7 a8 a9 a10 a11 a12 a13 n 0 :=
  pk_loop (σ := Unit) (fun n i _ => wX_nextResult_18 po (-1) rc kc sc sh fs ss io a1 a2 a3 a4 a5 a6 a7 a8 a9 a10 a11 a12 a13 n (nI i)) (fun _ _ => True) r1 0 () (by omega) trivial
    (fun n _ _ => pk_le 512 r1 (fun z => absurd z (by omega)) (fun _ => br_f (te_m1 (by omega)) ⟨pk_in r1 512 h1, pk_le (g r1) 0 (fun z => absurd z (by omega)) (fun _ => H) (te_at (by omega) (hF r1 h1)) rfl (by have := hg r1; omega) (by omega)⟩))
    (fun n i _ hi _ hw => pk_le 512 i (fun z => absurd z (by omega)) (fun _ => br_f (te_m1 (by omega)) ⟨pk_in i 512 (by omega), pk_le (g i) 0 (fun _ => nm_r (nI_1 i) (hw () trivial)) (fun z => absurd (hl i hi) (by omega)) (te_at (by omega) (hF i (by omega))) rfl (by have := hg i; omega) (by omega)⟩))
theorem te_la {u : St0} {p w k : Nat} (hp : p < 4) (hw : w < 8) (hk : k < 8) (H : qo (nI (te_lf p w k))) : wpL_after qo u (nI p) (nI w) (nI k) := by
  unfold te_lf at H
  refine pk_eq p 0 (fun z => ?_) (fun z => pk_eq p 3 (fun z3 => ?_) (fun z3 => ?_))
  · rw [if_pos z] at H
    exact H
  · rw [if_neg z, if_pos z3] at H
    rw [nI_add, pk_andN (by omega) 3 (by decide)]
    exact H
  · rw [if_neg z, if_neg z3] at H
    exact H
/-- how many runs -/
def te_N (td : Int32) : Int32 := if td = 0 then 1 else 2
/-- what is found with sleep -/
def te_g (td : Int32) (r1 r2 : Nat) : Nat → Nat := fun j => (if j = r1 then 1 else 0) + (if td = 0 then 0 else if j = r2 then 1 else 0)
theorem te_g2 (td : Int32) (r1 r2 j : Nat) : te_g td r1 r2 j ≤ 2 := by
  unfold te_g
  split <;> split <;> (try split) <;> omega
theorem te_exS {p q c x y td : Int32} {s r1 r2 : Nat} (hs : s < 8) (hA : te_A p q c x y (nI s) a1 a2 a3 a4 a5) (hp : te_4 p) (hq : te_4 q) (ht : te_td p q c = td) (h01 : td = 0 ∨ td = 1)
    (hr1 : te_R (te_af 2 c q y (te_af 0 1 p x (nI (8 * s)))) = nI r1) (h1 : r1 < 512) (hr2 : te_R (te_af 0 1 p x (te_af 2 c q y (nI (8 * s)))) = nI r2) (h2 : r2 < 512)
    (H : ∀ (sc' sh' io' : Int32) (b6 b7 b8 b9 b10 b11 b12 b13 : Nat → Int32), te_F (te_g td r1 r2) b11 → post (te_N td, te_N td, sc', sh', fs, ss, io', a1, a2, a3, a4, a5, b6, b7, b8, b9, b10, b11, b12, b13)) : wpX_explore post (rc, kc, sc, sh, fs, ss, io, a1, a2, a3, a4, a5, a6, a7, a8, a9, a10, a11, a12, a13) 1 := by
  rcases h01 with e | e
  · subst e
    exact te_ex1 hs hA hp hq rfl ht hr1 h1 (fun sc' sh' io' b6 b7 b8 b9 b10 b11 b12 b13 hF => H sc' sh' io' b6 b7 b8 b9 b10 b11 b12 b13 hF)
  · subst e
    exact te_ex2 hs hA hp hq (Or.inr ⟨rfl, ht⟩) hr1 h1 hr2 h2 (fun sc' sh' io' b6 b7 b8 b9 b10 b11 b12 b13 hF _ => H sc' sh' io' b6 b7 b8 b9 b10 b11 b12 b13 hF)
end
end
section
section
variable {po : Int32 → St2 → Prop} {rc kc sc sh fs ss io : Int32} {a1 a2 a3 a4 a5 a6 a7 a8 a9 a10 a11 a12 a13 : Nat → Int32}
theorem te_runsM {p q c x y : Int32} {s r1 r2 : Nat} (hs : s < 8) (hA : te_A p q c x y (nI s) a1 a2 a3 a4 a5) (hp : te_4 p) (hq : te_4 q)
    (hr1 : te_R (te_af 2 c q y (te_af 0 1 p x (nI (8 * s)))) = nI r1) (h1 : r1 < 512) (hr2 : te_R (te_af 0 1 p x (te_af 2 c q y (nI (8 * s)))) = nI r2) (h2 : r2 < 512)
    (H : ∀ (rc' kc' sc' sh' io' : Int32) (b6 b7 b8 b9 b10 b11 b12 b13 : Nat → Int32), po 2 (rc', kc', sc', sh', fs, ss, io', a1, a2, a3, a4, a5, b6, b7, b8, b9, b10, b11, b12, b13)) : wpX_runs po (rc, kc, sc, sh, fs, ss, io, a1, a2, a3, a4, a5, a6, a7, a8, a9, a10, a11, a12, a13) := by
  unfold wpX_runs
  exact te_ex2 hs hA hp hq (Or.inl rfl) hr1 h1 hr2 h2 (fun sc' sh' io' b6 b7 b8 b9 b10 b11 b12 b13 _ _ => H _ _ sc' sh' io' b6 b7 b8 b9 b10 b11 b12 b13)
theorem te_beforeM {p q c x y : Int32} {s r1 r2 : Nat} (hs : s < 8) (hA : te_A p q c x y (nI s) a1 a2 a3 a4 a5) (hp : te_4 p) (hq : te_4 q)
    (hr1 : te_R (te_af 2 c q y (te_af 0 1 p x (nI (8 * s)))) = nI r1) (h1 : r1 < 512) (hr2 : te_R (te_af 0 1 p x (te_af 2 c q y (nI (8 * s)))) = nI r2) (h2 : r2 < 512)
    (H : ∀ (u : St2), po 1 u) : wpX_before po (rc, kc, sc, sh, fs, ss, io, a1, a2, a3, a4, a5, a6, a7, a8, a9, a10, a11, a12, a13) 8 0 := by
  unfold wpX_before
  refine te_ref80 hA.1 (br_t (by decide) (te_ex2 (rc := rc) (kc := kc) (sc := sc) (sh := sh) (io := io) hs hA hp hq (Or.inl rfl) hr1 h1 hr2 h2 (fun sc' sh' io' b6 b7 b8 b9 b10 b11 b12 b13 _ hio => ?_)))
  have e := hio rfl rfl
  subst e
  exact br_f (by decide) (H _)
theorem te_kindsM {p q c x y td : Int32} {s r1 r2 : Nat} (hs : s < 8) (hA : te_A p q c x y (nI s) a1 a2 a3 a4 a5) (hp : te_4 p) (hq : te_4 q) (ht : te_td p q c = td) (h01 : td = 0 ∨ td = 1)
    (hr1 : te_R (te_af 2 c q y (te_af 0 1 p x (nI (8 * s)))) = nI r1) (h1 : r1 < 512) (hr2 : te_R (te_af 0 1 p x (te_af 2 c q y (nI (8 * s)))) = nI r2) (h2 : r2 < 512)
    (H : ∀ (rc' kc' sc' sh' io' : Int32) (b6 b7 b8 b9 b10 b11 b12 b13 : Nat → Int32), po (te_N td) (rc', kc', sc', sh', fs, ss, io', a1, a2, a3, a4, a5, b6, b7, b8, b9, b10, b11, b12, b13)) : wpX_kinds po (rc, kc, sc, sh, fs, ss, io, a1, a2, a3, a4, a5, a6, a7, a8, a9, a10, a11, a12, a13) := by
  unfold wpX_kinds
  exact te_exS hs hA hp hq ht h01 hr1 h1 hr2 h2 (fun sc' sh' io' b6 b7 b8 b9 b10 b11 b12 b13 _ => H _ _ sc' sh' io' b6 b7 b8 b9 b10 b11 b12 b13)
theorem te_resM {p q c x y td : Int32} {s r1 r2 : Nat} {cnt : Nat → Nat} (hs : s < 8) (hA : te_A p q c x y (nI s) a1 a2 a3 a4 a5) (hp : te_4 p) (hq : te_4 q) (ht : te_td p q c = td) (h01 : td = 0 ∨ td = 1)
    (hr1 : te_R (te_af 2 c q y (te_af 0 1 p x (nI (8 * s)))) = nI r1) (h1 : r1 < 512) (hr2 : te_R (te_af 0 1 p x (te_af 2 c q y (nI (8 * s)))) = nI r2) (h2 : r2 < 512)
    (c0 : cnt 0 = 0) (cs : ∀ j, j < 512 → cnt (j + 1) = cnt j + (if te_g td r1 r2 j = 0 then 0 else 1))
    (H : ∀ (rc' kc' sc' sh' io' : Int32) (b6 b7 b8 b9 b10 b11 b12 b13 : Nat → Int32), po (nI (cnt 512)) (rc', kc', sc', sh', fs, ss, io', a1, a2, a3, a4, a5, b6, b7, b8, b9, b10, b11, b12, b13)) : wpX_results po (rc, kc, sc, sh, fs, ss, io, a1, a2, a3, a4, a5, a6, a7, a8, a9, a10, a11, a12, a13) := by
  unfold wpX_results
  exact te_exS hs hA hp hq ht h01 hr1 h1 hr2 h2 (fun sc' sh' io' b6 b7 b8 b9 b10 b11 b12 b13 hF => te_res hF (te_g2 td r1 r2) c0 cs (H _ _ sc' sh' io' b6 b7 b8 b9 b10 b11 b12 b13))
theorem te_nextM {p q c x y : Int32} {s r1 r2 : Nat} (hs : s < 8) (hA : te_A p q c x y (nI s) a1 a2 a3 a4 a5) (hp : te_4 p) (hq : te_4 q) (ht : te_td p q c = 0)
    (hr1 : te_R (te_af 2 c q y (te_af 0 1 p x (nI (8 * s)))) = nI r1) (h1 : r1 < 512) (hr2 : te_R (te_af 0 1 p x (te_af 2 c q y (nI (8 * s)))) = nI r2) (h2 : r2 < 512)
    (H : ∀ (u : St2), po (nI r1) u) : wpX_nextResult po (rc, kc, sc, sh, fs, ss, io, a1, a2, a3, a4, a5, a6, a7, a8, a9, a10, a11, a12, a13) (-1) := by
  unfold wpX_nextResult
  refine te_exS hs hA hp hq ht (Or.inl rfl) hr1 h1 hr2 h2 (fun sc' sh' io' b6 b7 b8 b9 b10 b11 b12 b13 hF => br_t (by decide) (te_nxt hF h1 (te_g2 0 r1 r2) (fun j hj => ?_) ?_ (H _)))
  · unfold te_g
    rw [if_neg (by omega), if_pos rfl]
  · unfold te_g
    rw [if_pos rfl]
    omega
theorem te_kindsOfM {p q c x y td : Int32} {s r1 r2 w : Nat} (hs : s < 8) (hA : te_A p q c x y (nI s) a1 a2 a3 a4 a5) (hp : te_4 p) (hq : te_4 q) (ht : te_td p q c = td) (h01 : td = 0 ∨ td = 1)
    (hr1 : te_R (te_af 2 c q y (te_af 0 1 p x (nI (8 * s)))) = nI r1) (h1 : r1 < 512) (hr2 : te_R (te_af 0 1 p x (te_af 2 c q y (nI (8 * s)))) = nI r2) (h2 : r2 < 512) (hw : w < 512)
    (H : ∀ (rc' kc' sc' sh' io' : Int32) (b6 b7 b8 b9 b10 b11 b12 b13 : Nat → Int32), po (nI (te_g td r1 r2 w)) (rc', kc', sc', sh', fs, ss, io', a1, a2, a3, a4, a5, b6, b7, b8, b9, b10, b11, b12, b13)) : wpX_kindsOf po (rc, kc, sc, sh, fs, ss, io, a1, a2, a3, a4, a5, a6, a7, a8, a9, a10, a11, a12, a13) (nI w) := by
  unfold wpX_kindsOf
  refine br_f (nI_pos (by omega)) (pk_le w 511 (fun _ => ?_) (fun z => absurd z (by omega)))
  refine te_exS hs hA hp hq ht h01 hr1 h1 hr2 h2 (fun sc' sh' io' b6 b7 b8 b9 b10 b11 b12 b13 hF => ⟨pk_in w 512 hw, ?_⟩)
  have er : b11 (nI w).toNatClampNeg = nI (te_g td r1 r2 w) := te_at (by omega) (hF _ hw)
  rw [er]
  exact H _ _ sc' sh' io' b6 b7 b8 b9 b10 b11 b12 b13
end
end
section
section
variable {po : Int32 → St0 → Prop} {rc kc sc sh fs ss io : Int32} {a1 a2 a3 a4 a5 a6 a7 a8 a9 a10 a11 a12 a13 : Nat → Int32}
theorem te_319 {p q c x y : Int32} {m1 m2 k1 k2 s r1 r2 : Nat} {z : Int32} (hs : s < 8) (hA : te_A p q c x y (nI s) a1 a2 a3 a4 a5) (hp : te_4 p) (hq : te_4 q)
    (hr1 : te_R (te_af 2 c q y (te_af 0 1 p x (nI (8 * s)))) = nI r1) (h1 : r1 < 512) (hr2 : te_R (te_af 0 1 p x (te_af 2 c q y (nI (8 * s)))) = nI r2) (h2 : r2 < 512) (H : po 1 ()) : wL_lawOf_319 po m1 m2 z z k1 k2 rc kc sc sh fs ss io a1 a2 a3 a4 a5 a6 a7 a8 a9 a10 a11 a12 a13 := by
  exact br_t rfl (te_beforeM hs hA hp hq hr1 h1 hr2 h2 (fun _ => br_t rfl H))
theorem te_287 {x y td : Int32} {p q c : Int32} {m1 m2 k1 k2 s w1 w2 : Nat} {z : Int32} (hs : s < 8) (hA : te_A p q c x y (nI s) a1 a2 a3 a4 a5) (hp : te_4 p) (hq : te_4 q) (ht : te_td p q c = td) (h01 : td = 0 ∨ td = 1)
    (hr1 : te_R (te_af 2 c q y (te_af 0 1 p x (nI (8 * s)))) = nI (8 * w1)) (h1 : w1 < 8) (hr2 : te_R (te_af 0 1 p x (te_af 2 c q y (nI (8 * s)))) = nI (8 * w2)) (h2 : w2 < 8) (H : po 1 ()) : wL_lawOf_287 po m1 m2 td (nI w1) (nI w2) z z k1 k2 rc kc sc sh fs ss io a1 a2 a3 a4 a5 a6 a7 a8 a9 a10 a11 a12 a13 := by
  have e8 : 8 * nI w1 = nI (8 * w1) := by rw [show (8 : Int32) = nI 8 from rfl, pk_mul]
  refine br_t rfl ?_
  rw [e8]
  refine te_kindsOfM hs hA hp hq ht h01 hr1 (by omega) hr2 (by omega) (by omega) (fun rc' kc' sc' sh' io' b6 b7 b8 b9 b10 b11 b12 b13 => ?_)
  unfold te_g
  rw [if_pos rfl]
  rcases h01 with e | e
  · subst e
    exact br_t rfl (te_319 hs hA hp hq hr1 (by omega) hr2 (by omega) H)
  · subst e
    rw [if_neg (by decide)]
    refine br_f (by decide) (pk_eq w1 w2 (fun z => ?_) (fun z => ?_))
    · rw [if_pos (by omega)]
      exact te_319 hs hA hp hq hr1 (by omega) hr2 (by omega) H
    · rw [if_neg (by omega)]
      exact te_319 hs hA hp hq hr1 (by omega) hr2 (by omega) H
theorem te_cnt1 {r w j : Nat} : (if r < j + 1 then 1 else 0) = (if r < j then 1 else 0) + (if te_g 0 r w j = 0 then 0 else 1) := by
  unfold te_g
  rw [if_pos rfl]
  by_cases e : j = r
  · rw [if_pos e, if_pos (by omega), if_neg (by omega), if_neg (by omega)]
  · rw [if_neg e, if_pos rfl]
    by_cases h : r < j
    · rw [if_pos (by omega), if_pos h]
    · rw [if_neg (by omega), if_neg h]
theorem te_cnt2 {td : Int32} {r w j : Nat} (h : td = 0 → r = w) : (if r < j + 1 then 1 else 0) + (if r = w then 0 else if w < j + 1 then 1 else 0) = ((if r < j then 1 else 0) + (if r = w then 0 else if w < j then 1 else 0)) + (if te_g td r w j = 0 then 0 else 1) := by
  unfold te_g
  by_cases e : r = w
  · subst e
    rw [if_pos rfl, if_pos rfl]
    by_cases ej : j = r
    · rw [if_pos ej, if_pos (by omega), if_neg (by omega), if_neg (by split <;> (try split) <;> omega)]
    · rw [if_neg ej, if_pos (c := (0 + if td = 0 then 0 else 0) = 0) (by split <;> rfl)]
      by_cases h : r < j
      · rw [if_pos (by omega), if_pos h]
      · rw [if_neg (by omega), if_neg h]
  · rw [if_neg e, if_neg e, if_neg (c := td = 0) (fun z => e (h z))]
    by_cases ej : j = r
    · rw [if_pos ej, if_neg (c := j = w) (by omega), if_pos (c := r < j + 1) (by omega), if_neg (c := r < j) (by omega), if_neg (c := 1 + 0 = 0) (by omega)]
      by_cases hw : w < j
      · rw [if_pos (by omega), if_pos hw]
      · rw [if_neg (by omega), if_neg hw]
    · by_cases ew : j = w
      · rw [if_neg ej, if_pos ew, if_pos (c := w < j + 1) (by omega), if_neg (c := w < j) (by omega), if_neg (c := 0 + 1 = 0) (by omega)]
        by_cases hr : r < j
        · rw [if_pos (by omega), if_pos hr]
        · rw [if_neg (by omega), if_neg hr]
      · rw [if_neg ej, if_neg ew, if_pos (c := 0 + 0 = 0) rfl]
        by_cases hw : w < j
        · by_cases hr : r < j
          · rw [if_pos (by omega), if_pos hr, if_pos (by omega), if_pos hw]
          · rw [if_neg (by omega), if_neg hr, if_pos (by omega), if_pos hw]
        · by_cases hr : r < j
          · rw [if_pos (by omega), if_pos hr, if_neg (by omega), if_neg hw]
          · rw [if_neg (by omega), if_neg hr, if_neg (by omega), if_neg hw]
/-- two places: one kind of run -/
theorem te_175d {m1 m2 k1 k2 p q x y s : Nat} (hs : s < 8) (hA : te_A (nI p) (nI q) 0 (nI x) (nI y) (nI s) a1 a2 a3 a4 a5) (hp : p < 4) (hq : q < 4) (hx : x < 8) (hy : y < 8) (H : po 1 ())
    {z : Int32} : wL_lawOf_175 po m1 m2 (nI p) (nI q) (nI x) (nI y) (nI s) 0 0 z z k1 k2 rc kc sc sh fs ss io a1 a2 a3 a4 a5 a6 a7 a8 a9 a10 a11 a12 a13 := by
  have P4 := te_4n p hp
  have Q4 := te_4n q hq
  have ht : te_td (nI p) (nI q) 0 = 0 := by unfold te_td; rw [if_neg (by decide)]
  have l1 := te_lf8 (p := p) hs hx
  have l2 := te_lf8 (p := q) (v := 0) (by omega) hy
  have hr1 := te_r0 hp hq hx hy hs
  obtain ⟨r2, h2, hr2⟩ := te_R512 (te_af 0 1 (nI p) (nI x) (te_af 2 0 (nI q) (nI y) (nI (8 * s))))
  generalize er : 64 * te_lf q 0 y + 8 * te_lf p s x = r1 at hr1
  have h1 : r1 < 512 := by omega
  refine br_t rfl (te_la hp hs hx (te_la hq l1 hy (te_la hq hs hy (te_la hp (te_lf8 hs hy) hx ?_))))
  refine br_t rfl (te_resM hs hA P4 Q4 ht (Or.inl rfl) hr1 h1 hr2 h2 (cnt := fun i => if r1 < i then 1 else 0) rfl (fun j _ => te_cnt1) (fun rc' kc' sc' sh' io' b6 b7 b8 b9 b10 b11 b12 b13 => ?_))
  refine br_t (by rw [if_pos h1]; rfl) ?_
  refine te_nextM hs hA P4 Q4 ht hr1 h1 hr2 h2 (fun _ => ?_)
  refine te_la (w := 0) hq (by omega) hy (br_t ?_ H)
  rw [show (64 : Int32) = nI 64 from rfl, show (8 : Int32) = nI 8 from rfl, pk_mul, pk_mul, nI_add, er]
/-- one place -/
theorem te_175s {td : Int32} {m1 m2 k1 k2 p q x y s : Nat} (hs : s < 8) (hA : te_A (nI p) (nI q) 1 (nI x) (nI y) (nI s) a1 a2 a3 a4 a5) (hp : p < 4) (hq : q < 4) (hx : x < 8) (hy : y < 8) (ht : te_td (nI p) (nI q) 1 = td) (h01 : td = 0 ∨ td = 1) (H : po 1 ())
    {z : Int32} : wL_lawOf_175 po m1 m2 (nI p) (nI q) (nI x) (nI y) (nI s) 1 td z z k1 k2 rc kc sc sh fs ss io a1 a2 a3 a4 a5 a6 a7 a8 a9 a10 a11 a12 a13 := by
  have P4 := te_4n p hp
  have Q4 := te_4n q hq
  have l1 := te_lf8 (p := q) (te_lf8 (p := p) hs hx) hy
  have l2 := te_lf8 (p := p) (te_lf8 (p := q) hs hy) hx
  have hr1 := te_r1 hp hq hx hy hs
  have hr2 := te_r2 hp hq hx hy hs
  have h0 : td = 0 → te_lf q (te_lf p s x) y = te_lf p (te_lf q s y) x := by
    intro e
    rw [← ht] at e
    unfold te_td at e
    rw [if_pos rfl] at e
    by_cases ep : nI p = 0
    · by_cases eq : nI q = 0
      · have p0 : p = 0 := (nI_eq (b := 0) (by omega) (by omega)).mp ep
        have q0 : q = 0 := (nI_eq (b := 0) (by omega) (by omega)).mp eq
        subst p0 q0
        rfl
      · rw [if_pos ep, if_neg eq] at e
        exact absurd e (by decide)
    · rw [if_neg ep] at e
      exact absurd e (by decide)
  refine br_t rfl (te_la hp hs hx (te_la hq (te_lf8 hs hx) hy (te_la hq hs hy (te_la hp (te_lf8 hs hy) hx ?_))))
  generalize te_lf q (te_lf p s x) y = w1 at *
  generalize te_lf p (te_lf q s y) x = w2 at *
  refine br_f (by decide) (te_resM hs hA P4 Q4 ht h01 hr1 (by omega) hr2 (by omega) (cnt := fun i => (if 8 * w1 < i then 1 else 0) + (if 8 * w1 = 8 * w2 then 0 else if 8 * w2 < i then 1 else 0)) ?_ (fun j _ => te_cnt2 (fun e => by rw [h0 e])) (fun rc' kc' sc' sh' io' b6 b7 b8 b9 b10 b11 b12 b13 => ?_))
  · show (if 8 * w1 < 0 then 1 else 0) + (if 8 * w1 = 8 * w2 then 0 else if 8 * w2 < 0 then 1 else 0) = 0
    rw [if_neg (by omega), if_neg (c := 8 * w2 < 0) (by omega)]
    split <;> rfl
  · dsimp only
    rw [if_pos (show 8 * w1 < 512 by omega), if_pos (show 8 * w2 < 512 by omega)]
    refine pk_eq w1 w2 (fun z => ?_) (fun z => ?_)
    · rw [if_pos (by omega)]
      exact te_287 hs hA P4 Q4 ht h01 hr1 (by omega) hr2 (by omega) H
    · rw [if_neg (by omega)]
      exact te_287 hs hA P4 Q4 ht h01 hr1 (by omega) hr2 (by omega) H
theorem te_146 {td : Int32} {m1 m2 k1 k2 p q c x y s : Nat} {z : Int32} (hs : s < 8) (hA : te_A (nI p) (nI q) (nI c) (nI x) (nI y) (nI s) a1 a2 a3 a4 a5) (hp : p < 4) (hq : q < 4) (hc : c < 2) (hx : x < 8) (hy : y < 8) (ht : te_td (nI p) (nI q) (nI c) = td) (h01 : td = 0 ∨ td = 1) (H : po 1 ()) :
    wL_lawOf_146 po m1 m2 (nI p) (nI q) (nI x) (nI y) (nI s) (nI c) td z z k1 k2 rc kc sc sh fs ss io a1 a2 a3 a4 a5 a6 a7 a8 a9 a10 a11 a12 a13 := by
  have P4 := te_4n p hp
  have Q4 := te_4n q hq
  obtain ⟨r1, h1, hr1⟩ := te_R512 (te_af 2 (nI c) (nI q) (nI y) (te_af 0 1 (nI p) (nI x) (nI (8 * s))))
  obtain ⟨r2, h2, hr2⟩ := te_R512 (te_af 0 1 (nI p) (nI x) (te_af 2 (nI c) (nI q) (nI y) (nI (8 * s))))
  refine br_t rfl (te_runsM hs hA P4 Q4 hr1 h1 hr2 h2 (fun rc' kc' sc' sh' io' b6 b7 b8 b9 b10 b11 b12 b13 => br_t rfl ?_))
  refine te_kindsM hs hA P4 Q4 ht h01 hr1 h1 hr2 h2 (fun rc' kc' sc' sh' io' b6 b7 b8 b9 b10 b11 b12 b13 => ?_)
  have h2c : c = 0 ∨ c = 1 := by omega
  rcases h2c with e | e
  · subst e
    have e0 : td = 0 := by rw [← ht]; unfold te_td; rw [if_neg (by decide)]
    subst e0
    exact br_t rfl (te_175d hs hA hp hq hx hy H)
  · subst e
    rcases h01 with e | e
    · subst e
      exact br_t rfl (te_175s hs hA hp hq hx hy ht (Or.inl rfl) H)
    · subst e
      exact br_f (by decide) (te_175s hs hA hp hq hx hy ht (Or.inr rfl) H)
theorem te_126 {td : Int32} {m1 m2 k1 k2 p q c x y s : Nat} (hs : s < 8) (hA : te_A (nI p) (nI q) (nI c) (nI x) (nI y) (nI s) a1 a2 a3 a4 a5) (hp : p < 4) (hq : q < 4) (hc : c < 2) (hx : x < 8) (hy : y < 8) (ht : te_td (nI p) (nI q) (nI c) = td) (h01 : td = 0 ∨ td = 1) (H : po 1 ()) :
    wL_lawOf_126 po m1 m2 (nI p) (nI q) (nI x) (nI y) (nI s) (nI c) td k1 k2 rc kc sc sh fs ss io a1 a2 a3 a4 a5 a6 a7 a8 a9 a10 a11 a12 a13 := by
  refine te_tiedM hA (te_4n p hp) (te_4n q hq) ht h01 ?_
  rcases h01 with e | e
  · subst e
    exact br_t rfl (te_146 hs hA hp hq hc hx hy ht (Or.inl rfl) H)
  · subst e
    exact br_f (by decide) (te_146 hs hA hp hq hc hx hy ht (Or.inr rfl) H)
theorem te_94 {m1 m2 k1 k2 p q c x y s : Nat} (hs : s < 8) (hA : te_A (nI p) (nI q) (nI c) (nI x) (nI y) (nI s) (upd a1 2 1) (upd a2 6 (nI q)) (upd a3 6 (nI c)) (upd a4 6 (nI y)) a5) (h0 : a1 2 = 0) (hp : p < 4) (hq : q < 4) (hc : c < 2) (hx : x < 8) (hy : y < 8) (H : po 1 ()) :
    wL_lawOf_94 po m1 m2 (nI p) (nI q) (nI x) (nI y) (nI s) (nI c) (nI c) (8 * nI q) (nI 2) k1 k2 rc kc sc sh fs ss io a1 a2 a3 a4 a5 a6 a7 a8 a9 a10 a11 a12 a13 := by
  refine te_step (t := 2) (by decide) hq hc hy rfl h0 (br_t rfl ?_)
  refine pk_eq c 0 (fun z => ?_) (fun z => ?_)
  · subst z
    exact te_126 hs hA hp hq hc hx hy (by unfold te_td; rw [if_neg (by decide)]) (Or.inl rfl) H
  · have e : c = 1 := by omega
    subst e
    refine br_c (fun ep => br_c (fun eq => ?_) (fun eq => ?_)) (fun ep => ?_)
    · exact te_126 hs hA hp hq hc hx hy (by unfold te_td; rw [if_pos (show nI 1 = 1 from rfl), if_pos ep, if_pos eq]) (Or.inl rfl) H
    · exact te_126 hs hA hp hq hc hx hy (by unfold te_td; rw [if_pos (show nI 1 = 1 from rfl), if_pos ep, if_neg eq]) (Or.inr rfl) H
    · exact te_126 hs hA hp hq hc hx hy (by unfold te_td; rw [if_pos (show nI 1 = 1 from rfl), if_neg ep]) (Or.inr rfl) H
theorem te_49 {m1 m2 k1 k2 p q c x y s : Nat} (hs : s < 8) (hp : p < 4) (hq : q < 4) (hc : c < 2) (hx : x < 8) (hy : y < 8) (H : po 1 ()) :
    wL_lawOf_49 po m1 m2 (nI p) (nI q) (nI x) (nI y) (nI s) (nI c) k1 k2 rc kc sc sh fs ss io (fun _ => 0) (fun _ => 0) (fun _ => 0) (fun _ => 0) (fun _ => 0) a6 a7 a8 a9 a10 a11 a12 a13 := by
  refine te_init hs (fun _ => te_step (t := 0) (c := 1) (by decide) hp (by decide) hx rfl rfl ?_)
  have hA : te_A (nI p) (nI q) (nI c) (nI x) (nI y) (nI s) (upd (upd (fun _ => 0) 0 1) 2 1) (upd (upd (fun _ => 0) (3 * 0) (nI p)) 6 (nI q)) (upd (upd (fun _ => 0) (3 * 0) (nI 1)) 6 (nI c)) (upd (upd (fun _ => 0) (3 * 0) (nI x)) 6 (nI y)) (upd (fun _ => 0) 1 (nI s)) :=
    ⟨⟨rfl, rfl, rfl⟩, ⟨rfl, rfl⟩, ⟨rfl, rfl⟩, ⟨rfl, rfl⟩, ⟨rfl, rfl, rfl⟩⟩
  have h2c : c = 0 ∨ c = 1 := by omega
  rcases h2c with e | e
  · subst e
    exact br_t rfl (te_94 hs hA rfl hp hq hc hx hy H)
  · subst e
    exact br_f (by decide) (te_94 hs hA rfl hp hq hc hx hy H)
theorem te_lawOf {u : St0} {P0 P1 P2 P3 P4 : Int32} (H : po 1 ()) : wpL_lawOf po 346 5536 u P0 P1 P2 P3 P4 := by
  obtain ⟨p, hp, ep⟩ := pk_andE P0 (m := 3) 2 (by decide)
  obtain ⟨q, hq, eq⟩ := pk_andE P1 (m := 3) 2 (by decide)
  obtain ⟨x, hx, ex⟩ := pk_andE P2 (m := 7) 3 (by decide)
  obtain ⟨y, hy, ey⟩ := pk_andE P3 (m := 7) 3 (by decide)
  obtain ⟨s, hs, es⟩ := pk_andE P4 (m := 7) 3 (by decide)
  refine ⟨by decide, by decide, 13, 605, by decide, by decide, ?_⟩
  refine ⟨by decide, by decide, by decide, by decide, by decide, by decide, by decide, by decide, by decide, by decide, by decide, by decide, by decide, by decide, by decide, by decide, by decide, by decide, by decide, by decide, by decide, by decide, by decide, by decide, by decide, by decide, ?_⟩
  refine nm_r ep (nm_r eq (nm_r ex (nm_r ey (nm_r es ?_))))
  exact br_c (fun _ => te_49 (c := 1) hs hp hq (by decide) hx hy H) (fun _ => te_49 (c := 0) hs hp hq (by decide) hx hy H)
theorem te_cell {qo : Int32 → Prop} {L : Nat} {xs : Nat → Int32} {u : St0} (i : Nat) (hL : L ≤ 5) (hi : i < 5) (H : ∀ r, qo r) : wpL_cellAt qo L xs u (nI i) :=
  pk_le L i (fun _ => H _) (fun z => ⟨pk_in i L z, H _⟩)
theorem i_vc (xs : Nat → Int32) (L : Nat) (hL : L ≤ 5) : wpL_law (fun r => r = 1) L xs :=
  te_cell 0 hL (by decide) (fun _ => te_cell 1 hL (by decide) (fun _ => te_cell 2 hL (by decide) (fun _ => te_cell 3 hL (by decide) (fun _ => te_cell 4 hL (by decide) (fun _ => ⟨346, 5536, by decide, by decide, te_lawOf rfl⟩)))))
end
end
