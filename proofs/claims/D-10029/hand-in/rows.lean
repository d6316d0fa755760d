section
/-! vectors: V3 directions and normals, V4 points (x,y,z,w) and planes (a,b,c,d) -/
abbrev hb_V3 : Type := Int × Int × Int
abbrev hb_V4 : Type := Int × Int × Int × Int
def hb_z : hb_V3 := (0, 0, 0)
def hb_w (v : hb_V4) : Int := v.2.2.2
def hb_n (v : hb_V4) : hb_V3 := (v.1, v.2.1, v.2.2.1)
def hb_dot (a b : hb_V3) : Int := a.1 * b.1 + a.2.1 * b.2.1 + a.2.2 * b.2.2
def hb_crs (a b : hb_V3) : hb_V3 := (a.2.1 * b.2.2 - a.2.2 * b.2.1, a.2.2 * b.1 - a.1 * b.2.2, a.1 * b.2.1 - a.2.1 * b.1)
def hb_det (a b c : hb_V3) : Int := hb_dot (hb_crs a b) c
def hb_s (p v : hb_V4) : Int := hb_w p * hb_w v - hb_dot (hb_n p) (hb_n v)
def hb_dt (p : hb_V4) (u : hb_V3) : Int := hb_dot (hb_n p) u
/-- the direction from v to l, times both bottoms -/
def hb_dir (v l : hb_V4) : hb_V3 := (hb_w v * l.1 - hb_w l * v.1, hb_w v * l.2.1 - hb_w l * v.2.1, hb_w v * l.2.2.1 - hb_w l * v.2.2.1)
def hb_lc (α : Int) (X : hb_V4) (β : Int) (Y : hb_V4) : hb_V4 := (α * X.1 + β * Y.1, α * X.2.1 + β * Y.2.1, α * X.2.2.1 + β * Y.2.2.1, α * X.2.2.2 + β * Y.2.2.2)
def hb_mv (α : Int) (X : hb_V4) (β : Int) (u : hb_V3) : hb_V4 := (α * X.1 + β * u.1, α * X.2.1 + β * u.2.1, α * X.2.2.1 + β * u.2.2, α * X.2.2.2)
def hb_sc (α : Int) (u : hb_V3) : hb_V3 := (α * u.1, α * u.2.1, α * u.2.2)
def hb_l3 (α : Int) (u : hb_V3) (β : Int) (v : hb_V3) : hb_V3 := (α * u.1 + β * v.1, α * u.2.1 + β * v.2.1, α * u.2.2 + β * v.2.2)
/-- the same point -/
def hb_par (v U : hb_V4) : Prop := hb_dir v U = hb_z

theorem hb_ext3 {a b : hb_V3} (h1 : a.1 = b.1) (h2 : a.2.1 = b.2.1) (h3 : a.2.2 = b.2.2) : a = b := Prod.ext h1 (Prod.ext h2 h3)
theorem hb_s_lc (p : hb_V4) (α : Int) (X : hb_V4) (β : Int) (Y : hb_V4) : hb_s p (hb_lc α X β Y) = α * hb_s p X + β * hb_s p Y := by
  simp only [hb_s, hb_lc, hb_w, hb_n, hb_dot]; grind
theorem hb_s_mv (p : hb_V4) (α : Int) (X : hb_V4) (β : Int) (u : hb_V3) : hb_s p (hb_mv α X β u) = α * hb_s p X - β * hb_dt p u := by
  simp only [hb_s, hb_mv, hb_w, hb_n, hb_dot, hb_dt]; grind
theorem hb_w_lc (α : Int) (X : hb_V4) (β : Int) (Y : hb_V4) : hb_w (hb_lc α X β Y) = α * hb_w X + β * hb_w Y := rfl
theorem hb_w_mv (α : Int) (X : hb_V4) (β : Int) (u : hb_V3) : hb_w (hb_mv α X β u) = α * hb_w X := rfl
theorem hb_dt_dir (p v l : hb_V4) : hb_dt p (hb_dir v l) = hb_w l * hb_s p v - hb_w v * hb_s p l := by
  simp only [hb_s, hb_dir, hb_w, hb_n, hb_dot, hb_dt]; grind
theorem hb_dt_l3 (p : hb_V4) (α : Int) (u : hb_V3) (β : Int) (v : hb_V3) : hb_dt p (hb_l3 α u β v) = α * hb_dt p u + β * hb_dt p v := by
  simp only [hb_l3, hb_n, hb_dot, hb_dt]; grind
theorem hb_dot_l3 (p : hb_V3) (α : Int) (u : hb_V3) (β : Int) (v : hb_V3) : hb_dot p (hb_l3 α u β v) = α * hb_dot p u + β * hb_dot p v := by
  simp only [hb_l3, hb_dot]; grind
theorem hb_dt_sc (p : hb_V4) (α : Int) (u : hb_V3) : hb_dt p (hb_sc α u) = α * hb_dt p u := by
  simp only [hb_sc, hb_n, hb_dot, hb_dt]; grind
theorem hb_dot_sc (p : hb_V3) (α : Int) (u : hb_V3) : hb_dot p (hb_sc α u) = α * hb_dot p u := by
  simp only [hb_sc, hb_dot]; grind
theorem hb_dot_comm (a b : hb_V3) : hb_dot a b = hb_dot b a := by
  simp only [hb_dot]; grind
/-- Binet and Cauchy -/
theorem hb_bc (a b u c : hb_V3) : hb_dot (hb_crs a b) (hb_crs u c) = hb_dot a u * hb_dot b c - hb_dot a c * hb_dot b u := by
  simp only [hb_crs, hb_dot]; grind
theorem hb_crs_l (a b : hb_V3) : hb_dot a (hb_crs a b) = 0 := by
  simp only [hb_crs, hb_dot]; grind
theorem hb_crs_r (a b : hb_V3) : hb_dot b (hb_crs a b) = 0 := by
  simp only [hb_crs, hb_dot]; grind
theorem hb_det_dot (a b c : hb_V3) : hb_dot a (hb_crs b c) = hb_det a b c := by
  simp only [hb_crs, hb_dot, hb_det]; grind
theorem hb_det_cyc (a b c : hb_V3) : hb_det a b c = hb_det b c a := by
  simp only [hb_crs, hb_dot, hb_det]; grind
theorem hb_det_sw (a b c : hb_V3) : hb_det a b c = - hb_det b a c := by
  simp only [hb_crs, hb_dot, hb_det]; grind
theorem hb_det_sw' (a b c : hb_V3) : hb_det a b c = - hb_det a c b := by
  simp only [hb_crs, hb_dot, hb_det]; grind
theorem hb_det_aa (a c : hb_V3) : hb_det a a c = 0 := by
  simp only [hb_crs, hb_dot, hb_det]; grind
/-- four vectors of a space of three -/
theorem hb_det4 (a b c g u : hb_V3) : hb_dot a u * hb_det b c g - hb_dot b u * hb_det a c g + hb_dot c u * hb_det a b g - hb_dot g u * hb_det a b c = 0 := by
  simp only [hb_crs, hb_dot, hb_det]; grind
theorem hb_dot_z (a : hb_V3) : hb_dot a hb_z = 0 := by
  simp only [hb_dot, hb_z]; grind
theorem hb_dt_z (a : hb_V4) : hb_dt a hb_z = 0 := hb_dot_z _
theorem hb_sq (x : Int) : 0 ≤ x * x := by
  rcases Int.le_total 0 x with h | h
  · exact Int.mul_nonneg h h
  · exact Int.mul_nonneg_of_nonpos_of_nonpos h h
theorem hb_sq0 {x : Int} (h : x * x = 0) : x = 0 := by
  rcases Int.mul_eq_zero.mp h with h | h <;> exact h
theorem hb_nn (u : hb_V3) : 0 ≤ hb_dot u u := by
  have h1 := hb_sq u.1
  have h2 := hb_sq u.2.1
  have h3 := hb_sq u.2.2
  simp only [hb_dot]; omega
theorem hb_n0 {u : hb_V3} (h : hb_dot u u = 0) : u = hb_z := by
  have h1 := hb_sq u.1
  have h2 := hb_sq u.2.1
  have h3 := hb_sq u.2.2
  simp only [hb_dot] at h
  exact hb_ext3 (hb_sq0 (by omega)) (hb_sq0 (by omega)) (hb_sq0 (by omega))
theorem hb_np {u : hb_V3} (h : u ≠ hb_z) : 0 < hb_dot u u := by
  rcases Int.lt_or_eq_of_le (hb_nn u) with h1 | h1
  · exact h1
  · exact absurd (hb_n0 h1.symm) h
/-- u is parallel to c: products may be crossed -/
theorem hb_cx {u c : hb_V3} (h : hb_crs u c = hb_z) (a b : hb_V3) : hb_dot a u * hb_dot b c = hb_dot a c * hb_dot b u := by
  have := hb_bc a b u c
  rw [h, hb_dot_z] at this
  omega
theorem hb_crs_sw (a b : hb_V3) (h : hb_crs a b = hb_z) : hb_crs b a = hb_z := by
  have h1 := congrArg (fun t : hb_V3 => t.1) h
  have h2 := congrArg (fun t : hb_V3 => t.2.1) h
  have h3 := congrArg (fun t : hb_V3 => t.2.2) h
  simp only [hb_crs, hb_z] at h1 h2 h3
  refine hb_ext3 ?_ ?_ ?_ <;> simp only [hb_crs, hb_z] <;> grind
/-- a vector orthogonal to every vector is zero -/
theorem hb_all0 {u : hb_V3} (h : ∀ a, hb_dot a u = 0) : u = hb_z := hb_n0 (h u)
/-- u parallel to e, a not orthogonal to e but to u: u is zero -/
theorem hb_par0 {u e a : hb_V3} (h : hb_crs u e = hb_z) (h1 : hb_dot a u = 0) (h2 : hb_dot a e ≠ 0) : u = hb_z := by
  refine hb_all0 (fun b => ?_)
  have := hb_cx h a b
  rw [h1, Int.zero_mul] at this
  rcases Int.mul_eq_zero.mp this.symm with h | h
  · exact absurd h h2
  · exact h
theorem hb_crs3 {a b u : hb_V3} (ha : hb_dot a u = 0) (hb : hb_dot b u = 0) : hb_crs u (hb_crs a b) = hb_z := by
  have h : ∀ d, hb_dot d (hb_crs u (hb_crs a b)) = hb_dot b u * hb_dot d a - hb_dot a u * hb_dot d b := by
    intro d; simp only [hb_crs, hb_dot]; grind
  refine hb_all0 (fun d => ?_)
  rw [h, ha, hb]; omega
/-- two vectors parallel to a third -/
theorem hb_trans {u v c : hb_V3} (hc : c ≠ hb_z) (h1 : hb_crs u c = hb_z) (h2 : hb_crs v c = hb_z) : hb_crs u v = hb_z := by
  refine hb_all0 (fun d => ?_)
  have k1 := hb_cx h1 c (hb_crs v d)
  have k2 : hb_dot (hb_crs v d) c = 0 := by
    have : hb_dot (hb_crs v d) c = - hb_dot d (hb_crs v c) := by simp only [hb_crs, hb_dot]; grind
    rw [this, h2, hb_dot_z]; rfl
  have k3 : hb_dot (hb_crs v d) u = hb_dot d (hb_crs u v) := by simp only [hb_crs, hb_dot]; grind
  rw [k2, k3, Int.mul_zero] at k1
  rcases Int.mul_eq_zero.mp k1.symm with h | h
  · exact absurd (hb_n0 h) hc
  · exact h
/-- two vectors orthogonal to the same two that are not parallel -/
theorem hb_both {a b u v : hb_V3} (hn : hb_crs a b ≠ hb_z) (ha : hb_dot a u = 0) (hb : hb_dot b u = 0) (ha' : hb_dot a v = 0) (hb' : hb_dot b v = 0) : hb_crs u v = hb_z :=
  hb_trans hn (hb_crs3 ha hb) (hb_crs3 ha' hb')
end
section
/-! bodies: feasible points, vertices, moving and nudging, a vertex at least as far for every functional -/
def hb_fe (ps : List hb_V4) (X : hb_V4) : Prop := 0 < hb_w X ∧ ∀ p ∈ ps, 0 ≤ hb_s p X
def hb_ker (ps : List hb_V4) (X : hb_V4) (u : hb_V3) : Prop := ∀ p ∈ ps, hb_s p X = 0 → hb_dt p u = 0
def hb_vtx (ps : List hb_V4) (X : hb_V4) : Prop := hb_fe ps X ∧ ∀ u, hb_ker ps X u → u = hb_z
def hb_bnd (ps : List hb_V4) : Prop := ∀ u, u ≠ hb_z → ∃ p ∈ ps, 0 < hb_dt p u
def hb_ti (ps : List hb_V4) (X Y : hb_V4) : Prop := ∀ p ∈ ps, hb_s p X = 0 → hb_s p Y = 0

theorem hb_rat {a b c x y z : Int} (hx : 0 < x) (hy : 0 < y) (hz : 0 < z) (h1 : a * y ≤ b * x) (h2 : b * z ≤ c * y) : a * z ≤ c * x := by
  have e1 := Int.mul_le_mul_of_nonneg_right h1 (Int.le_of_lt hz)
  have e2 := Int.mul_le_mul_of_nonneg_right h2 (Int.le_of_lt hx)
  have e3 : a * z * y ≤ c * x * y := by
    have t1 : a * y * z = a * z * y := by grind
    have t2 : b * x * z = b * z * x := by grind
    have t3 : c * y * x = c * x * y := by grind
    omega
  exact Int.le_of_mul_le_mul_right e3 hy

theorem hb_minr {α : Type} (f g : α → Int) : ∀ ps : List α, (∃ p ∈ ps, 0 < g p) → ∃ p ∈ ps, 0 < g p ∧ ∀ q ∈ ps, 0 < g q → f p * g q ≤ f q * g p := by
  intro ps
  induction ps with
  | nil => intro h; obtain ⟨p, hp, _⟩ := h; cases hp
  | cons a t ih =>
    intro h
    by_cases ht : ∃ p ∈ t, 0 < g p
    · obtain ⟨p, hp, gp, hm⟩ := ih ht
      by_cases ga : 0 < g a
      · by_cases hc : f a * g p ≤ f p * g a
        · refine ⟨a, List.mem_cons_self, ga, fun q hq gq => ?_⟩
          rcases List.mem_cons.mp hq with e | e
          · rw [e]; omega
          · exact hb_rat ga gp gq hc (hm q e gq)
        · refine ⟨p, List.mem_cons_of_mem _ hp, gp, fun q hq gq => ?_⟩
          rcases List.mem_cons.mp hq with e | e
          · rw [e]; omega
          · exact hm q e gq
      · refine ⟨p, List.mem_cons_of_mem _ hp, gp, fun q hq gq => ?_⟩
        rcases List.mem_cons.mp hq with e | e
        · rw [e] at gq; exact absurd gq ga
        · exact hm q e gq
    · obtain ⟨p, hp, gp⟩ := h
      rcases List.mem_cons.mp hp with e | e
      · refine ⟨p, hp, gp, fun q hq gq => ?_⟩
        rcases List.mem_cons.mp hq with e' | e'
        · rw [e', e]; omega
        · exact absurd ⟨q, e', gq⟩ ht
      · exact absurd ⟨p, e, gp⟩ ht

/-- from X along u to the first plane in the way -/
theorem hb_move {ps : List hb_V4} {X : hb_V4} {u : hb_V3} (hb : hb_bnd ps) (hX : hb_fe ps X) (hu : u ≠ hb_z) (hk : ∀ p ∈ ps, hb_s p X = 0 → hb_dt p u ≤ 0) :
    ∃ α β p, 0 < α ∧ 0 < β ∧ p ∈ ps ∧ 0 < hb_dt p u ∧ hb_s p X ≠ 0 ∧ hb_s p (hb_mv α X β u) = 0 ∧ hb_fe ps (hb_mv α X β u) := by
  obtain ⟨p, hp, gp, hm⟩ := hb_minr (fun p => hb_s p X) (fun p => hb_dt p u) ps (hb u hu)
  have h0 := hX.2 p hp
  have hs : 0 < hb_s p X := by
    rcases Int.lt_or_eq_of_le h0 with h | h
    · exact h
    · have := hk p hp h.symm; omega
  refine ⟨hb_dt p u, hb_s p X, p, gp, hs, hp, gp, by omega, ?_, ?_, fun q hq => ?_⟩
  · rw [hb_s_mv, Int.mul_comm]; omega
  · rw [hb_w_mv]; exact Int.mul_pos gp hX.1
  · rw [hb_s_mv]
    by_cases hq' : 0 < hb_dt q u
    · have := hm q hq hq'
      have e : hb_dt p u * hb_s q X = hb_s q X * hb_dt p u := Int.mul_comm _ _
      omega
    · have h1 : 0 ≤ hb_dt p u * hb_s q X := Int.mul_nonneg (Int.le_of_lt gp) (hX.2 q hq)
      have h2 : 0 ≤ hb_s p X * (- hb_dt q u) := Int.mul_nonneg h0 (by omega)
      rw [Int.mul_neg] at h2
      omega

theorem hb_above {α : Type} (g : α → Int) : ∀ ps : List α, ∃ M, 0 < M ∧ ∀ p ∈ ps, g p < M := by
  intro ps
  induction ps with
  | nil => exact ⟨1, by omega, fun p hp => by cases hp⟩
  | cons a t ih =>
    obtain ⟨M, h0, h⟩ := ih
    refine ⟨M + (if 0 ≤ g a then g a else 0), by split <;> omega, fun p hp => ?_⟩
    rcases List.mem_cons.mp hp with e | e
    · rw [e]; split <;> omega
    · have := h p e; split <;> omega

/-- a little way from X along u -/
theorem hb_nudge {ps : List hb_V4} {X : hb_V4} {u : hb_V3} (hX : hb_fe ps X) (hk : ∀ p ∈ ps, hb_s p X = 0 → hb_dt p u ≤ 0) :
    ∃ M, 0 < M ∧ hb_fe ps (hb_mv M X 1 u) ∧ ∀ p ∈ ps, (hb_s p (hb_mv M X 1 u) = 0 ↔ hb_s p X = 0 ∧ hb_dt p u = 0) := by
  obtain ⟨M, h0, hM⟩ := hb_above (fun p => hb_dt p u) ps
  have key : ∀ p ∈ ps, 0 < hb_s p X → 0 < hb_s p (hb_mv M X 1 u) := by
    intro p hp h
    rw [hb_s_mv]
    have h1 := hM p hp
    have h2 : M * 1 ≤ M * hb_s p X := Int.mul_le_mul_of_nonneg_left (by omega) (Int.le_of_lt h0)
    omega
  have key0 : ∀ p, hb_s p X = 0 → hb_s p (hb_mv M X 1 u) = - hb_dt p u := by
    intro p h
    rw [hb_s_mv, h]; omega
  refine ⟨M, h0, ⟨?_, fun p hp => ?_⟩, fun p hp => ?_⟩
  · rw [hb_w_mv]; exact Int.mul_pos h0 hX.1
  · rcases Int.lt_or_eq_of_le (hX.2 p hp) with h | h
    · exact Int.le_of_lt (key p hp h)
    · rw [key0 p h.symm]; have := hk p hp h.symm; omega
  · rcases Int.lt_or_eq_of_le (hX.2 p hp) with h | h
    · have := key p hp h
      constructor
      · intro e; omega
      · intro e; omega
    · rw [key0 p h.symm]
      constructor
      · intro e; exact ⟨h.symm, by omega⟩
      · intro e; omega

theorem hb_cntlt {α : Type} (f g : α → Bool) : ∀ (ps : List α), (∀ p ∈ ps, f p = true → g p = true) → (∃ p ∈ ps, g p = true ∧ f p = false) → ps.countP f < ps.countP g := by
  intro ps
  induction ps with
  | nil => intro _ h; obtain ⟨p, hp, _⟩ := h; cases hp
  | cons a t ih =>
    intro h1 h2
    have hle : t.countP f ≤ t.countP g := List.countP_mono_left (fun p hp => h1 p (List.mem_cons_of_mem _ hp))
    obtain ⟨p, hp, gp, fp⟩ := h2
    rw [List.countP_cons, List.countP_cons]
    rcases List.mem_cons.mp hp with e | e
    · subst e
      simp only [gp, fp, if_true, Bool.false_eq_true, if_false]
      omega
    · have := ih (fun p hp => h1 p (List.mem_cons_of_mem _ hp)) ⟨p, e, gp, fp⟩
      have ha := h1 a List.mem_cons_self
      by_cases fa : f a = true
      · simp only [fa, ha fa, if_true]; omega
      · simp only [fa, Bool.false_eq_true, if_false]; split <;> omega

def hb_sl (ps : List hb_V4) (X : hb_V4) : Nat := ps.countP (fun p => decide (hb_s p X ≠ 0))

/-- a vertex in the smallest face of X, at least as far for f -/
theorem hb_bfs {ps : List hb_V4} (hb : hb_bnd ps) (f : hb_V4) : ∀ (m : Nat) (X : hb_V4), hb_fe ps X → hb_sl ps X ≤ m → ∃ v, hb_vtx ps v ∧ hb_ti ps X v ∧ hb_s f X * hb_w v ≤ hb_s f v * hb_w X := by
  have step : ∀ X, hb_fe ps X → ¬ hb_vtx ps X → ∃ Y, hb_fe ps Y ∧ hb_ti ps X Y ∧ hb_s f X * hb_w Y ≤ hb_s f Y * hb_w X ∧ hb_sl ps Y < hb_sl ps X := by
    intro X hX hv
    have : ∃ u, hb_ker ps X u ∧ u ≠ hb_z := by
      refine Classical.byContradiction (fun h => hv ⟨hX, fun u hu => Classical.byContradiction (fun h' => h ⟨u, hu, h'⟩)⟩)
    obtain ⟨u, hu, hu0⟩ := this
    have : ∃ u, hb_ker ps X u ∧ u ≠ hb_z ∧ hb_dt f u ≤ 0 := by
      by_cases h : hb_dt f u ≤ 0
      · exact ⟨u, hu, hu0, h⟩
      · refine ⟨hb_sc (-1) u, fun p hp h' => ?_, fun h' => hu0 ?_, ?_⟩
        · rw [hb_dt_sc, hu p hp h']; rfl
        · have e1 := congrArg (fun t : hb_V3 => t.1) h'
          have e2 := congrArg (fun t : hb_V3 => t.2.1) h'
          have e3 := congrArg (fun t : hb_V3 => t.2.2) h'
          simp only [hb_sc, hb_z] at e1 e2 e3
          exact hb_ext3 (by simp only [hb_z]; omega) (by simp only [hb_z]; omega) (by simp only [hb_z]; omega)
        · rw [hb_dt_sc]; omega
    obtain ⟨u, hu, hu0, hf⟩ := this
    obtain ⟨α, β, p, ha, hbb, hp, gp, hs, hz, hfe⟩ := hb_move hb hX hu0 (fun p hp h => Int.le_of_eq (hu p hp h))
    have hti : hb_ti ps X (hb_mv α X β u) := by
      intro q hq h
      rw [hb_s_mv, h, hu q hq h]; omega
    refine ⟨_, hfe, hti, ?_, ?_⟩
    · rw [hb_s_mv, hb_w_mv]
      have h1 : 0 ≤ β * (- hb_dt f u) := Int.mul_nonneg (Int.le_of_lt hbb) (by omega)
      have h2 := Int.mul_nonneg h1 (Int.le_of_lt hX.1)
      have e : (α * hb_s f X - β * hb_dt f u) * hb_w X = hb_s f X * (α * hb_w X) + β * (- hb_dt f u) * hb_w X := by grind
      omega
    · refine hb_cntlt _ _ ps (fun q hq h => ?_) ⟨p, hp, ?_, ?_⟩
      · simp only [decide_eq_true_eq] at h ⊢
        exact fun h' => h (hti q hq h')
      · simp only [decide_eq_true_eq]; exact hs
      · simp only [decide_eq_false_iff_not]; exact fun h => h hz
  intro m
  induction m with
  | zero =>
    intro X hX hm
    by_cases hv : hb_vtx ps X
    · exact ⟨X, hv, fun p _ h => h, Int.le_refl _⟩
    · obtain ⟨Y, _, _, _, h⟩ := step X hX hv
      omega
  | succ m ih =>
    intro X hX hm
    by_cases hv : hb_vtx ps X
    · exact ⟨X, hv, fun p _ h => h, Int.le_refl _⟩
    · obtain ⟨Y, hY, ht, hf, h⟩ := step X hX hv
      obtain ⟨v, h1, h2, h3⟩ := ih Y hY (by omega)
      refine ⟨v, h1, fun p hp h => h2 p hp (ht p hp h), hb_rat hX.1 hY.1 h1.1.1 hf h3⟩
end
section
/-! enumerations of the vertices; neighbours; three vertices are never on a line -/
theorem hb_dir_sw {v l : hb_V4} (h : hb_dir v l = hb_z) : hb_dir l v = hb_z := by
  have e1 := congrArg (fun t : hb_V3 => t.1) h
  have e2 := congrArg (fun t : hb_V3 => t.2.1) h
  have e3 := congrArg (fun t : hb_V3 => t.2.2) h
  simp only [hb_dir, hb_z] at e1 e2 e3
  exact hb_ext3 (by simp only [hb_dir, hb_z]; omega) (by simp only [hb_dir, hb_z]; omega) (by simp only [hb_dir, hb_z]; omega)
theorem hb_par_refl (v : hb_V4) : hb_par v v := by
  refine hb_ext3 ?_ ?_ ?_ <;> simp only [hb_dir, hb_z] <;> omega
theorem hb_par_symm {v l : hb_V4} (h : hb_par v l) : hb_par l v := hb_dir_sw h
theorem hb_par_s {v l : hb_V4} (h : hb_par v l) (p : hb_V4) : hb_w l * hb_s p v = hb_w v * hb_s p l := by
  have := hb_dt_dir p v l
  rw [h, hb_dt_z] at this
  omega
/-- the direction from l to m by those from k -/
theorem hb_dir3 (k l m : hb_V4) (a : hb_V3) : hb_w k * hb_dot a (hb_dir l m) = hb_w l * hb_dot a (hb_dir k m) - hb_w m * hb_dot a (hb_dir k l) := by
  simp only [hb_dir, hb_dot, hb_w]; grind
theorem hb_dir_neg (k l : hb_V4) (a : hb_V3) : hb_dot a (hb_dir l k) = - hb_dot a (hb_dir k l) := by
  simp only [hb_dir, hb_dot, hb_w]; grind
theorem hb_par_trans {a b c : hb_V4} (hb : 0 < hb_w b) (h1 : hb_par a b) (h2 : hb_par b c) : hb_par a c := by
  refine hb_all0 (fun d => ?_)
  have := hb_dir3 b a c d
  have e : hb_dot d (hb_dir b a) = 0 := by rw [hb_dir_neg, h1, hb_dot_z]; rfl
  rw [h2, hb_dot_z, e, Int.mul_zero, Int.mul_zero] at this
  rcases Int.mul_eq_zero.mp this with h | h
  · omega
  · exact h
theorem hb_par_ti {v l p : hb_V4} (hv : 0 < hb_w v) (hl : 0 < hb_w l) (h : hb_par v l) : hb_s p v = 0 ↔ hb_s p l = 0 := by
  have := hb_par_s h p
  constructor
  · intro e
    rw [e, Int.mul_zero] at this
    rcases Int.mul_eq_zero.mp this.symm with h | h
    · omega
    · exact h
  · intro e
    rw [e, Int.mul_zero] at this
    rcases Int.mul_eq_zero.mp this with h | h
    · omega
    · exact h
/-- a vertex isn't between two others -/
theorem hb_btw {ps : List hb_V4} {k l m : hb_V4} (hk : hb_vtx ps k) (hl : hb_fe ps l) (hm : hb_fe ps m) (hc : hb_crs (hb_dir k l) (hb_dir k m) = hb_z) (hn : hb_dot (hb_dir k l) (hb_dir k m) < 0) : False := by
  have h0 : hb_dir k l = hb_z := by
    refine hk.2 _ (fun p hp h => ?_)
    have e1 := hb_dt_dir p k l
    have e2 := hb_dt_dir p k m
    rw [h, Int.mul_zero] at e1 e2
    have f1 : 0 ≤ hb_w k * hb_s p l := Int.mul_nonneg (Int.le_of_lt hk.1.1) (hl.2 p hp)
    have f2 : 0 ≤ hb_w k * hb_s p m := Int.mul_nonneg (Int.le_of_lt hk.1.1) (hm.2 p hp)
    have cx := hb_cx hc (hb_dir k l) (hb_n p)
    have e1' : hb_dot (hb_n p) (hb_dir k l) = - (hb_w k * hb_s p l) := by have := e1; simp only [hb_dt] at this; omega
    have e2' : hb_dot (hb_n p) (hb_dir k m) = - (hb_w k * hb_s p m) := by have := e2; simp only [hb_dt] at this; omega
    rw [e1', e2'] at cx
    have n1 := hb_nn (hb_dir k l)
    have g1 : 0 ≤ hb_dot (hb_dir k l) (hb_dir k l) * (hb_w k * hb_s p m) := Int.mul_nonneg n1 f2
    have g2 : 0 ≤ (- hb_dot (hb_dir k l) (hb_dir k m)) * (hb_w k * hb_s p l) := Int.mul_nonneg (by omega) f1
    have g3 : (- hb_dot (hb_dir k l) (hb_dir k m)) * (hb_w k * hb_s p l) = 0 := by
      rw [Int.mul_neg, Int.mul_neg] at cx
      rw [Int.neg_mul] at g2 ⊢
      omega
    rcases Int.mul_eq_zero.mp g3 with h | h
    · omega
    · simp only [hb_dt]; omega
  rw [h0] at hn
  have : hb_dot hb_z (hb_dir k m) = 0 := by rw [hb_dot_comm, hb_dot_z]
  omega
theorem hb_dirn (k l : hb_V4) : hb_dir l k = hb_sc (-1) (hb_dir k l) := by
  refine hb_ext3 ?_ ?_ ?_ <;> simp only [hb_dir, hb_sc] <;> grind
theorem hb_crs_comm0 {u v : hb_V3} (α β : Int) (h : hb_crs u v = hb_z) : hb_crs (hb_sc α u) (hb_sc β v) = hb_z := by
  have e1 := congrArg (fun t : hb_V3 => t.1) h
  have e2 := congrArg (fun t : hb_V3 => t.2.1) h
  have e3 := congrArg (fun t : hb_V3 => t.2.2) h
  simp only [hb_crs, hb_z] at e1 e2 e3
  refine hb_ext3 ?_ ?_ ?_ <;> simp only [hb_crs, hb_sc, hb_z] <;> grind
/-- three vertices that are not the same are not on a line -/
theorem hb_col {ps : List hb_V4} {k l m : hb_V4} (hk : hb_vtx ps k) (hl : hb_vtx ps l) (hm : hb_vtx ps m) (h1 : ¬ hb_par k l) (h2 : ¬ hb_par k m) (h3 : ¬ hb_par l m) : hb_crs (hb_dir k l) (hb_dir k m) ≠ hb_z := by
  intro hc
  have N := hb_np h1
  have N' := hb_np h2
  have cx := hb_cx hc (hb_dir k l) (hb_dir k m)
  have wk := hk.1.1
  have wl := hl.1.1
  have wm := hm.1.1
  -- the direction from l to m is parallel too
  have par_lm : hb_crs (hb_dir k l) (hb_dir l m) = hb_z := by
    refine hb_all0 (fun d => ?_)
    have e : hb_w k * hb_dot d (hb_crs (hb_dir k l) (hb_dir l m)) = hb_w l * hb_dot d (hb_crs (hb_dir k l) (hb_dir k m)) := by
      simp only [hb_dir, hb_crs, hb_dot, hb_w]; grind
    rw [hc, hb_dot_z, Int.mul_zero] at e
    rcases Int.mul_eq_zero.mp e with h | h
    · omega
    · exact h
  have par_lm' : hb_crs (hb_dir k m) (hb_dir l m) = hb_z := hb_trans h1 (hb_crs_sw _ _ hc) (hb_crs_sw _ _ par_lm)
  -- the three products
  have dk : 0 ≤ hb_dot (hb_dir k l) (hb_dir k m) := by
    rcases Int.lt_or_le (hb_dot (hb_dir k l) (hb_dir k m)) 0 with h | h
    · exact absurd (hb_btw hk hl.1 hm.1 hc h) id
    · exact h
  have dl : hb_dot (hb_dir k l) (hb_dir l m) ≤ 0 := by
    rcases Int.lt_or_le 0 (hb_dot (hb_dir k l) (hb_dir l m)) with h | h
    · refine absurd (hb_btw hl hk.1 hm.1 ?_ ?_) id
      · rw [hb_dirn k l]
        have := hb_crs_comm0 (-1) 1 par_lm
        have e : hb_sc 1 (hb_dir l m) = hb_dir l m := by refine hb_ext3 ?_ ?_ ?_ <;> simp only [hb_sc] <;> omega
        rw [e] at this
        exact this
      · rw [hb_dot_comm, hb_dir_neg, hb_dot_comm]; omega
    · exact h
  have dm : 0 ≤ hb_dot (hb_dir k m) (hb_dir l m) := by
    rcases Int.lt_or_le (hb_dot (hb_dir k m) (hb_dir l m)) 0 with h | h
    · refine absurd (hb_btw hm hk.1 hl.1 ?_ ?_) id
      · rw [hb_dirn k m, hb_dirn l m]
        exact hb_crs_comm0 (-1) (-1) par_lm'
      · rw [hb_dir_neg, hb_dot_comm, hb_dir_neg, hb_dot_comm]; omega
    · exact h
  have q1 := hb_dir3 k l m (hb_dir k l)
  have q2 := hb_dir3 k l m (hb_dir k m)
  have i1 : hb_w k * hb_dot (hb_dir k l) (hb_dir l m) ≤ 0 := Int.mul_nonpos_of_nonneg_of_nonpos (Int.le_of_lt wk) dl
  have i2 : 0 ≤ hb_w k * hb_dot (hb_dir k m) (hb_dir l m) := Int.mul_nonneg (Int.le_of_lt wk) dm
  rw [hb_dot_comm (hb_dir k m) (hb_dir k l)] at q2
  -- w_l t ≤ w_m N, w_m t ≤ w_l N', t t = N N'
  have hA : hb_w l * hb_dot (hb_dir k l) (hb_dir k m) ≤ hb_w m * hb_dot (hb_dir k l) (hb_dir k l) := by omega
  have hC : hb_w m * hb_dot (hb_dir k l) (hb_dir k m) ≤ hb_w l * hb_dot (hb_dir k m) (hb_dir k m) := by omega
  have ht : 0 < hb_dot (hb_dir k l) (hb_dir k m) := by
    rcases Int.lt_or_eq_of_le dk with h | h
    · exact h
    · rw [← h] at cx
      have := Int.mul_pos N N'
      omega
  rw [hb_dot_comm (hb_dir k m) (hb_dir k l)] at cx
  have hAB : hb_w l * hb_dot (hb_dir k l) (hb_dir k m) = hb_w m * hb_dot (hb_dir k l) (hb_dir k l) := by
    rcases Int.lt_or_eq_of_le hA with h | h
    · have C0 : 0 < hb_w m * hb_dot (hb_dir k l) (hb_dir k m) := Int.mul_pos wm ht
      have B0 : 0 ≤ hb_w m * hb_dot (hb_dir k l) (hb_dir k l) := Int.mul_nonneg (Int.le_of_lt wm) (Int.le_of_lt N)
      have j1 := Int.mul_lt_mul_of_pos_right h C0
      have j2 := Int.mul_le_mul_of_nonneg_left hC B0
      have j3 : hb_w l * hb_dot (hb_dir k l) (hb_dir k m) * (hb_w m * hb_dot (hb_dir k l) (hb_dir k m)) = hb_w m * hb_dot (hb_dir k l) (hb_dir k l) * (hb_w l * hb_dot (hb_dir k m) (hb_dir k m)) := by grind
      omega
    · exact h
  refine h3 (hb_all0 (fun d => ?_))
  have q3 := hb_dir3 k l m d
  have q4 := hb_cx hc (hb_dir k l) d
  have q5 : hb_dot (hb_dir k l) (hb_dir k l) * (hb_w k * hb_dot d (hb_dir l m)) = 0 := by
    rw [q3]; grind
  rcases Int.mul_eq_zero.mp q5 with h | h
  · omega
  · rcases Int.mul_eq_zero.mp h with h | h
    · omega
    · exact h

def hb_En (ps L : List hb_V4) : Prop := (∀ v ∈ L, hb_vtx ps v) ∧ L.Pairwise (fun a b => ¬ hb_par a b) ∧ ∀ X, hb_vtx ps X → ∃ v ∈ L, hb_par v X
/-- all planes that k and l share -/
def hb_cm (ps : List hb_V4) (k l m : hb_V4) : Prop := ∀ p ∈ ps, hb_s p k = 0 → hb_s p l = 0 → hb_s p m = 0
def hb_nb (ps L : List hb_V4) (k l : hb_V4) : Prop := k ≠ l ∧ ∀ m ∈ L, m ≠ k → m ≠ l → ¬ hb_cm ps k l m
def hb_kc (ps : List hb_V4) (k l : hb_V4) (u : hb_V3) : Prop := ∀ p ∈ ps, hb_s p k = 0 → hb_s p l = 0 → hb_dt p u = 0

theorem hb_pw_inj {α : Type} {R : α → α → Prop} (hs : ∀ a b, R a b → R b a) : ∀ {L : List α}, L.Pairwise (fun a b => ¬ R a b) → ∀ a ∈ L, ∀ b ∈ L, R a b → a = b := by
  intro L
  induction L with
  | nil => intro _ a ha; cases ha
  | cons c t ih =>
    intro h a ha b hb hr
    rw [List.pairwise_cons] at h
    rcases List.mem_cons.mp ha with e | e
    · rcases List.mem_cons.mp hb with e' | e'
      · rw [e, e']
      · rw [e] at hr; exact absurd hr (h.1 b e')
    · rcases List.mem_cons.mp hb with e' | e'
      · rw [e'] at hr; exact absurd (hs _ _ hr) (h.1 a e)
      · exact ih h.2 a e b e' hr
theorem hb_En_inj {ps L : List hb_V4} (h : hb_En ps L) {a b : hb_V4} (ha : a ∈ L) (hb : b ∈ L) (hp : hb_par a b) : a = b :=
  hb_pw_inj (fun _ _ => hb_par_symm) h.2.1 a ha b hb hp
/-- a corner of the list in the smallest face of X, at least as far for f -/
theorem hb_far {ps L : List hb_V4} (hb : hb_bnd ps) (h : hb_En ps L) (f : hb_V4) {X : hb_V4} (hX : hb_fe ps X) : ∃ v ∈ L, hb_ti ps X v ∧ hb_s f X * hb_w v ≤ hb_s f v * hb_w X := by
  obtain ⟨v, h1, h2, h3⟩ := hb_bfs hb f _ X hX (Nat.le_refl _)
  obtain ⟨y, hy, hp⟩ := h.2.2 v h1
  have wy := (h.1 y hy).1.1
  have wv := h1.1.1
  refine ⟨y, hy, fun p hp' e => (hb_par_ti wy wv hp).mpr (h2 p hp' e), ?_⟩
  have e := hb_par_s hp f
  have e' : hb_s f X * hb_w y * hb_w v ≤ hb_s f y * hb_w X * hb_w v := by
    have t := Int.mul_le_mul_of_nonneg_right h3 (Int.le_of_lt wy)
    have t1 : hb_s f X * hb_w y * hb_w v = hb_s f X * hb_w v * hb_w y := by grind
    have t2 : hb_s f y * hb_w X * hb_w v = hb_s f v * hb_w X * hb_w y := by grind
    omega
  exact Int.le_of_mul_le_mul_right e' wv
theorem hb_nb_of {ps L : List hb_V4} (h : hb_En ps L) {k l : hb_V4} (hk : k ∈ L) (hl : l ∈ L) (hn : k ≠ l) (hu : ∀ u, hb_kc ps k l u → hb_crs u (hb_dir k l) = hb_z) : hb_nb ps L k l := by
  refine ⟨hn, fun m hm mk ml hc => ?_⟩
  refine hb_col (h.1 k hk) (h.1 l hl) (h.1 m hm) (fun e => hn (hb_En_inj h hk hl e)) (fun e => mk (hb_En_inj h hk hm e).symm) (fun e => ml (hb_En_inj h hl hm e).symm) (hb_crs_sw _ _ (hu _ (fun p hp e1 e2 => ?_)))
  rw [hb_dt_dir, e1, hc p hp e1 e2]; omega

/-- the common planes of two neighbours leave only their line -/
theorem hb_edge {ps L : List hb_V4} (hb : hb_bnd ps) (h : hb_En ps L) {k l : hb_V4} (hk : k ∈ L) (hl : l ∈ L) (hn : hb_nb ps L k l) : ∀ u, hb_kc ps k l u → hb_crs u (hb_dir k l) = hb_z := by
  intro u hu
  refine Classical.byContradiction (fun hne => ?_)
  have vk := (h.1 k hk).1
  have vl := (h.1 l hl).1
  -- between the two
  have hmid : hb_fe ps (hb_lc 1 k 1 l) := by
    refine ⟨?_, fun p hp => ?_⟩
    · rw [hb_w_lc]; have := vk.1; have := vl.1; omega
    · rw [hb_s_lc]; have := vk.2 p hp; have := vl.2 p hp; omega
  have tmid : ∀ p ∈ ps, hb_s p (hb_lc 1 k 1 l) = 0 → hb_s p k = 0 ∧ hb_s p l = 0 := by
    intro p hp e
    rw [hb_s_lc] at e; have := vk.2 p hp; have := vl.2 p hp; omega
  obtain ⟨M, hM, hX, tX⟩ := hb_nudge hmid (u := u) (fun p hp e => Int.le_of_eq (hu p hp (tmid p hp e).1 (tmid p hp e).2))
  -- f: zero at k and l, more at the nudged point
  let e := hb_dir k l
  let c := hb_crs u e
  let f := hb_crs e c
  let F : hb_V4 := (-(hb_w k * f.1), -(hb_w k * f.2.1), -(hb_w k * f.2.2), -(hb_dot f (hb_n k)))
  have sF : ∀ v, hb_s F v = hb_w k * hb_dot f (hb_n v) - hb_w v * hb_dot f (hb_n k) := by
    intro v
    simp only [F, hb_s, hb_w, hb_n, hb_dot]; grind
  have sFd : ∀ v, hb_s F v = hb_dot f (hb_dir k v) := by
    intro v
    rw [sF]; simp only [hb_dir, hb_w, hb_n, hb_dot]; grind
  have sFk : hb_s F k = 0 := by rw [sFd, hb_par_refl k, hb_dot_z]
  have sFl : hb_s F l = 0 := by
    rw [sFd]; show hb_dot (hb_crs e c) e = 0
    rw [hb_dot_comm, hb_crs_l]
  have dF : hb_dt F u = - (hb_w k * hb_dot f u) := by
    simp only [F, hb_dt, hb_n, hb_dot]; grind
  have fu : 0 < hb_dot f u := by
    have e1 : hb_dot f u = hb_dot c c := by
      show hb_dot (hb_crs e c) u = hb_dot c c
      have : hb_dot (hb_crs e c) u = hb_dot c (hb_crs u e) := by simp only [hb_crs, hb_dot]; grind
      rw [this]
    rw [e1]
    exact hb_np hne
  have sX : 0 < hb_s F (hb_mv M (hb_lc 1 k 1 l) 1 u) := by
    rw [hb_s_mv, hb_s_lc, sFk, sFl, dF]
    have := Int.mul_pos vk.1 fu
    omega
  obtain ⟨m, hm, tm, fm⟩ := hb_far hb h F hX
  have sm : 0 < hb_s F m := by
    have wm := (h.1 m hm).1.1
    have t := Int.mul_pos sX wm
    rcases Int.lt_or_le 0 (hb_s F m) with g | g
    · exact g
    · have := Int.mul_nonpos_of_nonpos_of_nonneg g (Int.le_of_lt hX.1)
      omega
  refine hn.2 m hm (fun e => ?_) (fun e => ?_) (fun p hp e1 e2 => ?_)
  · rw [e, sFk] at sm; omega
  · rw [e, sFl] at sm; omega
  · refine tm p hp ((tX p hp).mpr ⟨?_, hu p hp e1 e2⟩)
    rw [hb_s_lc, e1, e2]; rfl
end
section
/-! a plane is applied: the kept corners and the crossings are the corners of the cut body -/
noncomputable def hb_b (P : Prop) : Bool := @decide P (Classical.propDecidable P)
theorem hb_b_t {P : Prop} : hb_b P = true ↔ P := by
  unfold hb_b
  exact @decide_eq_true_iff P (Classical.propDecidable P)
def hb_g4 (Y : hb_V4) : Int := (Int.gcd (Int.gcd (Int.gcd Y.1 Y.2.1 : Int) Y.2.2.1 : Int) Y.2.2.2 : Int)
def hb_red (Y : hb_V4) : hb_V4 := (Y.1 / hb_g4 Y, Y.2.1 / hb_g4 Y, Y.2.2.1 / hb_g4 Y, Y.2.2.2 / hb_g4 Y)
def hb_nrm (v : hb_V4) : Prop := ∀ t : Int, t ∣ v.1 → t ∣ v.2.1 → t ∣ v.2.2.1 → t ∣ v.2.2.2 → t ∣ 1
def hb_cross (p k l : hb_V4) : hb_V4 := hb_red (hb_lc (-(hb_s p l)) k (hb_s p k) l)
def hb_kept (p : hb_V4) (L : List hb_V4) : List hb_V4 := L.filter (fun v => decide (0 ≤ hb_s p v))
noncomputable def hb_row (ps L : List hb_V4) (p k : hb_V4) (M : List hb_V4) : List hb_V4 := M.filterMap (fun l => if hb_b (0 < hb_s p k ∧ hb_s p l < 0 ∧ hb_nb ps L k l) then some (hb_cross p k l) else none)
noncomputable def hb_xs (ps L : List hb_V4) (p : hb_V4) (M : List hb_V4) : List hb_V4 := M.flatMap (fun k => hb_row ps L p k L)
noncomputable def hb_app (ps L : List hb_V4) (p : hb_V4) : List hb_V4 := hb_kept p L ++ hb_xs ps L p L

theorem hb_g4_dvd (Y : hb_V4) : hb_g4 Y ∣ Y.1 ∧ hb_g4 Y ∣ Y.2.1 ∧ hb_g4 Y ∣ Y.2.2.1 ∧ hb_g4 Y ∣ Y.2.2.2 := by
  have h1 : hb_g4 Y ∣ (Int.gcd (Int.gcd Y.1 Y.2.1 : Int) Y.2.2.1 : Int) := Int.gcd_dvd_left ..
  have h2 : (Int.gcd (Int.gcd Y.1 Y.2.1 : Int) Y.2.2.1 : Int) ∣ (Int.gcd Y.1 Y.2.1 : Int) := Int.gcd_dvd_left ..
  exact ⟨Int.dvd_trans h1 (Int.dvd_trans h2 (Int.gcd_dvd_left ..)), Int.dvd_trans h1 (Int.dvd_trans h2 (Int.gcd_dvd_right ..)), Int.dvd_trans h1 (Int.gcd_dvd_right ..), Int.gcd_dvd_right ..⟩
theorem hb_dvd_g4 {Y : hb_V4} {t : Int} (h1 : t ∣ Y.1) (h2 : t ∣ Y.2.1) (h3 : t ∣ Y.2.2.1) (h4 : t ∣ Y.2.2.2) : t ∣ hb_g4 Y :=
  Int.dvd_coe_gcd (Int.dvd_coe_gcd (Int.dvd_coe_gcd h1 h2) h3) h4
theorem hb_g4_pos {Y : hb_V4} (h : 0 < hb_w Y) : 0 < hb_g4 Y := by
  have h1 : 0 ≤ hb_g4 Y := Int.natCast_nonneg _
  rcases Int.lt_or_eq_of_le h1 with h2 | h2
  · exact h2
  · have := (hb_g4_dvd Y).2.2.2
    rw [← h2] at this
    have e := Int.zero_dvd.mp this
    simp only [hb_w] at h
    omega
theorem hb_red_mul (Y : hb_V4) : hb_g4 Y * (hb_red Y).1 = Y.1 ∧ hb_g4 Y * (hb_red Y).2.1 = Y.2.1 ∧ hb_g4 Y * (hb_red Y).2.2.1 = Y.2.2.1 ∧ hb_g4 Y * (hb_red Y).2.2.2 = Y.2.2.2 := by
  obtain ⟨h1, h2, h3, h4⟩ := hb_g4_dvd Y
  exact ⟨Int.mul_ediv_cancel' h1, Int.mul_ediv_cancel' h2, Int.mul_ediv_cancel' h3, Int.mul_ediv_cancel' h4⟩
theorem hb_red_w {Y : hb_V4} (h : 0 < hb_w Y) : 0 < hb_w (hb_red Y) := by
  have g := hb_g4_pos h
  have e := (hb_red_mul Y).2.2.2
  simp only [hb_w] at *
  rcases Int.lt_or_le 0 (hb_red Y).2.2.2 with h' | h'
  · exact h'
  · have := Int.mul_nonpos_of_nonneg_of_nonpos (Int.le_of_lt g) h'
    omega
theorem hb_red_par {Y : hb_V4} : hb_par (hb_red Y) Y := by
  obtain ⟨e1, e2, e3, e4⟩ := hb_red_mul Y
  refine hb_ext3 ?_ ?_ ?_ <;> simp only [hb_dir, hb_w, hb_z] <;> grind
theorem hb_red_nrm {Y : hb_V4} (h : 0 < hb_w Y) : hb_nrm (hb_red Y) := by
  intro t h1 h2 h3 h4
  have g := hb_g4_pos h
  obtain ⟨e1, e2, e3, e4⟩ := hb_red_mul Y
  have k : hb_g4 Y * t ∣ hb_g4 Y := by
    refine hb_dvd_g4 ?_ ?_ ?_ ?_
    · have := Int.mul_dvd_mul_left (hb_g4 Y) h1; rwa [e1] at this
    · have := Int.mul_dvd_mul_left (hb_g4 Y) h2; rwa [e2] at this
    · have := Int.mul_dvd_mul_left (hb_g4 Y) h3; rwa [e3] at this
    · have := Int.mul_dvd_mul_left (hb_g4 Y) h4; rwa [e4] at this
  obtain ⟨c, hc⟩ := k
  refine ⟨c, ?_⟩
  have : hb_g4 Y * 1 = hb_g4 Y * (t * c) := by rw [Int.mul_one, ← Int.mul_assoc]; exact hc
  exact Int.eq_of_mul_eq_mul_left (by omega) this
theorem hb_vtx_par {ps : List hb_V4} {X Y : hb_V4} (h : hb_vtx ps X) (hp : hb_par X Y) (hw : 0 < hb_w Y) : hb_vtx ps Y := by
  have wX := h.1.1
  refine ⟨⟨hw, fun q hq => ?_⟩, fun u hu => h.2 u (fun q hq e => hu q hq ((hb_par_ti wX hw hp).mp e))⟩
  have e := hb_par_s hp q
  have := h.1.2 q hq
  have t := Int.mul_nonneg (Int.le_of_lt hw) this
  rcases Int.lt_or_le (hb_s q Y) 0 with h' | h'
  · have := Int.mul_neg_of_pos_of_neg wX h'
    omega
  · exact h'
/-- along u from X to a vertex, where the tight planes that hold u leave only u -/
theorem hb_ray {ps : List hb_V4} {X : hb_V4} {u : hb_V3} (hb : hb_bnd ps) (hX : hb_fe ps X) (hu : u ≠ hb_z) (hk : ∀ q ∈ ps, hb_s q X = 0 → hb_dt q u ≤ 0)
    (hl : ∀ u', (∀ q ∈ ps, hb_s q X = 0 → hb_dt q u = 0 → hb_dt q u' = 0) → hb_crs u' u = hb_z) : ∃ α β, 0 < α ∧ 0 < β ∧ hb_vtx ps (hb_mv α X β u) := by
  obtain ⟨α, β, p, ha, hbb, hp, gp, hs, hz, hfe⟩ := hb_move hb hX hu hk
  refine ⟨α, β, ha, hbb, hfe, fun u' hu' => ?_⟩
  refine hb_par0 (hl u' (fun q hq e1 e2 => hu' q hq ?_)) (hu' p hp hz) (e := u) ?_
  · rw [hb_s_mv, e1, e2]; omega
  · have : hb_dot (hb_n p) u = hb_dt p u := rfl
    omega
theorem hb_x_s (p k l q : hb_V4) : hb_s q (hb_lc (-(hb_s p l)) k (hb_s p k) l) = (-(hb_s p l)) * hb_s q k + hb_s p k * hb_s q l := hb_s_lc ..
theorem hb_x_ti {ps : List hb_V4} {p k l q : hb_V4} (hk : hb_fe ps k) (hl : hb_fe ps l) (h1 : 0 < hb_s p k) (h2 : hb_s p l < 0) (hq : q ∈ ps) : hb_s q (hb_lc (-(hb_s p l)) k (hb_s p k) l) = 0 ↔ hb_s q k = 0 ∧ hb_s q l = 0 := by
  rw [hb_x_s]
  have a := hk.2 q hq
  have b := hl.2 q hq
  have t1 : 0 ≤ (-(hb_s p l)) * hb_s q k := Int.mul_nonneg (by omega) a
  have t2 : 0 ≤ hb_s p k * hb_s q l := Int.mul_nonneg (by omega) b
  constructor
  · intro e
    have e1 : (-(hb_s p l)) * hb_s q k = 0 := by omega
    have e2 : hb_s p k * hb_s q l = 0 := by omega
    constructor
    · rcases Int.mul_eq_zero.mp e1 with h | h <;> omega
    · rcases Int.mul_eq_zero.mp e2 with h | h <;> omega
  · intro e
    rw [e.1, e.2]; omega
theorem hb_x_w {ps : List hb_V4} {p k l : hb_V4} (hk : hb_fe ps k) (hl : hb_fe ps l) (h1 : 0 < hb_s p k) (h2 : hb_s p l < 0) : 0 < hb_w (hb_lc (-(hb_s p l)) k (hb_s p k) l) := by
  rw [hb_w_lc]
  have := Int.mul_pos (show 0 < -(hb_s p l) by omega) hk.1
  have := Int.mul_pos h1 hl.1
  omega
theorem hb_x_vtx {ps L : List hb_V4} (hb : hb_bnd ps) (h : hb_En ps L) {p k l : hb_V4} (hk : k ∈ L) (hl : l ∈ L) (h1 : 0 < hb_s p k) (h2 : hb_s p l < 0) (hn : hb_nb ps L k l) : hb_vtx (ps ++ [p]) (hb_lc (-(hb_s p l)) k (hb_s p k) l) := by
  have fk := (h.1 k hk).1
  have fl := (h.1 l hl).1
  have hp : hb_s p (hb_lc (-(hb_s p l)) k (hb_s p k) l) = 0 := by rw [hb_x_s]; grind
  refine ⟨⟨hb_x_w fk fl h1 h2, fun q hq => ?_⟩, fun u hu => ?_⟩
  · rcases List.mem_append.mp hq with e | e
    · rw [hb_x_s]
      have t1 : 0 ≤ (-(hb_s p l)) * hb_s q k := Int.mul_nonneg (by omega) (fk.2 q e)
      have t2 : 0 ≤ hb_s p k * hb_s q l := Int.mul_nonneg (by omega) (fl.2 q e)
      omega
    · rw [List.mem_singleton] at e
      rw [e, hp]; omega
  · refine hb_par0 (hb_edge hb h hk hl hn u (fun q hq e1 e2 => hu q (List.mem_append_left _ hq) ((hb_x_ti fk fl h1 h2 hq).mpr ⟨e1, e2⟩))) (hu p (List.mem_append_right _ (List.mem_singleton.mpr rfl)) hp) ?_
    have : hb_dot (hb_n p) (hb_dir k l) = hb_w l * hb_s p k - hb_w k * hb_s p l := hb_dt_dir p k l
    have t1 := Int.mul_pos fl.1 h1
    have t2 := Int.mul_neg_of_pos_of_neg fk.1 h2
    omega
theorem hb_row_mem {ps L M : List hb_V4} {p k Y : hb_V4} : Y ∈ hb_row ps L p k M ↔ ∃ l ∈ M, 0 < hb_s p k ∧ hb_s p l < 0 ∧ hb_nb ps L k l ∧ Y = hb_cross p k l := by
  unfold hb_row
  rw [List.mem_filterMap]
  constructor
  · intro h
    obtain ⟨l, hl, e⟩ := h
    by_cases hc : hb_b (0 < hb_s p k ∧ hb_s p l < 0 ∧ hb_nb ps L k l) = true
    · rw [if_pos hc] at e
      have := hb_b_t.mp hc
      exact ⟨l, hl, this.1, this.2.1, this.2.2, (Option.some.inj e).symm⟩
    · rw [if_neg hc] at e; cases e
  · intro h
    obtain ⟨l, hl, h1, h2, h3, e⟩ := h
    refine ⟨l, hl, ?_⟩
    rw [if_pos (hb_b_t.mpr ⟨h1, h2, h3⟩), e]
theorem hb_xs_mem {ps L M : List hb_V4} {p Y : hb_V4} : Y ∈ hb_xs ps L p M ↔ ∃ k ∈ M, ∃ l ∈ L, 0 < hb_s p k ∧ hb_s p l < 0 ∧ hb_nb ps L k l ∧ Y = hb_cross p k l := by
  unfold hb_xs
  rw [List.mem_flatMap]
  constructor
  · intro h
    obtain ⟨k, hk, h⟩ := h
    exact ⟨k, hk, hb_row_mem.mp h⟩
  · intro h
    obtain ⟨k, hk, h⟩ := h
    exact ⟨k, hk, hb_row_mem.mpr h⟩
theorem hb_kept_mem {L : List hb_V4} {p v : hb_V4} : v ∈ hb_kept p L ↔ v ∈ L ∧ 0 ≤ hb_s p v := by
  unfold hb_kept
  rw [List.mem_filter, decide_eq_true_eq]

/-- the two corners of a crossing are known by the crossing -/
theorem hb_x_inj {ps L : List hb_V4} (h : hb_En ps L) {p k l k' l' : hb_V4} (hk : k ∈ L) (hl : l ∈ L) (h1 : 0 < hb_s p k) (h2 : hb_s p l < 0) (hn : hb_nb ps L k l)
    (hk' : k' ∈ L) (hl' : l' ∈ L) (h1' : 0 < hb_s p k') (h2' : hb_s p l' < 0) (hp : hb_par (hb_cross p k l) (hb_cross p k' l')) : k' = k ∧ l' = l := by
  have fk := (h.1 k hk).1
  have fl := (h.1 l hl).1
  have fk' := (h.1 k' hk').1
  have fl' := (h.1 l' hl').1
  have w1 := hb_x_w fk fl h1 h2
  have w2 := hb_x_w fk' fl' h1' h2'
  have tt : ∀ q ∈ ps, hb_s q k = 0 → hb_s q l = 0 → hb_s q k' = 0 ∧ hb_s q l' = 0 := by
    intro q hq e1 e2
    refine (hb_x_ti fk' fl' h1' h2' hq).mp ?_
    have a := (hb_x_ti fk fl h1 h2 hq).mpr ⟨e1, e2⟩
    have b := (hb_par_ti (hb_red_w w1) w1 hb_red_par).mpr a
    exact (hb_par_ti (hb_red_w w2) w2 hb_red_par).mp ((hb_par_ti (hb_red_w w1) (hb_red_w w2) hp).mp b)
  constructor
  · refine Classical.byContradiction (fun hne => ?_)
    refine hn.2 k' hk' hne (fun e => ?_) (fun q hq e1 e2 => (tt q hq e1 e2).1)
    rw [e] at h1'; omega
  · refine Classical.byContradiction (fun hne => ?_)
    refine hn.2 l' hl' (fun e => ?_) hne (fun q hq e1 e2 => (tt q hq e1 e2).2)
    rw [e] at h2'; omega
theorem hb_app_pw {ps L : List hb_V4} (hb : hb_bnd ps) (h : hb_En ps L) (p : hb_V4) : (hb_app ps L p).Pairwise (fun a b => ¬ hb_par a b) := by
  have pw := h.2.1
  unfold hb_app
  rw [List.pairwise_append]
  refine ⟨List.Pairwise.filter _ pw, ?_, fun a ha Y hY hp => ?_⟩
  · unfold hb_xs
    rw [List.pairwise_flatMap]
    refine ⟨fun k hk => ?_, ?_⟩
    · unfold hb_row
      rw [List.pairwise_filterMap]
      refine List.Pairwise.imp_of_mem (fun {l l'} hl hl' hnp => ?_) pw
      intro Y hY Y' hY' hpar
      by_cases hc : hb_b (0 < hb_s p k ∧ hb_s p l < 0 ∧ hb_nb ps L k l) = true
      · by_cases hc' : hb_b (0 < hb_s p k ∧ hb_s p l' < 0 ∧ hb_nb ps L k l') = true
        · rw [if_pos hc] at hY
          rw [if_pos hc'] at hY'
          have c := hb_b_t.mp hc
          have c' := hb_b_t.mp hc'
          rw [← Option.some.inj hY, ← Option.some.inj hY'] at hpar
          have := (hb_x_inj h hk hl c.1 c.2.1 c.2.2 hk hl' c'.1 c'.2.1 hpar).2
          rw [this] at hnp
          exact hnp (hb_par_refl _)
        · rw [if_neg hc'] at hY'; cases hY'
      · rw [if_neg hc] at hY; cases hY
    · refine List.Pairwise.imp_of_mem (fun {k k'} hk hk' hnp => ?_) pw
      intro Y hY Y' hY' hpar
      obtain ⟨l, hl, h1, h2, h3, e⟩ := hb_row_mem.mp hY
      obtain ⟨l', hl', h1', h2', h3', e'⟩ := hb_row_mem.mp hY'
      rw [e, e'] at hpar
      have := (hb_x_inj h hk hl h1 h2 h3 hk' hl' h1' h2' hpar).1
      rw [this] at hnp
      exact hnp (hb_par_refl _)
  · obtain ⟨ha, _⟩ := hb_kept_mem.mp ha
    obtain ⟨k, hk, l, hl, h1, h2, h3, e⟩ := hb_xs_mem.mp hY
    have fk := (h.1 k hk).1
    have fl := (h.1 l hl).1
    have w1 := hb_x_w fk fl h1 h2
    rw [e] at hp
    have va := h.1 a ha
    have z := va.2 (hb_dir k l) (fun q hq e => ?_)
    · have := hb_En_inj h hk hl z
      exact h3.1 this
    · have e' := (hb_par_ti va.1.1 (hb_red_w w1) hp).mp e
      have e'' := (hb_par_ti (hb_red_w w1) w1 hb_red_par).mp e'
      have := (hb_x_ti fk fl h1 h2 hq).mp e''
      rw [hb_dt_dir, this.1, this.2]; omega
theorem hb_app_all {ps L : List hb_V4} (hb : hb_bnd ps) (h : hb_En ps L) (p : hb_V4) {X : hb_V4} (hX : hb_vtx (ps ++ [p]) X) : ∃ v ∈ hb_app ps L p, hb_par v X := by
  have mp : p ∈ ps ++ [p] := List.mem_append_right _ (List.mem_singleton.mpr rfl)
  have fX : hb_fe ps X := ⟨hX.1.1, fun q hq => hX.1.2 q (List.mem_append_left _ hq)⟩
  by_cases hv : hb_vtx ps X
  · obtain ⟨v, hv, hp⟩ := h.2.2 X hv
    refine ⟨v, List.mem_append_left _ (hb_kept_mem.mpr ⟨hv, ?_⟩), hp⟩
    have e := hb_par_s hp p
    have t := Int.mul_nonneg (Int.le_of_lt (h.1 v hv).1.1) (hX.1.2 p mp)
    rcases Int.lt_or_le (hb_s p v) 0 with h' | h'
    · have := Int.mul_neg_of_pos_of_neg hX.1.1 h'
      omega
    · exact h'
  · have : ∃ u, hb_ker ps X u ∧ u ≠ hb_z := by
      refine Classical.byContradiction (fun h => hv ⟨fX, fun u hu => Classical.byContradiction (fun h' => h ⟨u, hu, h'⟩)⟩)
    obtain ⟨u, hu, hu0⟩ := this
    have kk : ∀ u, hb_ker ps X u → (hb_s p X = 0 → hb_dt p u = 0) → hb_ker (ps ++ [p]) X u := by
      intro u hu hp q hq e
      rcases List.mem_append.mp hq with g | g
      · exact hu q g e
      · rw [List.mem_singleton] at g
        rw [g] at e ⊢
        exact hp e
    have hp0 : hb_s p X = 0 := Classical.byContradiction (fun hne => hu0 (hX.2 u (kk u hu (fun e => absurd e hne))))
    have hpu : hb_dt p u ≠ 0 := fun e => hu0 (hX.2 u (kk u hu (fun _ => e)))
    have : ∃ u, hb_ker ps X u ∧ u ≠ hb_z ∧ hb_dt p u < 0 := by
      rcases Int.lt_or_le (hb_dt p u) 0 with g | g
      · exact ⟨u, hu, hu0, g⟩
      · refine ⟨hb_sc (-1) u, fun q hq e => ?_, fun e => ?_, ?_⟩
        · rw [hb_dt_sc, hu q hq e]; rfl
        · have := hb_dt_sc p (-1) u
          rw [e, hb_dt_z] at this; omega
        · rw [hb_dt_sc]; omega
    obtain ⟨u, hu, hu0, hpu⟩ := this
    -- the tight planes of ps leave only u
    have line : ∀ u', hb_ker ps X u' → hb_crs u' u = hb_z := by
      intro u' hu'
      have y0 := hX.2 (hb_l3 (hb_dt p u) u' (-(hb_dt p u')) u) (kk _ (fun q hq e => by rw [hb_dt_l3, hu q hq e, hu' q hq e]; omega) (fun _ => by rw [hb_dt_l3]; grind))
      refine hb_all0 (fun d => ?_)
      have e : hb_dot d (hb_crs (hb_l3 (hb_dt p u) u' (-(hb_dt p u')) u) u) = hb_dt p u * hb_dot d (hb_crs u' u) := by
        simp only [hb_l3, hb_crs, hb_dot]; grind
      rw [y0] at e
      have e' : hb_dot d (hb_crs hb_z u) = 0 := by simp only [hb_crs, hb_dot, hb_z]; grind
      rw [e'] at e
      rcases Int.mul_eq_zero.mp e.symm with g | g
      · omega
      · exact g
    have nz' : hb_sc (-1) u ≠ hb_z := by
      intro e
      have := hb_dt_sc p (-1) u
      rw [e, hb_dt_z] at this; omega
    obtain ⟨α1, β1, a1, b1, v1⟩ := hb_ray hb fX hu0 (fun q hq e => Int.le_of_eq (hu q hq e)) (fun u' hu' => line u' (fun q hq e => hu' q hq e (hu q hq e)))
    obtain ⟨α2, β2, a2, b2, v2⟩ := hb_ray hb fX nz' (fun q hq e => by rw [hb_dt_sc, hu q hq e]; omega) (fun u' hu' => by
      have t := hb_crs_comm0 1 (-1) (line u' (fun q hq e => hu' q hq e (by rw [hb_dt_sc, hu q hq e]; rfl)))
      have e : hb_sc 1 u' = u' := by refine hb_ext3 ?_ ?_ ?_ <;> simp only [hb_sc] <;> omega
      rw [e] at t
      exact t)
    obtain ⟨k, hk, pk⟩ := h.2.2 _ v1
    obtain ⟨l, hl, pl⟩ := h.2.2 _ v2
    have fk := (h.1 k hk).1
    have fl := (h.1 l hl).1
    have sk : 0 < hb_s p k := by
      have e := hb_par_s pk p
      rw [hb_s_mv, hp0] at e
      have t1 := Int.mul_neg_of_pos_of_neg b1 hpu
      have t2 := Int.mul_pos fk.1 (show 0 < α1 * 0 - β1 * hb_dt p u by omega)
      rcases Int.lt_or_le 0 (hb_s p k) with g | g
      · exact g
      · have := Int.mul_nonpos_of_nonneg_of_nonpos (Int.le_of_lt v1.1.1) g
        omega
    have sl : hb_s p l < 0 := by
      have e := hb_par_s pl p
      rw [hb_s_mv, hp0, hb_dt_sc] at e
      have t1 := Int.mul_neg_of_pos_of_neg b2 hpu
      have t0 : α2 * 0 - β2 * (-1 * hb_dt p u) = β2 * hb_dt p u := by grind
      rw [t0] at e
      have t2 := Int.mul_neg_of_pos_of_neg fl.1 t1
      rcases Int.lt_or_le (hb_s p l) 0 with g | g
      · exact g
      · have := Int.mul_nonneg (Int.le_of_lt v2.1.1) g
        omega
    have tk : ∀ q ∈ ps, hb_s q X = 0 → hb_s q k = 0 ∧ hb_s q l = 0 := by
      intro q hq e
      refine ⟨(hb_par_ti fk.1 v1.1.1 pk).mpr ?_, (hb_par_ti fl.1 v2.1.1 pl).mpr ?_⟩
      · rw [hb_s_mv, e, hu q hq e]; omega
      · rw [hb_s_mv, e, hb_dt_sc, hu q hq e]; omega
    have hkl : k ≠ l := fun e => by rw [e] at sk; omega
    have nb : hb_nb ps L k l := by
      refine hb_nb_of h hk hl hkl (fun u' hu' => ?_)
      refine hb_trans hu0 (line u' (fun q hq e => hu' q hq (tk q hq e).1 (tk q hq e).2)) (line _ (fun q hq e => ?_))
      rw [hb_dt_dir, (tk q hq e).1, (tk q hq e).2]; omega
    refine ⟨hb_cross p k l, List.mem_append_right _ (hb_xs_mem.mpr ⟨k, hk, l, hl, sk, sl, nb, rfl⟩), ?_⟩
    have w1 := hb_x_w fk fl sk sl
    refine hb_par_trans w1 hb_red_par (hb_par_symm (hX.2 _ (kk _ (fun q hq e => ?_) (fun e => ?_))))
    · rw [hb_dt_dir, e, (hb_x_ti fk fl sk sl hq).mpr (tk q hq e)]; omega
    · rw [hb_dt_dir, e, hb_x_s]; grind
/-- the cut body's corners -/
theorem hb_app_En {ps L : List hb_V4} (hb : hb_bnd ps) (h : hb_En ps L) (p : hb_V4) : hb_En (ps ++ [p]) (hb_app ps L p) := by
  refine ⟨fun v hv => ?_, hb_app_pw hb h p, fun X hX => hb_app_all hb h p hX⟩
  rcases List.mem_append.mp hv with hv | hv
  · obtain ⟨hv, hs⟩ := hb_kept_mem.mp hv
    have := h.1 v hv
    refine ⟨⟨this.1.1, fun q hq => ?_⟩, fun u hu => this.2 u (fun q hq e => hu q (List.mem_append_left _ hq) e)⟩
    rcases List.mem_append.mp hq with e | e
    · exact this.1.2 q e
    · rw [List.mem_singleton] at e; rw [e]; exact hs
  · obtain ⟨k, hk, l, hl, h1, h2, h3, e⟩ := hb_xs_mem.mp hv
    rw [e]
    have w := hb_x_w (h.1 k hk).1 (h.1 l hl).1 h1 h2
    exact hb_vtx_par (hb_x_vtx hb h hk hl h1 h2 h3) (hb_par_symm hb_red_par) (hb_red_w w)
theorem hb_app_nrm {ps L : List hb_V4} (h : hb_En ps L) (hn : ∀ v ∈ L, hb_nrm v) (p : hb_V4) : ∀ v ∈ hb_app ps L p, hb_nrm v := by
  intro v hv
  rcases List.mem_append.mp hv with hv | hv
  · exact hn v (hb_kept_mem.mp hv).1
  · obtain ⟨k, hk, l, hl, h1, h2, h3, e⟩ := hb_xs_mem.mp hv
    rw [e]
    exact hb_red_nrm (hb_x_w (h.1 k hk).1 (h.1 l hl).1 h1 h2)
theorem hb_bnd_app {ps : List hb_V4} (h : hb_bnd ps) (qs : List hb_V4) : hb_bnd (ps ++ qs) := by
  intro u hu
  obtain ⟨p, hp, g⟩ := h u hu
  exact ⟨p, List.mem_append_left _ hp, g⟩
end
section
/-! three independent planes at a vertex; Cramer; bounds; the direction in which no two corners are level -/
theorem hb_perp {a : hb_V3} : ∃ u, u ≠ hb_z ∧ hb_dot a u = 0 := by
  by_cases h : a.1 = 0 ∧ a.2.1 = 0
  · refine ⟨(1, 0, 0), fun e => ?_, ?_⟩
    · have := congrArg (fun t : hb_V3 => t.1) e
      simp only [hb_z] at this; omega
    · simp only [hb_dot, h.1, h.2]; omega
  · refine ⟨(a.2.1, -a.1, 0), fun e => h ?_, ?_⟩
    · have e1 := congrArg (fun t : hb_V3 => t.1) e
      have e2 := congrArg (fun t : hb_V3 => t.2.1) e
      simp only [hb_z] at e1 e2
      omega
    · simp only [hb_dot]; grind
/-- parallel to a, so orthogonal to what a is orthogonal to -/
theorem hb_par_dot {a b u : hb_V3} (ha : a ≠ hb_z) (h : hb_crs a b = hb_z) (hu : hb_dot a u = 0) : hb_dot b u = 0 := by
  have := hb_cx h a u
  rw [hb_dot_comm u a, hu, Int.mul_zero] at this
  rcases Int.mul_eq_zero.mp this with g | g
  · exact absurd (hb_n0 g) ha
  · rw [hb_dot_comm]; exact g
theorem hb_three {ps : List hb_V4} {X : hb_V4} (h : ∀ u, hb_ker ps X u → u = hb_z) : ∃ p q r, p ∈ ps ∧ q ∈ ps ∧ r ∈ ps ∧ hb_s p X = 0 ∧ hb_s q X = 0 ∧ hb_s r X = 0 ∧ hb_det (hb_n p) (hb_n q) (hb_n r) ≠ 0 := by
  have s1 : ∃ p, p ∈ ps ∧ hb_s p X = 0 ∧ hb_n p ≠ hb_z := by
    refine Classical.byContradiction (fun hc => ?_)
    have := h (1, 0, 0) (fun p hp e => ?_)
    · have := congrArg (fun t : hb_V3 => t.1) this
      simp only [hb_z] at this; omega
    · have : hb_n p = hb_z := Classical.byContradiction (fun g => hc ⟨p, hp, e, g⟩)
      show hb_dot (hb_n p) _ = 0
      rw [this, hb_dot_comm, hb_dot_z]
  obtain ⟨p, hp, ep, np⟩ := s1
  have s2 : ∃ q, q ∈ ps ∧ hb_s q X = 0 ∧ hb_crs (hb_n p) (hb_n q) ≠ hb_z := by
    refine Classical.byContradiction (fun hc => ?_)
    obtain ⟨u, hu, hpu⟩ := @hb_perp (hb_n p)
    refine hu (h u (fun q hq e => ?_))
    have : hb_crs (hb_n p) (hb_n q) = hb_z := Classical.byContradiction (fun g => hc ⟨q, hq, e, g⟩)
    exact hb_par_dot np this hpu
  obtain ⟨q, hq, eq, nq⟩ := s2
  have s3 : ∃ r, r ∈ ps ∧ hb_s r X = 0 ∧ hb_det (hb_n p) (hb_n q) (hb_n r) ≠ 0 := by
    refine Classical.byContradiction (fun hc => ?_)
    refine nq (h _ (fun r hr e => ?_))
    have : hb_det (hb_n p) (hb_n q) (hb_n r) = 0 := Classical.byContradiction (fun g => hc ⟨r, hr, e, g⟩)
    show hb_dot (hb_n r) _ = 0
    rw [hb_dot_comm]; exact this
  obtain ⟨r, hr, er, nr⟩ := s3
  exact ⟨p, q, r, hp, hq, hr, ep, eq, er, nr⟩

theorem hb_ndv {w d x dx : Nat} (hw : 0 < w) (h : d * x = w * dx) : w / Nat.gcd w d ∣ x := by
  have hg : 0 < Nat.gcd w d := Nat.gcd_pos_of_pos_left _ hw
  have c : Nat.Coprime (w / Nat.gcd w d) (d / Nat.gcd w d) := Nat.coprime_div_gcd_div_gcd hg
  refine Nat.Coprime.dvd_of_dvd_mul_left c ⟨dx, ?_⟩
  have e1 : Nat.gcd w d * (w / Nat.gcd w d) = w := Nat.mul_div_cancel' (Nat.gcd_dvd_left w d)
  have e2 : Nat.gcd w d * (d / Nat.gcd w d) = d := Nat.mul_div_cancel' (Nat.gcd_dvd_right w d)
  have e3 : Nat.gcd w d * (d / Nat.gcd w d * x) = Nat.gcd w d * (w / Nat.gcd w d * dx) := by
    rw [← Nat.mul_assoc, ← Nat.mul_assoc, e1, e2, h]
  exact Nat.eq_of_mul_eq_mul_left hg e3
theorem hb_idv {w d x dx : Int} (hw : 0 < w) (h : d * x = w * dx) : ((w.natAbs / Nat.gcd w.natAbs d.natAbs : Nat) : Int) ∣ x := by
  refine Int.ofNat_dvd_left.mpr (hb_ndv (dx := dx.natAbs) (by omega) ?_)
  rw [← Int.natAbs_mul, ← Int.natAbs_mul, h]
theorem hb_wdv {v : hb_V4} (hn : hb_nrm v) (hw : 0 < hb_w v) {d dx dy dz : Int} (h1 : d * v.1 = hb_w v * dx) (h2 : d * v.2.1 = hb_w v * dy) (h3 : d * v.2.2.1 = hb_w v * dz) : ∃ t, d = hb_w v * t := by
  have k := hn _ (hb_idv hw h1) (hb_idv hw h2) (hb_idv hw h3) (hb_idv (dx := d) hw (Int.mul_comm _ _))
  have k1 : (hb_w v).natAbs / Nat.gcd (hb_w v).natAbs d.natAbs = 1 := by
    have : (hb_w v).natAbs / Nat.gcd (hb_w v).natAbs d.natAbs ∣ 1 := Int.natCast_dvd_natCast.mp k
    exact Nat.dvd_one.mp this
  have e1 : Nat.gcd (hb_w v).natAbs d.natAbs * ((hb_w v).natAbs / Nat.gcd (hb_w v).natAbs d.natAbs) = (hb_w v).natAbs := Nat.mul_div_cancel' (Nat.gcd_dvd_left _ _)
  rw [k1, Nat.mul_one] at e1
  have e2 : (hb_w v).natAbs ∣ d.natAbs := by
    have := Nat.gcd_dvd_right (hb_w v).natAbs d.natAbs
    rwa [e1] at this
  exact Int.natAbs_dvd_natAbs.mp e2
theorem hb_mb {x y A B : Int} (hA : 0 ≤ A) (hx : -A ≤ x ∧ x ≤ A) (hy : -B ≤ y ∧ y ≤ B) : -(A * B) ≤ x * y ∧ x * y ≤ A * B := by
  have k : ∀ x' y' : Int, 0 ≤ x' → x' ≤ A → -B ≤ y' → y' ≤ B → x' * y' ≤ A * B := by
    intro x' y' h1 h2 h3 h4
    have hB : 0 ≤ B := by omega
    exact Int.le_trans (Int.mul_le_mul_of_nonneg_left h4 h1) (Int.mul_le_mul_of_nonneg_right h2 hB)
  rcases Int.le_total 0 x with h | h
  · have a := k x y h hx.2 hy.1 hy.2
    have b := k x (-y) h hx.2 (by omega) (by omega)
    rw [Int.mul_neg] at b
    omega
  · have a := k (-x) y (by omega) (by omega) hy.1 hy.2
    have b := k (-x) (-y) (by omega) (by omega) (by omega) (by omega)
    rw [Int.neg_mul_neg] at b
    rw [Int.neg_mul] at a
    omega
/-- bounds of a plane and of a corner -/
def hb_pb (p : hb_V4) : Prop := (-4 ≤ p.1 ∧ p.1 ≤ 4) ∧ (-4 ≤ p.2.1 ∧ p.2.1 ≤ 4) ∧ (-4 ≤ p.2.2.1 ∧ p.2.2.1 ≤ 4) ∧ (-40 ≤ p.2.2.2 ∧ p.2.2.2 ≤ 40)
def hb_Bd (v : hb_V4) : Prop := (-3840 ≤ v.1 ∧ v.1 ≤ 3840) ∧ (-3840 ≤ v.2.1 ∧ v.2.1 ≤ 3840) ∧ (-3840 ≤ v.2.2.1 ∧ v.2.2.1 ≤ 3840) ∧ (1 ≤ v.2.2.2 ∧ v.2.2.2 ≤ 384)
theorem hb_det_b {a b c : hb_V3} {A : Int} (hA : 0 ≤ A) (ha : -A ≤ a.1 ∧ a.1 ≤ A) (hb : -A ≤ b.1 ∧ b.1 ≤ A) (hc : -A ≤ c.1 ∧ c.1 ≤ A)
    (a2 : -4 ≤ a.2.1 ∧ a.2.1 ≤ 4) (b2 : -4 ≤ b.2.1 ∧ b.2.1 ≤ 4) (c2 : -4 ≤ c.2.1 ∧ c.2.1 ≤ 4) (a3 : -4 ≤ a.2.2 ∧ a.2.2 ≤ 4) (b3 : -4 ≤ b.2.2 ∧ b.2.2 ≤ 4) (c3 : -4 ≤ c.2.2 ∧ c.2.2 ≤ 4) : -(96 * A) ≤ hb_det a b c ∧ hb_det a b c ≤ 96 * A := by
  have e : hb_det a b c = a.1 * (b.2.1 * c.2.2 - b.2.2 * c.2.1) + b.1 * (c.2.1 * a.2.2 - c.2.2 * a.2.1) + c.1 * (a.2.1 * b.2.2 - a.2.2 * b.2.1) := by
    simp only [hb_det, hb_crs, hb_dot]; grind
  have m1 := hb_mb (by omega) b2 c3
  have m2 := hb_mb (by omega) b3 c2
  have m3 := hb_mb (by omega) c2 a3
  have m4 := hb_mb (by omega) c3 a2
  have m5 := hb_mb (by omega) a2 b3
  have m6 := hb_mb (by omega) a3 b2
  have n1 := hb_mb (B := 32) hA ha (y := b.2.1 * c.2.2 - b.2.2 * c.2.1) (by omega)
  have n2 := hb_mb (B := 32) hA hb (y := c.2.1 * a.2.2 - c.2.2 * a.2.1) (by omega)
  have n3 := hb_mb (B := 32) hA hc (y := a.2.1 * b.2.2 - a.2.2 * b.2.1) (by omega)
  rw [e]
  omega
theorem hb_tb {x t d A : Int} (ht : t ≠ 0) (e : d = t * x) (hd : -A ≤ d ∧ d ≤ A) : -A ≤ x ∧ x ≤ A := by
  have k : ∀ t' x' : Int, 0 < t' → 0 ≤ x' → x' ≤ t' * x' := by
    intro t' x' h1 h2
    have := Int.mul_le_mul_of_nonneg_right (show 1 ≤ t' by omega) h2
    omega
  rcases Int.lt_or_le 0 t with h | h
  · rcases Int.le_total 0 x with g | g
    · have := k t x h g; omega
    · have := k t (-x) h (by omega)
      rw [Int.mul_neg] at this
      omega
  · rcases Int.le_total 0 x with g | g
    · have := k (-t) x (by omega) g
      rw [Int.neg_mul] at this
      omega
    · have := k (-t) (-x) (by omega) (by omega)
      rw [Int.neg_mul_neg] at this
      omega
theorem hb_Bd_of {ps : List hb_V4} (hp : ∀ p ∈ ps, hb_pb p) {v : hb_V4} (hv : hb_vtx ps v) (hn : hb_nrm v) : hb_Bd v := by
  obtain ⟨p, q, r, mp, mq, mr, ep, eq, er, hd⟩ := hb_three hv.2
  have bp := hp p mp
  have bq := hp q mq
  have br := hp r mr
  have hw := hv.1.1
  obtain ⟨p1, p2, p3, p4⟩ := p
  obtain ⟨q1, q2, q3, q4⟩ := q
  obtain ⟨r1, r2, r3, r4⟩ := r
  simp only [hb_pb] at bp bq br
  have ex : hb_det (p1, p2, p3) (q1, q2, q3) (r1, r2, r3) * v.1 = hb_w v * hb_det (p4, p2, p3) (q4, q2, q3) (r4, r2, r3) := by
    simp only [hb_s, hb_w, hb_n, hb_dot, hb_det, hb_crs] at *; grind
  have ey : hb_det (p1, p2, p3) (q1, q2, q3) (r1, r2, r3) * v.2.1 = hb_w v * hb_det (p4, p3, p1) (q4, q3, q1) (r4, r3, r1) := by
    simp only [hb_s, hb_w, hb_n, hb_dot, hb_det, hb_crs] at *; grind
  have ez : hb_det (p1, p2, p3) (q1, q2, q3) (r1, r2, r3) * v.2.2.1 = hb_w v * hb_det (p4, p1, p2) (q4, q1, q2) (r4, r1, r2) := by
    simp only [hb_s, hb_w, hb_n, hb_dot, hb_det, hb_crs] at *; grind
  obtain ⟨t, ht⟩ := hb_wdv hn hw ex ey ez
  have hd' : hb_det (p1, p2, p3) (q1, q2, q3) (r1, r2, r3) ≠ 0 := hd
  have t0 : t ≠ 0 := fun e => hd' (by rw [ht, e, Int.mul_zero])
  have cx : ∀ x dx : Int, hb_det (p1, p2, p3) (q1, q2, q3) (r1, r2, r3) * x = hb_w v * dx → dx = t * x := by
    intro x dx h
    rw [ht, Int.mul_assoc] at h
    exact (Int.eq_of_mul_eq_mul_left (by omega) h).symm
  have b0 := hb_det_b (a := (p1, p2, p3)) (b := (q1, q2, q3)) (c := (r1, r2, r3)) (A := 4) (by omega) bp.1 bq.1 br.1 bp.2.1 bq.2.1 br.2.1 bp.2.2.1 bq.2.2.1 br.2.2.1
  have bx := hb_det_b (a := (p4, p2, p3)) (b := (q4, q2, q3)) (c := (r4, r2, r3)) (A := 40) (by omega) bp.2.2.2 bq.2.2.2 br.2.2.2 bp.2.1 bq.2.1 br.2.1 bp.2.2.1 bq.2.2.1 br.2.2.1
  have bY := hb_det_b (a := (p4, p3, p1)) (b := (q4, q3, q1)) (c := (r4, r3, r1)) (A := 40) (by omega) bp.2.2.2 bq.2.2.2 br.2.2.2 bp.2.2.1 bq.2.2.1 br.2.2.1 bp.1 bq.1 br.1
  have bz := hb_det_b (a := (p4, p1, p2)) (b := (q4, q1, q2)) (c := (r4, r1, r2)) (A := 40) (by omega) bp.2.2.2 bq.2.2.2 br.2.2.2 bp.1 bq.1 br.1 bp.2.1 bq.2.1 br.2.1
  have f1 := hb_tb (A := 3840) t0 (cx _ _ ex) (by omega)
  have f2 := hb_tb (A := 3840) t0 (cx _ _ ey) (by omega)
  have f3 := hb_tb (A := 3840) t0 (cx _ _ ez) (by omega)
  have f4 := hb_tb (A := 384) (x := hb_w v) (d := hb_det (p1, p2, p3) (q1, q2, q3) (r1, r2, r3)) t0 (by rw [ht, Int.mul_comm]) (by omega)
  simp only [hb_w] at f4 hw
  exact ⟨f1, f2, f3, by omega⟩
def hb_c : hb_V3 := (70368744177664, 8388608, 1)
theorem hb_gen {k l : hb_V4} (hk : hb_Bd k) (hl : hb_Bd l) (h : hb_dot hb_c (hb_dir k l) = 0) : hb_par k l := by
  obtain ⟨k1, k2, k3, k4⟩ := hk
  obtain ⟨l1, l2, l3, l4⟩ := hl
  have m : ∀ x y : Int, (1 ≤ x ∧ x ≤ 384) → (-3840 ≤ y ∧ y ≤ 3840) → -1474560 ≤ x * y ∧ x * y ≤ 1474560 := by
    intro x y hx hy
    exact hb_mb (A := 384) (B := 3840) (by omega) (by omega) hy
  have a1 := m _ _ k4 l1
  have a2 := m _ _ k4 l2
  have a3 := m _ _ k4 l3
  have b1 := m _ _ l4 k1
  have b2 := m _ _ l4 k2
  have b3 := m _ _ l4 k3
  simp only [hb_dir, hb_dot, hb_c, hb_w] at h
  refine hb_ext3 ?_ ?_ ?_ <;> simp only [hb_dir, hb_z, hb_w] <;> omega
end
section
/-! extremes in the plane; faces and their centres -/
theorem hb_ext2 (g u0 : hb_V3) : ∀ Q : List hb_V4, Q ≠ [] → (∀ q ∈ Q, hb_dt q u0 < 0) → (hb_dot g u0 = 0 ∨ ∀ a ∈ Q, ∀ b ∈ Q, ∀ c ∈ Q, hb_det (hb_n a) (hb_n b) (hb_n c) = 0) → ∃ a ∈ Q, ∀ q ∈ Q, 0 ≤ hb_det (hb_n a) (hb_n q) g := by
  intro Q
  induction Q with
  | nil => intro h; exact absurd rfl h
  | cons c t ih =>
    intro _ h1 h2
    by_cases ht : t = []
    · refine ⟨c, List.mem_cons_self, fun q hq => ?_⟩
      rw [ht] at hq
      rw [List.mem_singleton.mp hq, hb_det_aa]; omega
    · have h2' : hb_dot g u0 = 0 ∨ ∀ a ∈ t, ∀ b ∈ t, ∀ c ∈ t, hb_det (hb_n a) (hb_n b) (hb_n c) = 0 := by
        rcases h2 with h | h
        · exact Or.inl h
        · exact Or.inr (fun a ha b hb c hc => h a (List.mem_cons_of_mem _ ha) b (List.mem_cons_of_mem _ hb) c (List.mem_cons_of_mem _ hc))
      obtain ⟨a, ha, hm⟩ := ih ht (fun q hq => h1 q (List.mem_cons_of_mem _ hq)) h2'
      rcases Int.lt_or_le (hb_det (hb_n a) (hb_n c) g) 0 with hc | hc
      · refine ⟨c, List.mem_cons_self, fun q hq => ?_⟩
        rcases List.mem_cons.mp hq with e | e
        · rw [e, hb_det_aa]; omega
        · have d4 := hb_det4 (hb_n a) (hb_n c) (hb_n q) g u0
          have z : hb_dot g u0 * hb_det (hb_n a) (hb_n c) (hb_n q) = 0 := by
            rcases h2 with h | h
            · rw [h, Int.zero_mul]
            · rw [h a (List.mem_cons_of_mem _ ha) c List.mem_cons_self q hq, Int.mul_zero]
          have na : hb_dot (hb_n a) u0 < 0 := h1 a (List.mem_cons_of_mem _ ha)
          have nc : hb_dot (hb_n c) u0 < 0 := h1 c List.mem_cons_self
          have nq : hb_dot (hb_n q) u0 < 0 := h1 q hq
          have t1 := Int.mul_nonpos_of_nonpos_of_nonneg (Int.le_of_lt nc) (hm q e)
          have t2 := Int.mul_pos_of_neg_of_neg nq hc
          rcases Int.lt_or_le (hb_det (hb_n c) (hb_n q) g) 0 with g' | g'
          · have := Int.mul_pos_of_neg_of_neg na g'
            omega
          · exact g'
      · refine ⟨a, List.mem_cons_of_mem _ ha, fun q hq => ?_⟩
        rcases List.mem_cons.mp hq with e | e
        · rw [e]; exact hc
        · exact hm q e
theorem hb_det_neg (a b g : hb_V3) : hb_det a b (hb_sc (-1) g) = - hb_det a b g := by
  simp only [hb_det, hb_crs, hb_dot, hb_sc]; grind
/-- the two extremes -/
theorem hb_two {Q : List hb_V4} {g u0 : hb_V3} (h1 : ∀ q ∈ Q, hb_dt q u0 < 0) (h2 : hb_dot g u0 = 0 ∨ ∀ a ∈ Q, ∀ b ∈ Q, ∀ c ∈ Q, hb_det (hb_n a) (hb_n b) (hb_n c) = 0) (h3 : ∃ a ∈ Q, ∃ b ∈ Q, hb_det (hb_n a) (hb_n b) g ≠ 0) :
    ∃ a ∈ Q, ∃ b ∈ Q, (∀ q ∈ Q, 0 ≤ hb_det (hb_n a) (hb_n q) g) ∧ (∀ q ∈ Q, hb_det (hb_n b) (hb_n q) g ≤ 0) ∧ 0 < hb_det (hb_n a) (hb_n b) g := by
  obtain ⟨x, hx, y, hy, hxy⟩ := h3
  have hne : Q ≠ [] := fun e => by rw [e] at hx; cases hx
  obtain ⟨a, ha, ma⟩ := hb_ext2 g u0 Q hne h1 h2
  obtain ⟨b, hb, mb⟩ := hb_ext2 (hb_sc (-1) g) u0 Q hne h1 (by
    rcases h2 with h | h
    · left; rw [hb_dot_comm, hb_dot_sc, hb_dot_comm, h]; rfl
    · exact Or.inr h)
  have mb' : ∀ q ∈ Q, hb_det (hb_n b) (hb_n q) g ≤ 0 := by
    intro q hq
    have := mb q hq
    rw [hb_det_neg] at this; omega
  have z : ∀ p ∈ Q, ∀ q ∈ Q, ∀ r ∈ Q, hb_dot g u0 * hb_det (hb_n p) (hb_n q) (hb_n r) = 0 := by
    intro p hp q hq r hr
    rcases h2 with h | h
    · rw [h, Int.zero_mul]
    · rw [h p hp q hq r hr, Int.mul_zero]
  have na : hb_dot (hb_n a) u0 < 0 := h1 a ha
  have nb : hb_dot (hb_n b) u0 < 0 := h1 b hb
  refine ⟨a, ha, b, hb, ma, mb', ?_⟩
  rcases Int.lt_or_eq_of_le (ma b hb) with h | h
  · exact h
  · exfalso
    have za : ∀ q ∈ Q, hb_det (hb_n a) (hb_n q) g = 0 := by
      intro q hq
      have d4 := hb_det4 (hb_n a) (hb_n b) (hb_n q) g u0
      rw [← h, z a ha b hb q hq, Int.mul_zero] at d4
      have t1 := Int.mul_nonneg_of_nonpos_of_nonpos (Int.le_of_lt na) (mb' q hq)
      have t2 := Int.mul_nonpos_of_nonpos_of_nonneg (Int.le_of_lt nb) (ma q hq)
      have t3 : hb_dot (hb_n b) u0 * hb_det (hb_n a) (hb_n q) g = 0 := by omega
      rcases Int.mul_eq_zero.mp t3 with e | e
      · omega
      · exact e
    have d4 := hb_det4 (hb_n a) (hb_n x) (hb_n y) g u0
    rw [za x hx, za y hy, z a ha x hx y hy, Int.mul_zero, Int.mul_zero] at d4
    have : hb_dot (hb_n a) u0 * hb_det (hb_n x) (hb_n y) g = 0 := by omega
    rcases Int.mul_eq_zero.mp this with e | e
    · omega
    · exact hxy e

/-- a point inside the face that some feasible points span -/
theorem hb_cen {ps : List hb_V4} : ∀ M : List hb_V4, M ≠ [] → (∀ v ∈ M, hb_fe ps v) → ∃ Y, hb_fe ps Y ∧ ∀ p ∈ ps, (hb_s p Y = 0 ↔ ∀ v ∈ M, hb_s p v = 0) := by
  intro M
  induction M with
  | nil => intro h; exact absurd rfl h
  | cons a t ih =>
    intro _ h
    have fa := h a List.mem_cons_self
    by_cases ht : t = []
    · refine ⟨a, fa, fun p hp => ⟨fun e v hv => ?_, fun e => e a List.mem_cons_self⟩⟩
      rw [ht] at hv
      rw [List.mem_singleton.mp hv]; exact e
    · obtain ⟨Y, fY, hY⟩ := ih ht (fun v hv => h v (List.mem_cons_of_mem _ hv))
      have w1 := fa.1
      have w2 := fY.1
      refine ⟨hb_lc 1 a 1 Y, ⟨by rw [hb_w_lc]; omega, fun p hp => ?_⟩, fun p hp => ?_⟩
      · rw [hb_s_lc]; have := fa.2 p hp; have := fY.2 p hp; omega
      · have s1 := fa.2 p hp
        have s2 := fY.2 p hp
        rw [hb_s_lc]
        constructor
        · intro e v hv
          rcases List.mem_cons.mp hv with g | g
          · rw [g]; omega
          · exact (hY p hp).mp (by omega) v g
        · intro e
          have e1 := e a List.mem_cons_self
          have e2 := (hY p hp).mpr (fun v hv => e v (List.mem_cons_of_mem _ hv))
          omega
/-- q holds all corners on p -/
def hb_cl (L : List hb_V4) (p q : hb_V4) : Prop := ∀ k ∈ L, hb_s p k = 0 → hb_s q k = 0
/-- the corners on p span it -/
def hb_fac (ps L : List hb_V4) (p : hb_V4) : Prop := (∃ k ∈ L, hb_s p k = 0) ∧ ∀ q ∈ ps, hb_cl L p q → hb_crs (hb_n p) (hb_n q) = hb_z
theorem hb_samep {p q X : hb_V4} (np : hb_n p ≠ hb_z) (h : hb_crs (hb_n p) (hb_n q) = hb_z) (wX : 0 < hb_w X) (h1 : hb_s p X = 0) (h2 : hb_s q X = 0) (Y : hb_V4) (h3 : hb_s p Y = 0) : hb_s q Y = 0 := by
  have e1 := hb_dt_dir p X Y
  rw [h1, h3] at e1
  have e2 : hb_dt q (hb_dir X Y) = 0 := hb_par_dot np h (by have : hb_dot (hb_n p) (hb_dir X Y) = hb_dt p (hb_dir X Y) := rfl; omega)
  rw [hb_dt_dir, h2, Int.mul_zero] at e2
  have : hb_w X * hb_s q Y = 0 := by omega
  rcases Int.mul_eq_zero.mp this with e | e
  · omega
  · exact e
theorem hb_fac_of {ps L : List hb_V4} (hb : hb_bnd ps) (h : hb_En ps L) {X q : hb_V4} (hX : hb_fe ps X) (hq : q ∈ ps) (hs : hb_s q X = 0) (hp : ∀ r ∈ ps, hb_s r X = 0 → hb_crs (hb_n q) (hb_n r) = hb_z) : hb_fac ps L q := by
  refine ⟨?_, fun r hr hc => ?_⟩
  · obtain ⟨v, hv, ht, _⟩ := hb_far hb h (0, 0, 0, 0) hX
    exact ⟨v, hv, ht q hq hs⟩
  · refine hp r hr (Classical.byContradiction (fun hne => ?_))
    obtain ⟨v, hv, ht, hf⟩ := hb_far hb h r hX
    have e := hc v hv (ht q hq hs)
    rw [e, Int.zero_mul] at hf
    have h0 := hX.2 r hr
    have := Int.mul_pos (show 0 < hb_s r X by omega) (h.1 v hv).1.1
    omega
theorem hb_fac_cen {ps L : List hb_V4} (h : hb_En ps L) {p : hb_V4} (hf : hb_fac ps L p) : ∃ Y, hb_fe ps Y ∧ ∀ q ∈ ps, (hb_s q Y = 0 ↔ hb_cl L p q) := by
  obtain ⟨k, hk, e⟩ := hf.1
  obtain ⟨Y, fY, hY⟩ := hb_cen (ps := ps) (L.filter (fun v => decide (hb_s p v = 0))) (fun e' => by
    have : k ∈ L.filter (fun v => decide (hb_s p v = 0)) := List.mem_filter.mpr ⟨hk, decide_eq_true_eq.mpr e⟩
    rw [e'] at this; cases this) (fun v hv => (h.1 v (List.mem_filter.mp hv).1).1)
  refine ⟨Y, fY, fun q hq => ⟨fun e k hk hs => (hY q hq).mp e k (List.mem_filter.mpr ⟨hk, decide_eq_true_eq.mpr hs⟩), fun e => (hY q hq).mpr (fun v hv => ?_)⟩⟩
  obtain ⟨a, b⟩ := List.mem_filter.mp hv
  exact e v a (decide_eq_true_eq.mp b)
/-- a filtered list by any predicate -/
noncomputable def hb_fl (ps : List hb_V4) (P : hb_V4 → Prop) : List hb_V4 := ps.filter (fun q => hb_b (P q))
theorem hb_fl_mem {ps : List hb_V4} {P : hb_V4 → Prop} {q : hb_V4} : q ∈ hb_fl ps P ↔ q ∈ ps ∧ P q := by
  unfold hb_fl
  rw [List.mem_filter, hb_b_t]
/-- orthogonal to both sides: r is on the line of a x g -/
theorem hb_on_line {a g r b : hb_V3} (h1 : hb_dot a r = 0) (h2 : hb_dot g r = 0) : hb_dot (hb_crs a g) (hb_crs a g) * hb_dot b r = hb_dot (hb_crs a g) r * hb_dot b (hb_crs a g) := by
  have e := hb_crs3 h1 h2
  have := hb_cx e (hb_crs a g) b
  rw [Int.mul_comm (hb_dot (hb_crs a g) r)]
  rw [Int.mul_comm (hb_dot (hb_crs a g) r)] at this
  omega
end
section
/-! the three 'exactly two' lemmas -/
theorem hb_dir_mv (k : hb_V4) (α β : Int) (r b : hb_V3) : hb_dot b (hb_dir k (hb_mv α k β r)) = hb_w k * β * hb_dot b r := by
  simp only [hb_dir, hb_mv, hb_dot, hb_w]; grind
theorem hb_orth0 {u e : hb_V3} (he : e ≠ hb_z) (h : hb_crs u e = hb_z) (h1 : hb_dot e u = 0) : u = hb_z :=
  hb_par0 h h1 (fun e' => he (hb_n0 e'))
/-- the neighbour of k along r, where two planes at k hold r -/
theorem hb_ray2 {ps L : List hb_V4} (hb : hb_bnd ps) (h : hb_En ps L) {k p a : hb_V4} {r : hb_V3} (hk : k ∈ L) (hp : p ∈ ps) (ha : a ∈ ps) (sp : hb_s p k = 0) (sa : hb_s a k = 0) (hn : hb_crs (hb_n p) (hb_n a) ≠ hb_z) (hr : r ≠ hb_z)
    (dp : hb_dt p r = 0) (da : hb_dt a r = 0) (hd : ∀ q ∈ ps, hb_s q k = 0 → hb_dt q r ≤ 0) :
    ∃ l ∈ L, hb_nb ps L k l ∧ hb_s p l = 0 ∧ hb_s a l = 0 ∧ ∃ s t : Int, 0 < s ∧ 0 < t ∧ ∀ b, s * hb_dot b (hb_dir k l) = t * hb_dot b r := by
  have fk := (h.1 k hk).1
  obtain ⟨α, β, hα, hβ, vx⟩ := hb_ray hb fk hr hd (fun u' hu' => hb_both hn (hu' p hp sp dp) (hu' a ha sa da) dp da)
  obtain ⟨l, hl, pl⟩ := h.2.2 _ vx
  have fl := (h.1 l hl).1
  have scl : ∀ b, hb_w (hb_mv α k β r) * hb_dot b (hb_dir k l) = hb_w l * (hb_w k * β) * hb_dot b r := by
    intro b
    have d3 := hb_dir3 k (hb_mv α k β r) l b
    rw [hb_par_symm pl, hb_dot_z, hb_dir_mv] at d3
    grind
  have t0 : 0 < hb_w l * (hb_w k * β) := Int.mul_pos fl.1 (Int.mul_pos fk.1 hβ)
  have on : ∀ q, hb_s q k = 0 → hb_dt q r = 0 → hb_s q l = 0 := by
    intro q e1 e2
    refine (hb_par_ti fl.1 vx.1.1 pl).mpr ?_
    rw [hb_s_mv, e1, e2]; omega
  have hkl : k ≠ l := by
    intro e
    refine hr (hb_all0 (fun b => ?_))
    have := scl b
    rw [← e, hb_par_refl k, hb_dot_z, Int.mul_zero] at this
    rw [← e] at t0
    rcases Int.mul_eq_zero.mp this.symm with g | g
    · omega
    · exact g
  refine ⟨l, hl, hb_nb_of h hk hl hkl (fun u' hu' => ?_), on p sp dp, on a sa da, _, _, vx.1.1, t0, scl⟩
  refine hb_both hn (hu' p hp sp (on p sp dp)) (hu' a ha sa (on a sa da)) ?_ ?_
  · have : hb_dt p (hb_dir k l) = 0 := by rw [hb_dt_dir, sp, on p sp dp]; omega
    exact this
  · have : hb_dt a (hb_dir k l) = 0 := by rw [hb_dt_dir, sa, on a sa da]; omega
    exact this
theorem hb_feas_dt {ps : List hb_V4} {k l q : hb_V4} (fk : hb_fe ps k) (fl : hb_fe ps l) (hq : q ∈ ps) (e : hb_s q k = 0) : hb_dt q (hb_dir k l) ≤ 0 := by
  rw [hb_dt_dir, e]
  have := Int.mul_nonneg (Int.le_of_lt fk.1) (fl.2 q hq)
  omega
/-- signs by a fixed factor -/
theorem hb_sign {A x y c : Int} (hA : 0 < A) (h : A * x = c * y) (hx : x ≤ 0) : (0 < c → y ≤ 0) ∧ (c < 0 → 0 ≤ y) := by
  have t := Int.mul_nonpos_of_nonneg_of_nonpos (Int.le_of_lt hA) hx
  constructor
  · intro hc
    rcases Int.lt_or_le 0 y with g | g
    · have := Int.mul_pos hc g; omega
    · exact g
  · intro hc
    rcases Int.lt_or_le y 0 with g | g
    · have := Int.mul_pos_of_neg_of_neg hc g; omega
    · exact g

/-- (2) a corner of a face has two neighbours in it -/
theorem hb_cnt2 {ps L : List hb_V4} (hb : hb_bnd ps) (h : hb_En ps L) {p k : hb_V4} (hp : p ∈ ps) (np : hb_n p ≠ hb_z) (hf : hb_fac ps L p) (hk : k ∈ L) (sp : hb_s p k = 0) :
    ∃ l1 ∈ L, ∃ l2 ∈ L, l1 ≠ l2 ∧ hb_nb ps L k l1 ∧ hb_s p l1 = 0 ∧ hb_nb ps L k l2 ∧ hb_s p l2 = 0 ∧ ∀ l ∈ L, hb_nb ps L k l → hb_s p l = 0 → l = l1 ∨ l = l2 := by
  have vk := h.1 k hk
  obtain ⟨Y, fY, hY⟩ := hb_fac_cen h hf
  let g := hb_n p
  have h1 : ∀ q ∈ hb_fl ps (fun q => hb_s q k = 0 ∧ hb_crs g (hb_n q) ≠ hb_z), hb_dt q (hb_dir k Y) < 0 := by
    intro q hq
    obtain ⟨m, e, c⟩ := hb_fl_mem.mp hq
    rw [hb_dt_dir, e]
    have a := fY.2 q m
    have b : hb_s q Y ≠ 0 := fun e' => c (hf.2 q m ((hY q m).mp e'))
    have := Int.mul_pos vk.1.1 (show 0 < hb_s q Y by omega)
    omega
  have h2 : hb_dot g (hb_dir k Y) = 0 := by
    have : hb_dt p (hb_dir k Y) = 0 := by rw [hb_dt_dir, sp, (hY p hp).mpr (fun k _ e => e)]; omega
    exact this
  have ex : ∃ a, a ∈ ps ∧ hb_s a k = 0 ∧ hb_crs g (hb_n a) ≠ hb_z := by
    refine Classical.byContradiction (fun hc => ?_)
    obtain ⟨u, hu, hpu⟩ := @hb_perp g
    refine hu (vk.2 u (fun q hq e => ?_))
    exact hb_par_dot np (Classical.byContradiction (fun g' => hc ⟨q, hq, e, g'⟩)) hpu
  obtain ⟨a, ma, ea, ca⟩ := ex
  have ex2 : ∃ b, b ∈ ps ∧ hb_s b k = 0 ∧ hb_dt b (hb_crs (hb_n a) g) ≠ 0 := by
    refine Classical.byContradiction (fun hc => ?_)
    have := vk.2 (hb_crs (hb_n a) g) (fun q hq e => Classical.byContradiction (fun g' => hc ⟨q, hq, e, g'⟩))
    exact ca (hb_crs_sw _ _ this)
  obtain ⟨b, mb, eb, db⟩ := ex2
  have cb : hb_crs g (hb_n b) ≠ hb_z := fun e => db (hb_par_dot np e (hb_crs_r _ _))
  have h3 : ∃ x ∈ hb_fl ps (fun q => hb_s q k = 0 ∧ hb_crs g (hb_n q) ≠ hb_z), ∃ y ∈ hb_fl ps (fun q => hb_s q k = 0 ∧ hb_crs g (hb_n q) ≠ hb_z), hb_det (hb_n x) (hb_n y) g ≠ 0 := by
    refine ⟨b, hb_fl_mem.mpr ⟨mb, eb, cb⟩, a, hb_fl_mem.mpr ⟨ma, ea, ca⟩, fun e => db ?_⟩
    show hb_dot (hb_n b) (hb_crs (hb_n a) g) = 0
    rw [hb_det_dot]; exact e
  obtain ⟨q1, hq1, q2, hq2, m1, m2, m12⟩ := hb_two h1 (Or.inl h2) h3
  obtain ⟨mq1, eq1, cq1⟩ := hb_fl_mem.mp hq1
  obtain ⟨mq2, eq2, cq2⟩ := hb_fl_mem.mp hq2
  -- the rays
  have d1 : ∀ q, hb_dt q (hb_crs (hb_n q1) g) = - hb_det (hb_n q1) (hb_n q) g := by
    intro q
    show hb_dot (hb_n q) (hb_crs (hb_n q1) g) = _
    rw [hb_det_dot, hb_det_sw]
  have d2 : ∀ q, hb_dt q (hb_crs g (hb_n q2)) = hb_det (hb_n q2) (hb_n q) g := by
    intro q
    show hb_dot (hb_n q) (hb_crs g (hb_n q2)) = _
    rw [hb_det_dot, hb_det_cyc (hb_n q2)]
  have z1 : ∀ q, hb_crs g (hb_n q) = hb_z → hb_dt q (hb_crs (hb_n q1) g) = 0 := fun q e => hb_par_dot np e (hb_crs_r _ _)
  have z2 : ∀ q, hb_crs g (hb_n q) = hb_z → hb_dt q (hb_crs g (hb_n q2)) = 0 := fun q e => hb_par_dot np e (hb_crs_l _ _)
  have gg : hb_crs g g = hb_z := by refine hb_ext3 ?_ ?_ ?_ <;> simp only [hb_crs, hb_z] <;> grind
  obtain ⟨l1, hl1, nb1, sp1, sq1, s1, t1, s1p, t1p, sc1⟩ := hb_ray2 (r := hb_crs (hb_n q1) g) hb h hk hp mq1 sp eq1 cq1 (fun e => cq1 (hb_crs_sw _ _ e)) (z1 p gg) (by rw [d1, hb_det_aa]; rfl) (fun q hq e => by
    by_cases c : hb_crs g (hb_n q) = hb_z
    · rw [z1 q c]; exact Int.le_refl _
    · rw [d1]; have := m1 q (hb_fl_mem.mpr ⟨hq, e, c⟩); omega)
  obtain ⟨l2, hl2, nb2, sp2, sq2, s2, t2, s2p, t2p, sc2⟩ := hb_ray2 (r := hb_crs g (hb_n q2)) hb h hk hp mq2 sp eq2 cq2 cq2 (z2 p gg) (by rw [d2, hb_det_aa]) (fun q hq e => by
    by_cases c : hb_crs g (hb_n q) = hb_z
    · rw [z2 q c]; exact Int.le_refl _
    · rw [d2]; exact m2 q (hb_fl_mem.mpr ⟨hq, e, c⟩))
  have col : ∀ q ∈ ps, hb_s q k = 0 → hb_crs g (hb_n q) ≠ hb_z → ∀ l ∈ L, ∀ l' ∈ L, k ≠ l → k ≠ l' → hb_s p l = 0 → hb_s p l' = 0 → hb_s q l = 0 → hb_s q l' = 0 → l = l' := by
    intro q hq e c l hl l' hl' kl kl' e1 e2 e3 e4
    refine Classical.byContradiction (fun hne => ?_)
    refine hb_col vk (h.1 l hl) (h.1 l' hl') (fun e => kl (hb_En_inj h hk hl e)) (fun e => kl' (hb_En_inj h hk hl' e)) (fun e => hne (hb_En_inj h hl hl' e)) ?_
    have f : ∀ x y, hb_s x k = 0 → hb_s x y = 0 → hb_dot (hb_n x) (hb_dir k y) = 0 := by
      intro x y e1 e2
      have : hb_dt x (hb_dir k y) = 0 := by rw [hb_dt_dir, e1, e2]; omega
      exact this
    exact hb_both c (f p l sp e1) (f q l e e3) (f p l' sp e2) (f q l' e e4)
  refine ⟨l1, hl1, l2, hl2, fun e => ?_, nb1, sp1, nb2, sp2, fun l hl nb spl => ?_⟩
  · -- l1 isn't on q2
    have := sc1 (hb_n q2)
    have z : hb_dot (hb_n q2) (hb_dir k l1) = 0 := by
      have : hb_dt q2 (hb_dir k l1) = 0 := by rw [hb_dt_dir, eq2, e, sq2]; omega
      exact this
    have dd : hb_dot (hb_n q2) (hb_crs (hb_n q1) g) = - hb_det (hb_n q1) (hb_n q2) g := d1 q2
    rw [z, dd, Int.mul_zero] at this
    rcases Int.mul_eq_zero.mp this.symm with g' | g'
    · omega
    · omega
  · have e0 : hb_dir k l ≠ hb_z := fun e => nb.1 (hb_En_inj h hk hl e)
    have pe : hb_dot g (hb_dir k l) = 0 := by
      have : hb_dt p (hb_dir k l) = 0 := by rw [hb_dt_dir, sp, spl]; omega
      exact this
    -- a second plane at the edge
    have ex : ∃ q, q ∈ ps ∧ hb_s q k = 0 ∧ hb_s q l = 0 ∧ hb_crs g (hb_n q) ≠ hb_z := by
      refine Classical.byContradiction (fun hc => ?_)
      have u0 : hb_crs g (hb_dir k l) = hb_z := by
        refine hb_orth0 e0 (hb_edge hb h hk hl nb _ (fun q hq e1 e2 => ?_)) (hb_crs_r _ _)
        exact hb_par_dot np (Classical.byContradiction (fun g' => hc ⟨q, hq, e1, e2, g'⟩)) (hb_crs_l _ _)
      exact np (hb_orth0 e0 u0 (by rw [hb_dot_comm]; exact pe))
    obtain ⟨q, mq, eq, eql, cq⟩ := ex
    have qe : hb_dot (hb_n q) (hb_dir k l) = 0 := by
      have : hb_dt q (hb_dir k l) = 0 := by rw [hb_dt_dir, eq, eql]; omega
      exact this
    have cc : hb_crs (hb_n q) g ≠ hb_z := fun e => cq (hb_crs_sw _ _ e)
    have ccp := hb_np cc
    have ol := fun b => hb_on_line (b := b) qe pe
    have hq : q ∈ hb_fl ps (fun q => hb_s q k = 0 ∧ hb_crs g (hb_n q) ≠ hb_z) := hb_fl_mem.mpr ⟨mq, eq, cq⟩
    have fin : ∀ x, x ∈ ps → hb_s x k = 0 → hb_det (hb_n x) (hb_n q) g = 0 → hb_s x l = 0 := by
      intro x mx ex hd
      have t := ol (hb_n x)
      rw [hb_det_dot (hb_n x), hd, Int.mul_zero] at t
      have t' : hb_dot (hb_n x) (hb_dir k l) = 0 := by
        rcases Int.mul_eq_zero.mp t with g' | g'
        · omega
        · exact g'
      have t'' : hb_dt x (hb_dir k l) = 0 := t'
      rw [hb_dt_dir, ex, Int.mul_zero] at t''
      have : hb_w k * hb_s x l = 0 := by omega
      rcases Int.mul_eq_zero.mp this with g' | g'
      · have := vk.1.1; omega
      · exact g'
    have c0 : hb_dot (hb_crs (hb_n q) g) (hb_dir k l) ≠ 0 := by
      intro e
      refine e0 (hb_all0 (fun b => ?_))
      have t := ol b
      rw [e, Int.zero_mul] at t
      rcases Int.mul_eq_zero.mp t with g' | g'
      · omega
      · exact g'
    have sg := fun x (mx : x ∈ ps) (ex : hb_s x k = 0) => hb_sign ccp (ol (hb_n x)) (hb_feas_dt vk.1 (h.1 l hl).1 mx ex)
    rcases Int.lt_or_le 0 (hb_dot (hb_crs (hb_n q) g) (hb_dir k l)) with c | c
    · left
      have a1 := (sg q1 mq1 eq1).1 c
      rw [hb_det_dot] at a1
      have a2 := m1 q hq
      exact col q1 mq1 eq1 cq1 l hl l1 hl1 nb.1 nb1.1 spl sp1 (fin q1 mq1 eq1 (by omega)) sq1
    · right
      have a1 := (sg q2 mq2 eq2).2 (by omega)
      rw [hb_det_dot] at a1
      have a2 := m2 q hq
      exact col q2 mq2 eq2 cq2 l hl l2 hl2 nb.1 nb2.1 spl sp2 (fin q2 mq2 eq2 (by omega)) sq2

/-- (1) an edge lies in two faces -/
theorem hb_cnt1 {ps L : List hb_V4} (hb : hb_bnd ps) (h : hb_En ps L) (nz : ∀ p ∈ ps, hb_n p ≠ hb_z) (d3 : ∀ p ∈ ps, ∃ k ∈ L, hb_s p k ≠ 0) {k l : hb_V4} (hk : k ∈ L) (hl : l ∈ L) (nb : hb_nb ps L k l) :
    ∃ q1 ∈ ps, ∃ q2 ∈ ps, hb_crs (hb_n q1) (hb_n q2) ≠ hb_z ∧ (hb_fac ps L q1 ∧ hb_s q1 k = 0 ∧ hb_s q1 l = 0) ∧ (hb_fac ps L q2 ∧ hb_s q2 k = 0 ∧ hb_s q2 l = 0) ∧
      ∀ r ∈ ps, hb_fac ps L r → hb_s r k = 0 → hb_s r l = 0 → hb_crs (hb_n q1) (hb_n r) = hb_z ∨ hb_crs (hb_n q2) (hb_n r) = hb_z := by
  have vk := (h.1 k hk).1
  have vl := (h.1 l hl).1
  have e0 : hb_dir k l ≠ hb_z := fun e => nb.1 (hb_En_inj h hk hl e)
  have hmid : hb_fe ps (hb_lc 1 k 1 l) := by
    refine ⟨?_, fun p hp => ?_⟩
    · rw [hb_w_lc]; have := vk.1; have := vl.1; omega
    · rw [hb_s_lc]; have := vk.2 p hp; have := vl.2 p hp; omega
  have tmid : ∀ p ∈ ps, hb_s p (hb_lc 1 k 1 l) = 0 ↔ hb_s p k = 0 ∧ hb_s p l = 0 := by
    intro p hp
    rw [hb_s_lc]; have := vk.2 p hp; have := vl.2 p hp; omega
  obtain ⟨y, fy, hy⟩ := hb_cen (ps := ps) L (fun e => by rw [e] at hk; cases hk) (fun v hv => (h.1 v hv).1)
  have yp : ∀ p ∈ ps, 0 < hb_s p y := by
    intro p hp
    obtain ⟨m, hm, e⟩ := d3 p hp
    have a := fy.2 p hp
    have : hb_s p y ≠ 0 := fun e' => e ((hy p hp).mp e' m hm)
    omega
  have per : ∀ q, hb_s q k = 0 → hb_s q l = 0 → hb_dot (hb_dir k l) (hb_n q) = 0 := by
    intro q e1 e2
    have : hb_dt q (hb_dir k l) = 0 := by rw [hb_dt_dir, e1, e2]; omega
    rw [hb_dot_comm]; exact this
  have h1 : ∀ q ∈ hb_fl ps (fun q => hb_s q k = 0 ∧ hb_s q l = 0), hb_dt q (hb_dir (hb_lc 1 k 1 l) y) < 0 := by
    intro q hq
    obtain ⟨m, e, e'⟩ := hb_fl_mem.mp hq
    rw [hb_dt_dir, (tmid q m).mpr ⟨e, e'⟩]
    have := Int.mul_pos hmid.1 (yp q m)
    omega
  have h2 : ∀ a ∈ hb_fl ps (fun q => hb_s q k = 0 ∧ hb_s q l = 0), ∀ b ∈ hb_fl ps (fun q => hb_s q k = 0 ∧ hb_s q l = 0), ∀ c ∈ hb_fl ps (fun q => hb_s q k = 0 ∧ hb_s q l = 0), hb_det (hb_n a) (hb_n b) (hb_n c) = 0 := by
    intro a ha b hb c hc
    obtain ⟨_, a1, a2⟩ := hb_fl_mem.mp ha
    obtain ⟨_, b1, b2⟩ := hb_fl_mem.mp hb
    obtain ⟨_, c1, c2⟩ := hb_fl_mem.mp hc
    have := hb_crs3 (a := hb_n a) (b := hb_n b) (u := hb_dir k l) (by rw [hb_dot_comm]; exact per a a1 a2) (by rw [hb_dot_comm]; exact per b b1 b2)
    exact hb_par_dot e0 this (per c c1 c2)
  have ex : ∃ a, a ∈ ps ∧ hb_s a k = 0 ∧ hb_s a l = 0 := by
    refine Classical.byContradiction (fun hc => ?_)
    obtain ⟨u, hu, hpu⟩ := @hb_perp (hb_dir k l)
    exact hu (hb_orth0 e0 (hb_edge hb h hk hl nb u (fun q hq e1 e2 => absurd ⟨q, hq, e1, e2⟩ hc)) hpu)
  obtain ⟨a, ma, ea, ea'⟩ := ex
  have ex2 : ∃ b, b ∈ ps ∧ hb_s b k = 0 ∧ hb_s b l = 0 ∧ hb_dt b (hb_crs (hb_n a) (hb_dir k l)) ≠ 0 := by
    refine Classical.byContradiction (fun hc => ?_)
    have := hb_orth0 e0 (hb_edge hb h hk hl nb (hb_crs (hb_n a) (hb_dir k l)) (fun q hq e1 e2 => Classical.byContradiction (fun g' => hc ⟨q, hq, e1, e2, g'⟩))) (hb_crs_r _ _)
    exact nz a ma (hb_orth0 e0 this (per a ea ea'))
  obtain ⟨b, mb, eb, eb', db⟩ := ex2
  obtain ⟨q1, hq1, q2, hq2, m1, m2, m12⟩ := hb_two (g := hb_dir k l) h1 (Or.inr h2) ⟨b, hb_fl_mem.mpr ⟨mb, eb, eb'⟩, a, hb_fl_mem.mpr ⟨ma, ea, ea'⟩, fun e => db (by
    show hb_dot (hb_n b) _ = 0
    rw [hb_det_dot]; exact e)⟩
  obtain ⟨mq1, eq1, eq1'⟩ := hb_fl_mem.mp hq1
  obtain ⟨mq2, eq2, eq2'⟩ := hb_fl_mem.mp hq2
  have parq : ∀ x y, hb_s x k = 0 → hb_s x l = 0 → hb_s y k = 0 → hb_s y l = 0 → hb_det (hb_n x) (hb_n y) (hb_dir k l) = 0 → hb_crs (hb_n x) (hb_n y) = hb_z := by
    intro x y x1 x2 y1 y2 hd
    refine hb_orth0 e0 (hb_crs_sw _ _ (hb_crs3 (by rw [hb_dot_comm]; exact per x x1 x2) (by rw [hb_dot_comm]; exact per y y1 y2))) ?_
    rw [hb_dot_comm]; exact hd
  -- both are faces
  have facq : ∀ q ∈ ps, hb_s q k = 0 → hb_s q l = 0 → ∀ r : hb_V3, hb_dt q r = 0 → (∀ x ∈ ps, hb_s x k = 0 → hb_s x l = 0 → hb_dt x r ≤ 0) → (∀ x ∈ ps, hb_s x k = 0 → hb_s x l = 0 → hb_dt x r = 0 → hb_det (hb_n q) (hb_n x) (hb_dir k l) = 0) → hb_fac ps L q := by
    intro q mq e1 e2 r dr hr hz
    obtain ⟨M, hM, fX, tX⟩ := hb_nudge hmid (u := r) (fun x mx e => hr x mx ((tmid x mx).mp e).1 ((tmid x mx).mp e).2)
    refine hb_fac_of hb h fX mq ((tX q mq).mpr ⟨(tmid q mq).mpr ⟨e1, e2⟩, dr⟩) (fun x mx e => ?_)
    obtain ⟨a1, a2⟩ := (tX x mx).mp e
    obtain ⟨b1, b2⟩ := (tmid x mx).mp a1
    exact parq q x e1 e2 b1 b2 (hz x mx b1 b2 a2)
  have d1 : ∀ q, hb_dt q (hb_crs (hb_n q1) (hb_dir k l)) = - hb_det (hb_n q1) (hb_n q) (hb_dir k l) := by
    intro q
    show hb_dot (hb_n q) (hb_crs (hb_n q1) _) = _
    rw [hb_det_dot, hb_det_sw]
  have d2 : ∀ q, hb_dt q (hb_crs (hb_dir k l) (hb_n q2)) = hb_det (hb_n q2) (hb_n q) (hb_dir k l) := by
    intro q
    show hb_dot (hb_n q) (hb_crs _ (hb_n q2)) = _
    rw [hb_det_dot, hb_det_cyc (hb_n q2)]
  have f1 : hb_fac ps L q1 := facq q1 mq1 eq1 eq1' (hb_crs (hb_n q1) (hb_dir k l)) (by rw [d1, hb_det_aa]; rfl) (fun x mx x1 x2 => by rw [d1]; have := m1 x (hb_fl_mem.mpr ⟨mx, x1, x2⟩); omega) (fun x mx x1 x2 e => by rw [d1] at e; omega)
  have f2 : hb_fac ps L q2 := facq q2 mq2 eq2 eq2' (hb_crs (hb_dir k l) (hb_n q2)) (by rw [d2, hb_det_aa]) (fun x mx x1 x2 => by rw [d2]; exact m2 x (hb_fl_mem.mpr ⟨mx, x1, x2⟩)) (fun x mx x1 x2 e => by rw [d2] at e; exact e)
  refine ⟨q1, mq1, q2, mq2, fun e => ?_, ⟨f1, eq1, eq1'⟩, ⟨f2, eq2, eq2'⟩, fun r mr fr er er' => ?_⟩
  · have : hb_det (hb_n q1) (hb_n q2) (hb_dir k l) = 0 := by
      show hb_dot (hb_crs _ _) _ = 0
      rw [e, hb_dot_comm, hb_dot_z]
    omega
  · obtain ⟨Y, fY, hY⟩ := hb_fac_cen h fr
    -- the direction to the centre, less its part along the edge
    let e := hb_dir k l
    let d := hb_dir (hb_lc 1 k 1 l) Y
    let d' := hb_l3 (hb_dot e e) d (-(hb_dot e d)) e
    have ep : 0 < hb_dot e e := hb_np e0
    have bd : ∀ x ∈ ps, hb_s x k = 0 → hb_s x l = 0 → hb_dot (hb_n x) d' = hb_dot e e * hb_dot (hb_n x) d := by
      intro x mx x1 x2
      show hb_dot (hb_n x) (hb_l3 _ _ _ _) = _
      rw [hb_dot_l3, hb_dot_comm (hb_n x) e, per x x1 x2]; omega
    have dd : ∀ x ∈ ps, hb_s x k = 0 → hb_s x l = 0 → hb_dot (hb_n x) d = - (hb_w (hb_lc 1 k 1 l) * hb_s x Y) := by
      intro x mx x1 x2
      have : hb_dt x d = - (hb_w (hb_lc 1 k 1 l) * hb_s x Y) := by
        show hb_dt x (hb_dir _ _) = _
        rw [hb_dt_dir, (tmid x mx).mpr ⟨x1, x2⟩]; omega
      exact this
    have rd : hb_dot (hb_n r) d' = 0 := by
      rw [bd r mr er er', dd r mr er er', (hY r mr).mpr (fun k _ e => e)]; grind
    have ed : hb_dot e d' = 0 := by
      show hb_dot e (hb_l3 _ _ _ _) = 0
      rw [hb_dot_l3]; grind
    have ol := fun b => hb_on_line (b := b) rd ed
    have cn : hb_crs (hb_n r) e ≠ hb_z := fun e' => nz r mr (hb_orth0 e0 e' (per r er er'))
    have ccp := hb_np cn
    have neg : ∀ x ∈ ps, hb_s x k = 0 → hb_s x l = 0 → hb_dot (hb_n x) d' ≤ 0 := by
      intro x mx x1 x2
      rw [bd x mx x1 x2, dd x mx x1 x2]
      have := Int.mul_nonneg (Int.le_of_lt hmid.1) (fY.2 x mx)
      have := Int.mul_nonneg (Int.le_of_lt ep) this
      rw [Int.mul_neg]; omega
    have sg := fun x (mx : x ∈ ps) (x1 : hb_s x k = 0) (x2 : hb_s x l = 0) => hb_sign ccp (ol (hb_n x)) (neg x mx x1 x2)
    rcases Int.lt_or_le 0 (hb_dot (hb_crs (hb_n r) e) d') with c | c
    · left
      have a1 := (sg q1 mq1 eq1 eq1').1 c
      rw [hb_det_dot] at a1
      have a2 : 0 ≤ hb_det (hb_n q1) (hb_n r) e := m1 r (hb_fl_mem.mpr ⟨mr, er, er'⟩)
      exact parq q1 r eq1 eq1' er er' (show hb_det (hb_n q1) (hb_n r) e = 0 by omega)
    · rcases Int.lt_or_eq_of_le c with c | c
      · right
        have a1 := (sg q2 mq2 eq2 eq2').2 c
        rw [hb_det_dot] at a1
        have a2 : hb_det (hb_n q2) (hb_n r) e ≤ 0 := m2 r (hb_fl_mem.mpr ⟨mr, er, er'⟩)
        exact parq q2 r eq2 eq2' er er' (show hb_det (hb_n q2) (hb_n r) e = 0 by omega)
      · left
        have t := ol (hb_n q1)
        rw [c, Int.zero_mul] at t
        have t1 : hb_dot (hb_n q1) d' = 0 := by
          rcases Int.mul_eq_zero.mp t with g' | g'
          · omega
          · exact g'
        rw [bd q1 mq1 eq1 eq1', dd q1 mq1 eq1 eq1'] at t1
        have t2 : hb_s q1 Y = 0 := by
          rcases Int.mul_eq_zero.mp t1 with g' | g'
          · have : hb_dot e e = hb_dot (hb_dir k l) (hb_dir k l) := rfl
            omega
          · have g'' : hb_w (hb_lc 1 k 1 l) * hb_s q1 Y = 0 := by omega
            rcases Int.mul_eq_zero.mp g'' with g3 | g3
            · have := hmid.1; omega
            · exact g3
        exact hb_crs_sw _ _ (fr.2 q1 mq1 ((hY q1 mq1).mp t2))
end
section
/-! by a generic direction c: middle corners of faces -/
def hb_ab (L : List hb_V4) (c : hb_V3) (r k : hb_V4) : Prop := ∃ m ∈ L, hb_s r m = 0 ∧ 0 < hb_dot c (hb_dir k m)
def hb_be (L : List hb_V4) (c : hb_V3) (r k : hb_V4) : Prop := ∃ m ∈ L, hb_s r m = 0 ∧ hb_dot c (hb_dir k m) < 0
/-- a corner above k in the smallest face of X -/
theorem hb_higher {ps L : List hb_V4} (hb : hb_bnd ps) (h : hb_En ps L) {k X : hb_V4} {c r u : hb_V3} {M : Int} (wk : 0 < hb_w k) (hM : 0 < M) (hX : X = hb_mv M k 1 r) (fX : hb_fe ps X) (cr : hb_dot c r = 0) (hu : ∀ q ∈ ps, hb_s q X = 0 → hb_dt q u = 0) (cu : 0 < hb_dot c u) :
    ∃ m ∈ L, hb_ti ps X m ∧ 0 < hb_dot c (hb_dir k m) := by
  obtain ⟨M', hM', fX', tX'⟩ := hb_nudge fX (u := u) (fun q hq e => Int.le_of_eq (hu q hq e))
  obtain ⟨m, hm, tm, fm⟩ := hb_far hb h (-c.1, -c.2.1, -c.2.2, 0) fX'
  refine ⟨m, hm, fun q hq e => tm q hq ((tX' q hq).mpr ⟨e, hu q hq e⟩), ?_⟩
  have sF : ∀ v, hb_s (-c.1, -c.2.1, -c.2.2, 0) v = hb_dot c (hb_n v) := by
    intro v; simp only [hb_s, hb_w, hb_n, hb_dot]; grind
  have dF : ∀ v, hb_dt (-c.1, -c.2.1, -c.2.2, 0) v = - hb_dot c v := by
    intro v; simp only [hb_dt, hb_n, hb_dot]; grind
  have cd : hb_dot c (hb_dir k m) = hb_w k * hb_dot c (hb_n m) - hb_w m * hb_dot c (hb_n k) := by
    simp only [hb_dir, hb_w, hb_n, hb_dot]; grind
  rw [hb_s_mv, hb_w_mv, sF m, dF, hX, hb_s_mv, hb_w_mv, sF k, dF, cr] at fm
  have wm := (h.1 m hm).1.1
  have e : M' * M * hb_dot c (hb_dir k m) = hb_dot c (hb_n m) * (M' * (M * hb_w k)) - (M' * (M * hb_dot c (hb_n k) - 1 * -0) - 1 * -hb_dot c u) * hb_w m + hb_dot c u * hb_w m := by
    rw [cd]; grind
  have p1 := Int.mul_pos cu wm
  have p2 := Int.mul_pos hM' hM
  rcases Int.lt_or_le 0 (hb_dot c (hb_dir k m)) with g | g
  · exact g
  · have := Int.mul_nonpos_of_nonneg_of_nonpos (Int.le_of_lt p2) g
    omega
/-- level and in the face r, between one above and one below -/
theorem hb_zdir {ps L : List hb_V4} (h : hb_En ps L) {c : hb_V3} {k r : hb_V4} (hk : k ∈ L) (sr : hb_s r k = 0) (ha : hb_ab L c r k) (hbe : hb_be L c r k) :
    ∃ z, z ≠ hb_z ∧ hb_dot c z = 0 ∧ hb_dt r z = 0 ∧ (∀ q ∈ ps, hb_s q k = 0 → hb_dt q z ≤ 0) ∧ ∃ d1 d2, hb_crs d1 d2 ≠ hb_z ∧ hb_dt r d1 = 0 ∧ hb_dt r d2 = 0 ∧ ∀ q ∈ ps, hb_s q k = 0 → hb_dt q z = 0 → hb_dt q d1 = 0 ∧ hb_dt q d2 = 0 := by
  obtain ⟨m1, hm1, s1, c1⟩ := ha
  obtain ⟨m2, hm2, s2, c2⟩ := hbe
  have vk := h.1 k hk
  have v1 := h.1 m1 hm1
  have v2 := h.1 m2 hm2
  have n1 : ¬ hb_par k m1 := fun e => by rw [e, hb_dot_z] at c1; omega
  have n2 : ¬ hb_par k m2 := fun e => by rw [e, hb_dot_z] at c2; omega
  have n3 : ¬ hb_par m1 m2 := fun e => by
    have := hb_En_inj h hm1 hm2 e
    rw [this] at c1; omega
  have hcol := hb_col vk v1 v2 n1 n2 n3
  have dz : ∀ q, hb_dt q (hb_l3 (-(hb_dot c (hb_dir k m2))) (hb_dir k m1) (hb_dot c (hb_dir k m1)) (hb_dir k m2)) = (-(hb_dot c (hb_dir k m2))) * hb_dt q (hb_dir k m1) + hb_dot c (hb_dir k m1) * hb_dt q (hb_dir k m2) := fun q => hb_dt_l3 ..
  have on : ∀ m, hb_s r m = 0 → hb_dt r (hb_dir k m) = 0 := by
    intro m e; rw [hb_dt_dir, sr, e]; omega
  refine ⟨hb_l3 (-(hb_dot c (hb_dir k m2))) (hb_dir k m1) (hb_dot c (hb_dir k m1)) (hb_dir k m2), fun e => hcol ?_, ?_, ?_, fun q hq e => ?_, hb_dir k m1, hb_dir k m2, hcol, on m1 s1, on m2 s2, fun q hq e hz => ?_⟩
  · refine hb_all0 (fun d => ?_)
    have t : hb_dot d (hb_crs (hb_l3 (-(hb_dot c (hb_dir k m2))) (hb_dir k m1) (hb_dot c (hb_dir k m1)) (hb_dir k m2)) (hb_dir k m2)) = (-(hb_dot c (hb_dir k m2))) * hb_dot d (hb_crs (hb_dir k m1) (hb_dir k m2)) := by
      simp only [hb_l3, hb_crs, hb_dot]; grind
    rw [e] at t
    have t0 : hb_dot d (hb_crs hb_z (hb_dir k m2)) = 0 := by simp only [hb_crs, hb_dot, hb_z]; grind
    rw [t0] at t
    rcases Int.mul_eq_zero.mp t.symm with g | g
    · omega
    · exact g
  · rw [hb_dot_l3]; grind
  · rw [dz, on m1 s1, on m2 s2]; omega
  · rw [dz]
    have a1 := hb_feas_dt vk.1 v1.1 hq e
    have a2 := hb_feas_dt vk.1 v2.1 hq e
    have b1 := Int.mul_nonpos_of_nonneg_of_nonpos (show 0 ≤ -(hb_dot c (hb_dir k m2)) by omega) a1
    have b2 := Int.mul_nonpos_of_nonneg_of_nonpos (Int.le_of_lt c1) a2
    omega
  · rw [dz] at hz
    have a1 := hb_feas_dt vk.1 v1.1 hq e
    have a2 := hb_feas_dt vk.1 v2.1 hq e
    have b1 := Int.mul_nonpos_of_nonneg_of_nonpos (show 0 ≤ -(hb_dot c (hb_dir k m2)) by omega) a1
    have b2 := Int.mul_nonpos_of_nonneg_of_nonpos (Int.le_of_lt c1) a2
    have z1 : (-(hb_dot c (hb_dir k m2))) * hb_dt q (hb_dir k m1) = 0 := by omega
    have z2 : hb_dot c (hb_dir k m1) * hb_dt q (hb_dir k m2) = 0 := by omega
    constructor
    · rcases Int.mul_eq_zero.mp z1 with g | g <;> omega
    · rcases Int.mul_eq_zero.mp z2 with g | g <;> omega

/-- (4) a corner with corners above and below it is a middle one of two faces -/
theorem hb_cnt4 {ps L : List hb_V4} (hb : hb_bnd ps) (h : hb_En ps L) (d3 : ∀ p ∈ ps, ∃ k ∈ L, hb_s p k ≠ 0) {c : hb_V3} (hc0 : c ≠ hb_z) (gen : ∀ k ∈ L, ∀ l ∈ L, hb_dot c (hb_dir k l) = 0 → hb_par k l)
    {k t b : hb_V4} (hk : k ∈ L) (ht : t ∈ L) (hbm : b ∈ L) (ct : 0 < hb_dot c (hb_dir k t)) (cb : hb_dot c (hb_dir k b) < 0) :
    ∃ q1 ∈ ps, ∃ q2 ∈ ps, hb_crs (hb_n q1) (hb_n q2) ≠ hb_z ∧ (hb_fac ps L q1 ∧ hb_s q1 k = 0 ∧ hb_ab L c q1 k ∧ hb_be L c q1 k) ∧ (hb_fac ps L q2 ∧ hb_s q2 k = 0 ∧ hb_ab L c q2 k ∧ hb_be L c q2 k) ∧
      ∀ r ∈ ps, hb_fac ps L r → hb_s r k = 0 → hb_ab L c r k → hb_be L c r k → hb_crs (hb_n q1) (hb_n r) = hb_z ∨ hb_crs (hb_n q2) (hb_n r) = hb_z := by
  have vk := h.1 k hk
  obtain ⟨y, fy, hy⟩ := hb_cen (ps := ps) L (fun e => by rw [e] at hk; cases hk) (fun v hv => (h.1 v hv).1)
  have yp : ∀ p ∈ ps, 0 < hb_s p y := by
    intro p hp
    obtain ⟨m, hm, e⟩ := d3 p hp
    have a := fy.2 p hp
    have : hb_s p y ≠ 0 := fun e' => e ((hy p hp).mp e' m hm)
    omega
  have dy : ∀ q ∈ ps, hb_s q k = 0 → hb_dt q (hb_dir k y) < 0 := by
    intro q hq e
    rw [hb_dt_dir, e]
    have := Int.mul_pos vk.1.1 (yp q hq)
    omega
  have u0 : ∃ u0, hb_dot c u0 = 0 ∧ ∀ q ∈ ps, hb_s q k = 0 → hb_dt q u0 < 0 := by
    have mk : ∀ (d : hb_V3) (α β : Int), 0 < α → 0 ≤ β → (∀ q ∈ ps, hb_s q k = 0 → hb_dt q d ≤ 0) → ∀ q ∈ ps, hb_s q k = 0 → hb_dt q (hb_l3 α (hb_dir k y) β d) < 0 := by
      intro d α β ha hbb hd q hq e
      rw [hb_dt_l3]
      have a1 := Int.mul_neg_of_pos_of_neg ha (dy q hq e)
      have a2 := Int.mul_nonpos_of_nonneg_of_nonpos hbb (hd q hq e)
      omega
    rcases Int.lt_or_le 0 (hb_dot c (hb_dir k y)) with g | g
    · refine ⟨_, ?_, mk (hb_dir k b) (-(hb_dot c (hb_dir k b))) (hb_dot c (hb_dir k y)) (by omega) (by omega) (fun q hq e => hb_feas_dt vk.1 (h.1 b hbm).1 hq e)⟩
      rw [hb_dot_l3]; grind
    · refine ⟨_, ?_, mk (hb_dir k t) (hb_dot c (hb_dir k t)) (-(hb_dot c (hb_dir k y))) (by omega) (by omega) (fun q hq e => hb_feas_dt vk.1 (h.1 t ht).1 hq e)⟩
      rw [hb_dot_l3]; grind
  obtain ⟨u0, cu0, hu0⟩ := u0
  have crc : ∀ q ∈ ps, hb_s q k = 0 → hb_crs c (hb_n q) ≠ hb_z := by
    intro q hq e e'
    have a := hb_par_dot hc0 e' cu0
    have a' : hb_dot (hb_n q) u0 < 0 := hu0 q hq e
    omega
  obtain ⟨a, _, _, ma, _, _, ea, _, _, _⟩ := hb_three vk.2
  have ex2 : ∃ b, b ∈ ps ∧ hb_s b k = 0 ∧ hb_dt b (hb_crs (hb_n a) c) ≠ 0 := by
    refine Classical.byContradiction (fun hc => ?_)
    have := vk.2 (hb_crs (hb_n a) c) (fun q hq e => Classical.byContradiction (fun g' => hc ⟨q, hq, e, g'⟩))
    exact crc a ma ea (hb_crs_sw _ _ this)
  obtain ⟨b', mb, eb, db⟩ := ex2
  obtain ⟨q1, hq1, q2, hq2, m1, m2, m12⟩ := hb_two (Q := hb_fl ps (fun q => hb_s q k = 0)) (g := c) (u0 := u0) (fun q hq => hu0 q (hb_fl_mem.mp hq).1 (hb_fl_mem.mp hq).2) (Or.inl cu0) ⟨b', hb_fl_mem.mpr ⟨mb, eb⟩, a, hb_fl_mem.mpr ⟨ma, ea⟩, fun e => db (by
    show hb_dot (hb_n b') _ = 0
    rw [hb_det_dot]; exact e)⟩
  obtain ⟨mq1, eq1⟩ := hb_fl_mem.mp hq1
  obtain ⟨mq2, eq2⟩ := hb_fl_mem.mp hq2
  -- a level ray of q: what holds it is parallel to q, and q is a face with k in its middle
  have ray : ∀ q ∈ ps, hb_s q k = 0 → ∀ r : hb_V3, r ≠ hb_z → hb_dot c r = 0 → hb_dt q r = 0 → (∀ x ∈ ps, hb_s x k = 0 → hb_dt x r ≤ 0) →
      (∀ x ∈ ps, hb_s x k = 0 → hb_dt x r = 0 → hb_crs (hb_n q) (hb_n x) = hb_z) ∧ hb_fac ps L q ∧ hb_ab L c q k ∧ hb_be L c q k := by
    intro q mq eq r hr cr dr hd
    have par : ∀ x ∈ ps, hb_s x k = 0 → hb_dt x r = 0 → hb_crs (hb_n q) (hb_n x) = hb_z := by
      intro x mx ex dx
      refine Classical.byContradiction (fun hne => ?_)
      obtain ⟨l, hl, nb, _, _, s, t, hs, ht, sc⟩ := hb_ray2 hb h hk mq mx eq ex hne hr dr dx hd
      have t' := sc c
      rw [cr, Int.mul_zero] at t'
      have : hb_dot c (hb_dir k l) = 0 := by
        rcases Int.mul_eq_zero.mp t' with g | g
        · omega
        · exact g
      exact nb.1 (hb_En_inj h hk hl (gen k hk l hl this))
    obtain ⟨M, hM, fX, tX⟩ := hb_nudge vk.1 (u := r) hd
    have sq : hb_s q (hb_mv M k 1 r) = 0 := (tX q mq).mpr ⟨eq, dr⟩
    have parX : ∀ x ∈ ps, hb_s x (hb_mv M k 1 r) = 0 → hb_crs (hb_n q) (hb_n x) = hb_z := fun x mx e => par x mx ((tX x mx).mp e).1 ((tX x mx).mp e).2
    have nq : hb_n q ≠ hb_z := fun e => by
      have : hb_dot (hb_n q) u0 < 0 := hu0 q mq eq
      rw [e, hb_dot_comm, hb_dot_z] at this; omega
    have uu : ∀ x ∈ ps, hb_s x (hb_mv M k 1 r) = 0 → hb_dt x (hb_l3 (hb_dot (hb_n q) (hb_n q)) c (-(hb_dot (hb_n q) c)) (hb_n q)) = 0 := by
      intro x mx e
      refine hb_par_dot nq (parX x mx e) ?_
      rw [hb_dot_l3]; grind
    have cu : 0 < hb_dot c (hb_l3 (hb_dot (hb_n q) (hb_n q)) c (-(hb_dot (hb_n q) c)) (hb_n q)) := by
      have e : hb_dot c (hb_l3 (hb_dot (hb_n q) (hb_n q)) c (-(hb_dot (hb_n q) c)) (hb_n q)) = hb_dot (hb_crs c (hb_n q)) (hb_crs c (hb_n q)) := by
        rw [hb_dot_l3, hb_bc, hb_dot_comm (hb_n q) c]; grind
      rw [e]
      exact hb_np (crc q mq eq)
    refine ⟨par, hb_fac_of hb h fX mq sq parX, ?_, ?_⟩
    · obtain ⟨m, hm, tm, cm⟩ := hb_higher hb h vk.1.1 hM rfl fX cr uu cu
      exact ⟨m, hm, tm q mq sq, cm⟩
    · obtain ⟨m, hm, tm, cm⟩ := hb_higher (c := hb_sc (-1) c) (u := hb_sc (-1) (hb_l3 (hb_dot (hb_n q) (hb_n q)) c (-(hb_dot (hb_n q) c)) (hb_n q))) hb h vk.1.1 hM rfl fX (by rw [hb_dot_comm, hb_dot_sc, hb_dot_comm, cr]; rfl) (fun x mx e => by rw [hb_dt_sc, uu x mx e]; rfl) (by rw [hb_dot_sc, hb_dot_comm, hb_dot_sc, hb_dot_comm]; omega)
      refine ⟨m, hm, tm q mq sq, ?_⟩
      rw [hb_dot_comm, hb_dot_sc, hb_dot_comm] at cm
      omega
  have d1 : ∀ q, hb_dt q (hb_crs (hb_n q1) c) = - hb_det (hb_n q1) (hb_n q) c := by
    intro q
    show hb_dot (hb_n q) (hb_crs (hb_n q1) _) = _
    rw [hb_det_dot, hb_det_sw]
  have d2 : ∀ q, hb_dt q (hb_crs c (hb_n q2)) = hb_det (hb_n q2) (hb_n q) c := by
    intro q
    show hb_dot (hb_n q) (hb_crs _ (hb_n q2)) = _
    rw [hb_det_dot, hb_det_cyc (hb_n q2)]
  obtain ⟨p1, f1⟩ := ray q1 mq1 eq1 (hb_crs (hb_n q1) c) (fun e => crc q1 mq1 eq1 (hb_crs_sw _ _ e)) (hb_crs_r _ _) (by rw [d1, hb_det_aa]; rfl) (fun x mx ex => by rw [d1]; have := m1 x (hb_fl_mem.mpr ⟨mx, ex⟩); omega)
  obtain ⟨p2, f2⟩ := ray q2 mq2 eq2 (hb_crs c (hb_n q2)) (crc q2 mq2 eq2) (hb_crs_l _ _) (by rw [d2, hb_det_aa]) (fun x mx ex => by rw [d2]; exact m2 x (hb_fl_mem.mpr ⟨mx, ex⟩))
  refine ⟨q1, mq1, q2, mq2, fun e => ?_, ⟨f1.1, eq1, f1.2⟩, ⟨f2.1, eq2, f2.2⟩, fun r mr fr er ra rb => ?_⟩
  · have : hb_det (hb_n q1) (hb_n q2) c = 0 := by
      show hb_dot (hb_crs _ _) _ = 0
      rw [e, hb_dot_comm, hb_dot_z]
    omega
  · obtain ⟨z, z0, cz, rz, nz, _⟩ := hb_zdir (ps := ps) h hk er ra rb
    have ol := fun b => hb_on_line (b := b) (show hb_dot (hb_n r) z = 0 from rz) cz
    have cn : hb_crs (hb_n r) c ≠ hb_z := fun e' => crc r mr er (hb_crs_sw _ _ e')
    have ccp := hb_np cn
    have c0 : hb_dot (hb_crs (hb_n r) c) z ≠ 0 := by
      intro e
      refine z0 (hb_all0 (fun b => ?_))
      have t := ol b
      rw [e, Int.zero_mul] at t
      rcases Int.mul_eq_zero.mp t with g' | g'
      · omega
      · exact g'
    have sg := fun x (mx : x ∈ ps) (ex : hb_s x k = 0) => hb_sign ccp (ol (hb_n x)) (nz x mx ex)
    rcases Int.lt_or_le 0 (hb_dot (hb_crs (hb_n r) c) z) with g | g
    · left
      have a1 := (sg q1 mq1 eq1).1 g
      rw [hb_det_dot] at a1
      have a2 := m1 r (hb_fl_mem.mpr ⟨mr, er⟩)
      exact p1 r mr er (by rw [d1]; omega)
    · right
      have a1 := (sg q2 mq2 eq2).2 (by omega)
      rw [hb_det_dot] at a1
      have a2 := m2 r (hb_fl_mem.mpr ⟨mr, er⟩)
      exact p2 r mr er (by rw [d2]; omega)

/-- every corner is the highest or the lowest one on some plane at it -/
theorem hb_topbot {ps L : List hb_V4} (h : hb_En ps L) {c : hb_V3} (nz : ∀ p ∈ ps, hb_n p ≠ hb_z) {k : hb_V4} (hk : k ∈ L) : ∃ p ∈ ps, hb_s p k = 0 ∧ (¬ hb_ab L c p k ∨ ¬ hb_be L c p k) := by
  refine Classical.byContradiction (fun hc => ?_)
  have vk := h.1 k hk
  have all : ∀ p ∈ ps, hb_s p k = 0 → hb_ab L c p k ∧ hb_be L c p k := by
    intro p hp e
    refine ⟨Classical.byContradiction (fun g => hc ⟨p, hp, e, Or.inl g⟩), Classical.byContradiction (fun g => hc ⟨p, hp, e, Or.inr g⟩)⟩
  have zz : ∀ p ∈ ps, hb_s p k = 0 → ∃ z, z ≠ hb_z ∧ hb_dot c z = 0 ∧ hb_dt p z = 0 ∧ (∀ q ∈ ps, hb_s q k = 0 → hb_dt q z ≤ 0) ∧ ∀ q ∈ ps, hb_s q k = 0 → hb_dt q z = 0 → hb_crs (hb_n p) (hb_n q) = hb_z := by
    intro p hp e
    obtain ⟨z, z0, cz, pz, nz, d1, d2, dc, p1, p2, hz⟩ := hb_zdir (ps := ps) h hk e (all p hp e).1 (all p hp e).2
    refine ⟨z, z0, cz, pz, nz, fun q hq eq dq => ?_⟩
    obtain ⟨a1, a2⟩ := hz q hq eq dq
    have f : ∀ x y, hb_dt x y = 0 → hb_dot y (hb_n x) = 0 := by intro x y e; rw [hb_dot_comm]; exact e
    exact hb_both dc (f p d1 p1) (f p d2 p2) (f q d1 a1) (f q d2 a2)
  obtain ⟨p, _, _, hp, _, _, ep, _, _, _⟩ := hb_three vk.2
  obtain ⟨z, z0, cz, pz, nzz, parz⟩ := zz p hp ep
  have ex : ∃ q, q ∈ ps ∧ hb_s q k = 0 ∧ hb_dt q z ≠ 0 := by
    refine Classical.byContradiction (fun hc' => ?_)
    exact z0 (vk.2 z (fun q hq e => Classical.byContradiction (fun g' => hc' ⟨q, hq, e, g'⟩)))
  obtain ⟨q, hq, eq, dq⟩ := ex
  obtain ⟨y, y0, cy, qy, nyy, pary⟩ := zz q hq eq
  have dqz : hb_dt q z < 0 := by have := nzz q hq eq; omega
  have cpq : hb_crs (hb_n p) (hb_n q) ≠ hb_z := fun e => dq (hb_par_dot (nz p hp) e pz)
  have dpy : hb_dt p y < 0 := by
    have a := nyy p hp ep
    have : hb_dt p y ≠ 0 := fun e => cpq (hb_crs_sw _ _ (pary p hp ep e))
    omega
  have ex : ∃ r, r ∈ ps ∧ hb_s r k = 0 ∧ hb_dt r (hb_crs (hb_n p) (hb_n q)) ≠ 0 := by
    refine Classical.byContradiction (fun hc' => ?_)
    exact cpq (vk.2 _ (fun r hr e => Classical.byContradiction (fun g' => hc' ⟨r, hr, e, g'⟩)))
  obtain ⟨r, hr, er, dr⟩ := ex
  obtain ⟨x, x0, cxx, rx, nxx, parx⟩ := zz r hr er
  -- x = (p x / p y) y + (q x / q z) z
  have c0 : c ≠ hb_z := by
    intro e
    obtain ⟨m, _, _, hm⟩ := (all p hp ep).1
    rw [e, hb_dot_comm, hb_dot_z] at hm; omega
  have comb : ∀ b, hb_dt p y * hb_dt q z * hb_dot b x = hb_dt p x * hb_dt q z * hb_dot b y + hb_dt p y * hb_dt q x * hb_dot b z := by
    intro b
    -- three vectors orthogonal to c
    have d0 : hb_det x y z = 0 := by
      have := hb_crs3 (a := x) (b := y) (u := c) (by rw [hb_dot_comm]; exact cxx) (by rw [hb_dot_comm]; exact cy)
      exact hb_par_dot c0 this cz
    have d4 : hb_dot b x * hb_dot (hb_crs y z) (hb_crs (hb_n p) (hb_n q)) - hb_dot b y * hb_dot (hb_crs x z) (hb_crs (hb_n p) (hb_n q)) + hb_dot b z * hb_dot (hb_crs x y) (hb_crs (hb_n p) (hb_n q)) - hb_dot b (hb_crs (hb_n p) (hb_n q)) * hb_det x y z = 0 := by
      have := hb_det4 x y z (hb_crs (hb_n p) (hb_n q)) b
      rw [hb_dot_comm x b, hb_dot_comm y b, hb_dot_comm z b, hb_dot_comm _ b] at this
      exact this
    rw [d0, hb_bc, hb_bc, hb_bc] at d4
    have f : ∀ (s : hb_V4) (t : hb_V3), hb_dot t (hb_n s) = hb_dt s t := fun s t => hb_dot_comm _ _
    simp only [f] at d4
    rw [pz, qy] at d4
    grind
  have sx := comb (hb_n r)
  have e1 : hb_dot (hb_n r) x = 0 := rx
  have e2 : hb_dot (hb_n r) y = hb_dt r y := rfl
  have e3 : hb_dot (hb_n r) z = hb_dt r z := rfl
  rw [e1, e2, e3, Int.mul_zero] at sx
  have px := nxx p hp ep
  have qx := nxx q hq eq
  have ry := nyy r hr er
  have rz := nzz r hr er
  have t1 : 0 ≤ hb_dt p x * hb_dt q z := Int.mul_nonneg_of_nonpos_of_nonpos px (Int.le_of_lt dqz)
  have t2 : 0 ≤ hb_dt p y * hb_dt q x := Int.mul_nonneg_of_nonpos_of_nonpos (Int.le_of_lt dpy) qx
  have t3 := Int.mul_nonpos_of_nonneg_of_nonpos t1 ry
  have t4 := Int.mul_nonpos_of_nonneg_of_nonpos t2 rz
  have t5 : hb_dt p x * hb_dt q z * hb_dt r y = 0 := by omega
  have t6 : hb_dt p y * hb_dt q x * hb_dt r z = 0 := by omega
  have kz : ∀ s ∈ ps, hb_s s k = 0 → hb_crs (hb_n s) (hb_n r) = hb_z → hb_dt s (hb_crs (hb_n p) (hb_n q)) = 0 → False := by
    intro s hs _ hc' hd
    exact dr (hb_par_dot (nz s hs) hc' hd)
  have ry0 : hb_dt r y ≠ 0 := fun e => kz q hq eq (pary r hr er e) (hb_crs_r _ _)
  have rz0 : hb_dt r z ≠ 0 := fun e => kz p hp ep (parz r hr er e) (hb_crs_l _ _)
  have u1 : hb_dt p x * hb_dt q z = 0 := by
    rcases Int.mul_eq_zero.mp t5 with g | g
    · exact g
    · exact absurd g ry0
  have u2 : hb_dt p y * hb_dt q x = 0 := by
    rcases Int.mul_eq_zero.mp t6 with g | g
    · exact g
    · exact absurd g rz0
  refine x0 (hb_all0 (fun b => ?_))
  have := comb b
  rw [u1, u2, Int.zero_mul, Int.zero_mul] at this
  have pp := Int.mul_pos_of_neg_of_neg dpy dqz
  rcases Int.mul_eq_zero.mp this with g | g
  · omega
  · exact g
end
section
/-! sums; Euler's formula -/
def hb_sm : Nat → (Nat → Nat) → Nat
  | 0, _ => 0
  | n + 1, f => hb_sm n f + f n
noncomputable def hb_i (P : Prop) : Nat := @ite Nat P (Classical.propDecidable P) 1 0
theorem hb_i_t {P : Prop} (h : P) : hb_i P = 1 := by
  unfold hb_i
  exact @if_pos P (Classical.propDecidable P) h Nat 1 0
theorem hb_i_f {P : Prop} (h : ¬ P) : hb_i P = 0 := by
  unfold hb_i
  exact @if_neg P (Classical.propDecidable P) h Nat 1 0
theorem hb_i_c {P Q : Prop} (h : P ↔ Q) : hb_i P = hb_i Q := by rw [propext h]
theorem hb_sm_c {n : Nat} {f g : Nat → Nat} (h : ∀ i, i < n → f i = g i) : hb_sm n f = hb_sm n g := by
  induction n with
  | zero => rfl
  | succ n ih =>
    show hb_sm n f + f n = hb_sm n g + g n
    rw [ih (fun i hi => h i (by omega)), h n (by omega)]
theorem hb_sm_add (n : Nat) (f g : Nat → Nat) : hb_sm n (fun i => f i + g i) = hb_sm n f + hb_sm n g := by
  induction n with
  | zero => rfl
  | succ n ih =>
    show hb_sm n (fun i => f i + g i) + (f n + g n) = hb_sm n f + f n + (hb_sm n g + g n)
    rw [ih]; omega
theorem hb_sm_mul (n c : Nat) (f : Nat → Nat) : hb_sm n (fun i => c * f i) = c * hb_sm n f := by
  induction n with
  | zero => rfl
  | succ n ih =>
    show hb_sm n (fun i => c * f i) + c * f n = c * (hb_sm n f + f n)
    rw [ih, Nat.mul_add]
theorem hb_sm_0 {n : Nat} {f : Nat → Nat} (h : ∀ i, i < n → f i = 0) : hb_sm n f = 0 := by
  induction n with
  | zero => rfl
  | succ n ih =>
    show hb_sm n f + f n = 0
    rw [ih (fun i hi => h i (by omega)), h n (by omega)]
theorem hb_sm_le {n : Nat} {f g : Nat → Nat} (h : ∀ i, i < n → f i ≤ g i) : hb_sm n f ≤ hb_sm n g := by
  induction n with
  | zero => exact Nat.le_refl _
  | succ n ih =>
    show hb_sm n f + f n ≤ hb_sm n g + g n
    have := ih (fun i hi => h i (by omega))
    have := h n (by omega)
    omega
theorem hb_sm_k (n c : Nat) : hb_sm n (fun _ => c) = n * c := by
  induction n with
  | zero => rw [Nat.zero_mul]; rfl
  | succ n ih =>
    show hb_sm n (fun _ => c) + c = (n + 1) * c
    rw [ih, Nat.add_mul, Nat.one_mul]
theorem hb_sm_comm (n m : Nat) (f : Nat → Nat → Nat) : hb_sm n (fun i => hb_sm m (fun j => f i j)) = hb_sm m (fun j => hb_sm n (fun i => f i j)) := by
  induction n with
  | zero => exact (hb_sm_0 (fun _ _ => rfl)).symm
  | succ n ih =>
    show hb_sm n (fun i => hb_sm m (fun j => f i j)) + hb_sm m (fun j => f n j) = hb_sm m (fun j => hb_sm n (fun i => f i j) + f n j)
    rw [ih, hb_sm_add]
theorem hb_sm_one {n a : Nat} (h : a < n) : hb_sm n (fun j => hb_i (j = a)) = 1 := by
  induction n with
  | zero => omega
  | succ n ih =>
    show hb_sm n (fun j => hb_i (j = a)) + hb_i (n = a) = 1
    by_cases e : n = a
    · rw [hb_i_t e, hb_sm_0 (fun i hi => hb_i_f (by omega))]
    · rw [hb_i_f e, ih (by omega)]
theorem hb_i_or {P Q : Prop} (h : ¬ (P ∧ Q)) : hb_i (P ∨ Q) = hb_i P + hb_i Q := by
  by_cases p : P
  · by_cases q : Q
    · exact absurd ⟨p, q⟩ h
    · rw [hb_i_t p, hb_i_f q, hb_i_t (Or.inl p)]
  · by_cases q : Q
    · rw [hb_i_f p, hb_i_t q, hb_i_t (Or.inr q)]
    · rw [hb_i_f p, hb_i_f q, hb_i_f (fun e => e.elim p q)]
theorem hb_sm_two {n a b : Nat} {P : Nat → Prop} (ha : a < n) (hb : b < n) (hab : a ≠ b) (pa : P a) (pb : P b) (h : ∀ j, j < n → P j → j = a ∨ j = b) : hb_sm n (fun j => hb_i (P j)) = 2 := by
  have : hb_sm n (fun j => hb_i (P j)) = hb_sm n (fun j => hb_i (j = a) + hb_i (j = b)) := by
    refine hb_sm_c (fun j hj => ?_)
    rw [← hb_i_or (by omega)]
    refine hb_i_c ⟨h j hj, fun e => ?_⟩
    rcases e with e | e
    · rw [e]; exact pa
    · rw [e]; exact pb
  rw [this, hb_sm_add, hb_sm_one ha, hb_sm_one hb]
theorem hb_sm_sym (n : Nat) (f : Nat → Nat → Nat) (hs : ∀ i j, i < n → j < n → f i j = f j i) (h0 : ∀ i, i < n → f i i = 0) : hb_sm n (fun k => hb_sm n (fun l => f k l)) = 2 * hb_sm n (fun k => hb_sm k (fun l => f k l)) := by
  induction n with
  | zero => rfl
  | succ n ih =>
    show hb_sm n (fun k => hb_sm n (fun l => f k l) + f k n) + (hb_sm n (fun l => f n l) + f n n) = 2 * (hb_sm n (fun k => hb_sm k (fun l => f k l)) + hb_sm n (fun l => f n l))
    rw [hb_sm_add, ih (fun i j hi hj => hs i j (by omega) (by omega)) (fun i hi => h0 i (by omega)), h0 n (by omega), hb_sm_c (f := fun k => f k n) (g := fun l => f n l) (fun i hi => hs i n (by omega) (by omega))]
    omega

def hb_at (L : List hb_V4) (i : Nat) : hb_V4 := L.getD i (0, 0, 0, 0)
theorem hb_at_e {L : List hb_V4} {i : Nat} (h : i < L.length) : hb_at L i = L[i] := by
  unfold hb_at
  rw [List.getD_eq_getElem?_getD, List.getElem?_eq_getElem h]; rfl
theorem hb_at_mem {L : List hb_V4} {i : Nat} (h : i < L.length) : hb_at L i ∈ L := by
  rw [hb_at_e h]; exact List.getElem_mem h
theorem hb_mem_at {L : List hb_V4} {v : hb_V4} (h : v ∈ L) : ∃ i, i < L.length ∧ hb_at L i = v := by
  obtain ⟨i, hi, e⟩ := List.mem_iff_getElem.mp h
  exact ⟨i, hi, by rw [hb_at_e hi, e]⟩
theorem hb_at_inj {ps L : List hb_V4} (h : hb_En ps L) {i j : Nat} (hi : i < L.length) (hj : j < L.length) (e : hb_par (hb_at L i) (hb_at L j)) : i = j := by
  have pw := List.pairwise_iff_getElem.mp h.2.1
  rw [hb_at_e hi, hb_at_e hj] at e
  rcases Nat.lt_trichotomy i j with g | g | g
  · exact absurd e (pw i j hi hj g)
  · exact g
  · exact absurd (hb_par_symm e) (pw j i hj hi g)
/-- the same corners lie on p and on q -/
def hb_ss (L : List hb_V4) (p q : hb_V4) : Prop := ∀ k ∈ L, hb_s p k = 0 ↔ hb_s q k = 0
/-- plane i is a face, and no earlier one is the same -/
def hb_Fac (ps L : List hb_V4) (i : Nat) : Prop := hb_fac ps L (hb_at ps i) ∧ ∀ j, j < i → ¬ hb_ss L (hb_at ps i) (hb_at ps j)
theorem hb_ss_sy {L : List hb_V4} {p q : hb_V4} (h : hb_ss L p q) : hb_ss L q p := fun k hk => (h k hk).symm
theorem hb_ss_tr {L : List hb_V4} {p q r : hb_V4} (h : hb_ss L p q) (h' : hb_ss L q r) : hb_ss L p r := fun k hk => (h k hk).trans (h' k hk)
theorem hb_fac_ss {ps L : List hb_V4} (nz : ∀ p ∈ ps, hb_n p ≠ hb_z) {p q : hb_V4} (hp : p ∈ ps) (hq : q ∈ ps) (h : hb_ss L p q) (hf : hb_fac ps L p) : hb_fac ps L q := by
  obtain ⟨⟨k, hk, e⟩, hr⟩ := hf
  refine ⟨⟨k, hk, (h k hk).mp e⟩, fun r mr hc => ?_⟩
  have a := hr q hq (fun k hk e => (h k hk).mp e)
  have b := hr r mr (fun k hk e => hc k hk ((h k hk).mp e))
  exact hb_trans (nz p hp) (hb_crs_sw _ _ a) (hb_crs_sw _ _ b)
theorem hb_rep {ps L : List hb_V4} (nz : ∀ p ∈ ps, hb_n p ≠ hb_z) {p : hb_V4} (hp : p ∈ ps) (hf : hb_fac ps L p) : ∃ j, j < ps.length ∧ hb_Fac ps L j ∧ hb_ss L p (hb_at ps j) := by
  obtain ⟨i, hi, e⟩ := hb_mem_at hp
  obtain ⟨j, ⟨hj, sj⟩, mj⟩ := pk_least (fun j => j < ps.length ∧ hb_ss L p (hb_at ps j)) ⟨i, hi, by rw [e]; exact fun k _ => Iff.rfl⟩
  refine ⟨j, hj, ⟨hb_fac_ss nz hp (hb_at_mem hj) sj hf, fun l hl hs => mj l hl ⟨by omega, hb_ss_tr sj hs⟩⟩, sj⟩
theorem hb_Fac_u {ps L : List hb_V4} {i j : Nat} (hi : hb_Fac ps L i) (hj : hb_Fac ps L j) (h : hb_ss L (hb_at ps i) (hb_at ps j)) : i = j := by
  rcases Nat.lt_trichotomy i j with g | g | g
  · exact absurd (hb_ss_sy h) (hj.2 i g)
  · exact g
  · exact absurd h (hi.2 j g)
/-- two classes of faces: two planes are counted -/
theorem hb_two_pl {ps L : List hb_V4} (nz : ∀ p ∈ ps, hb_n p ≠ hb_z) {P : hb_V4 → Prop} {k : hb_V4} (wk : 0 < hb_w k) (inv : ∀ p q, hb_ss L p q → P p → P q) (on : ∀ p, P p → hb_s p k = 0)
    {q1 q2 : hb_V4} (h1 : q1 ∈ ps) (h2 : q2 ∈ ps) (hc : hb_crs (hb_n q1) (hb_n q2) ≠ hb_z) (f1 : hb_fac ps L q1) (f2 : hb_fac ps L q2) (p1 : P q1) (p2 : P q2)
    (all : ∀ r ∈ ps, hb_fac ps L r → P r → hb_crs (hb_n q1) (hb_n r) = hb_z ∨ hb_crs (hb_n q2) (hb_n r) = hb_z) : hb_sm ps.length (fun i => hb_i (hb_Fac ps L i ∧ P (hb_at ps i))) = 2 := by
  obtain ⟨i1, hi1, F1, s1⟩ := hb_rep nz h1 f1
  obtain ⟨i2, hi2, F2, s2⟩ := hb_rep nz h2 f2
  have same : ∀ q r, q ∈ ps → r ∈ ps → P q → P r → hb_crs (hb_n q) (hb_n r) = hb_z → hb_ss L q r := by
    intro q r hq hr pq pr hz m hm
    exact ⟨fun e => hb_samep (nz q hq) hz wk (on q pq) (on r pr) m e, fun e => hb_samep (nz r hr) (hb_crs_sw _ _ hz) wk (on r pr) (on q pq) m e⟩
  refine hb_sm_two hi1 hi2 (fun e => ?_) ⟨F1, inv _ _ s1 p1⟩ ⟨F2, inv _ _ s2 p2⟩ (fun j hj hp => ?_)
  · rw [e] at s1
    have := hb_ss_tr s1 (hb_ss_sy s2)
    exact hc (f1.2 q2 h2 (fun k hk e => (this k hk).mp e))
  · rcases all _ (hb_at_mem hj) hp.1.1 hp.2 with g | g
    · left
      exact hb_Fac_u hp.1 F1 (hb_ss_tr (hb_ss_sy (same _ _ h1 (hb_at_mem hj) p1 hp.2 g)) s1)
    · right
      exact hb_Fac_u hp.1 F2 (hb_ss_tr (hb_ss_sy (same _ _ h2 (hb_at_mem hj) p2 hp.2 g)) s2)
theorem hb_nb_sy {ps L : List hb_V4} {k l : hb_V4} (h : hb_nb ps L k l) : hb_nb ps L l k :=
  ⟨fun e => h.1 e.symm, fun m hm h1 h2 hc => h.2 m hm h2 h1 (fun p hp e1 e2 => hc p hp e2 e1)⟩
/-- the highest one of some corners -/
theorem hb_hi {L : List hb_V4} (hw : ∀ v ∈ L, 0 < hb_w v) (c : hb_V3) (P : Nat → Prop) : ∀ n, n ≤ L.length → (∃ i, i < n ∧ P i) → ∃ t, t < n ∧ P t ∧ ∀ j, j < n → P j → 0 ≤ hb_dot c (hb_dir (hb_at L j) (hb_at L t)) := by
  intro n
  induction n with
  | zero => intro _ h; obtain ⟨i, hi, _⟩ := h; omega
  | succ n ih =>
    intro hn h
    have tr : ∀ a b d : hb_V4, 0 < hb_w a → 0 < hb_w b → 0 < hb_w d → 0 ≤ hb_dot c (hb_dir a b) → 0 ≤ hb_dot c (hb_dir b d) → 0 ≤ hb_dot c (hb_dir a d) := by
      intro a b d wa wb wd h1 h2
      have e := hb_dir3 b a d c
      rw [hb_dir_neg a b] at e
      have t1 := Int.mul_nonneg (Int.le_of_lt wa) h2
      have t2 := Int.mul_nonneg (Int.le_of_lt wd) h1
      rw [Int.mul_neg] at e
      rcases Int.lt_or_le (hb_dot c (hb_dir a d)) 0 with g | g
      · have := Int.mul_neg_of_pos_of_neg wb g; omega
      · exact g
    have w : ∀ i, i < L.length → 0 < hb_w (hb_at L i) := fun i hi => hw _ (hb_at_mem hi)
    have rf : ∀ v, 0 ≤ hb_dot c (hb_dir v v) := fun v => by rw [hb_par_refl v, hb_dot_z]; exact Int.le_refl _
    by_cases hex : ∃ i, i < n ∧ P i
    · obtain ⟨t, ht, pt, mt⟩ := ih (by omega) hex
      by_cases pn : P n
      · rcases Int.lt_or_le (hb_dot c (hb_dir (hb_at L n) (hb_at L t))) 0 with g | g
        · refine ⟨n, by omega, pn, fun j hj pj => ?_⟩
          by_cases e : j = n
          · rw [e]; exact rf _
          · refine tr _ _ _ (w j (by omega)) (w t (by omega)) (w n (by omega)) (mt j (by omega) pj) ?_
            rw [hb_dir_neg]; omega
        · refine ⟨t, by omega, pt, fun j hj pj => ?_⟩
          by_cases e : j = n
          · rw [e]; exact g
          · exact mt j (by omega) pj
      · refine ⟨t, by omega, pt, fun j hj pj => ?_⟩
        have : j ≠ n := fun e => pn (e ▸ pj)
        exact mt j (by omega) pj
    · obtain ⟨i, hi, pi⟩ := h
      have e : i = n := by
        rcases Nat.lt_or_ge i n with g | g
        · exact absurd ⟨i, g, pi⟩ hex
        · omega
      rw [e] at pi
      refine ⟨n, by omega, pi, fun j hj pj => ?_⟩
      have : j = n := by
        rcases Nat.lt_or_ge j n with g | g
        · exact absurd ⟨j, g, pj⟩ hex
        · omega
      rw [this]; exact rf _
/-- of the corners with P: all but the highest and the lowest one have one above and one below -/
theorem hb_mids {ps L : List hb_V4} (h : hb_En ps L) {c : hb_V3} (gen : ∀ k ∈ L, ∀ l ∈ L, hb_dot c (hb_dir k l) = 0 → hb_par k l) {P : Nat → Prop} {a b : Nat} (ha : a < L.length) (hb : b < L.length) (hab : a ≠ b) (pa : P a) (pb : P b) :
    hb_sm L.length (fun k => hb_i (P k ∧ (∃ m, m < L.length ∧ P m ∧ 0 < hb_dot c (hb_dir (hb_at L k) (hb_at L m))) ∧ (∃ m, m < L.length ∧ P m ∧ hb_dot c (hb_dir (hb_at L k) (hb_at L m)) < 0))) + 2 = hb_sm L.length (fun k => hb_i (P k)) := by
  have hw : ∀ v ∈ L, 0 < hb_w v := fun v hv => (h.1 v hv).1.1
  obtain ⟨t, ht, pt, mt⟩ := hb_hi hw c P L.length (Nat.le_refl _) ⟨a, ha, pa⟩
  obtain ⟨d, hd, pd, md⟩ := hb_hi hw (hb_sc (-1) c) P L.length (Nat.le_refl _) ⟨a, ha, pa⟩
  have md' : ∀ j, j < L.length → P j → hb_dot c (hb_dir (hb_at L j) (hb_at L d)) ≤ 0 := by
    intro j hj pj
    have := md j hj pj
    rw [hb_dot_comm, hb_dot_sc, hb_dot_comm] at this; omega
  have g0 : ∀ i j, i < L.length → j < L.length → hb_dot c (hb_dir (hb_at L i) (hb_at L j)) = 0 → i = j := fun i j hi hj e => hb_at_inj h hi hj (gen _ (hb_at_mem hi) _ (hb_at_mem hj) e)
  have htd : t ≠ d := by
    intro e
    have z : ∀ j, j < L.length → P j → j = t := by
      intro j hj pj
      refine g0 j t hj ht ?_
      have x := mt j hj pj
      have y := md' j hj pj
      rw [← e] at y
      omega
    exact hab ((z a ha pa).trans (z b hb pb).symm)
  have key : ∀ k, k < L.length → hb_i (P k) = hb_i (P k ∧ (∃ m, m < L.length ∧ P m ∧ 0 < hb_dot c (hb_dir (hb_at L k) (hb_at L m))) ∧ (∃ m, m < L.length ∧ P m ∧ hb_dot c (hb_dir (hb_at L k) (hb_at L m)) < 0)) + (hb_i (k = t) + hb_i (k = d)) := by
    intro k hk
    by_cases pk : P k
    · by_cases e1 : k = t
      · have nd : k ≠ d := fun e2 => htd (e1.symm.trans e2)
        rw [hb_i_t pk, hb_i_t e1, hb_i_f nd, hb_i_f]
        intro hh
        obtain ⟨_, ⟨m, hm, pm, cm⟩, _⟩ := hh
        have := mt m hm pm
        rw [hb_dir_neg, ← e1] at this
        omega
      · by_cases e2 : k = d
        · rw [hb_i_t pk, hb_i_f e1, hb_i_t e2, hb_i_f]
          intro hh
          obtain ⟨_, _, ⟨m, hm, pm, cm⟩⟩ := hh
          have := md' m hm pm
          rw [hb_dir_neg, ← e2] at this
          omega
        · rw [hb_i_t pk, hb_i_f e1, hb_i_f e2, hb_i_t]
          refine ⟨pk, ⟨t, ht, pt, ?_⟩, ⟨d, hd, pd, ?_⟩⟩
          · have x := mt k hk pk
            have : hb_dot c (hb_dir (hb_at L k) (hb_at L t)) ≠ 0 := fun e => e1 (g0 k t hk ht e)
            omega
          · have x := md' k hk pk
            have : hb_dot c (hb_dir (hb_at L k) (hb_at L d)) ≠ 0 := fun e => e2 (g0 k d hk hd e)
            omega
    · have n1 : k ≠ t := fun e => pk (by rw [e]; exact pt)
      have n2 : k ≠ d := fun e => pk (by rw [e]; exact pd)
      rw [hb_i_f pk, hb_i_f n1, hb_i_f n2, hb_i_f (fun hh => pk hh.1)]
  rw [hb_sm_c key, hb_sm_add, hb_sm_add, hb_sm_one ht, hb_sm_one hd]
noncomputable def hb_E (ps L : List hb_V4) : Nat := hb_sm L.length (fun k => hb_sm k (fun l => hb_i (hb_nb ps L (hb_at L k) (hb_at L l))))
noncomputable def hb_F (ps L : List hb_V4) : Nat := hb_sm ps.length (fun i => hb_i (hb_Fac ps L i))
theorem hb_E2 (ps L : List hb_V4) : hb_sm L.length (fun k => hb_sm L.length (fun l => hb_i (hb_nb ps L (hb_at L k) (hb_at L l)))) = 2 * hb_E ps L :=
  hb_sm_sym _ (fun k l => hb_i (hb_nb ps L (hb_at L k) (hb_at L l))) (fun _ _ _ _ => hb_i_c ⟨hb_nb_sy, hb_nb_sy⟩) (fun _ _ => hb_i_f (fun e => e.1 rfl))
/-- two neighbours in a face, by index -/
theorem hb_cnt2i {ps L : List hb_V4} (hb : hb_bnd ps) (h : hb_En ps L) {p : hb_V4} {k : Nat} (hp : p ∈ ps) (np : hb_n p ≠ hb_z) (hf : hb_fac ps L p) (hk : k < L.length) (sp : hb_s p (hb_at L k) = 0) :
    ∃ a b, a < L.length ∧ b < L.length ∧ a ≠ b ∧ k ≠ a ∧ (hb_nb ps L (hb_at L k) (hb_at L a) ∧ hb_s p (hb_at L a) = 0) ∧ (hb_nb ps L (hb_at L k) (hb_at L b) ∧ hb_s p (hb_at L b) = 0) ∧ ∀ j, j < L.length → (hb_nb ps L (hb_at L k) (hb_at L j) ∧ hb_s p (hb_at L j) = 0) → j = a ∨ j = b := by
  obtain ⟨l1, m1, l2, m2, hne, n1, s1, n2, s2, all⟩ := hb_cnt2 hb h hp np hf (hb_at_mem hk) sp
  obtain ⟨a, ha, rfl⟩ := hb_mem_at m1
  obtain ⟨b, hb', rfl⟩ := hb_mem_at m2
  refine ⟨a, b, ha, hb', fun e => hne (by rw [e]), fun e => n1.1 (by rw [e]), ⟨n1, s1⟩, ⟨n2, s2⟩, fun j hj hh => ?_⟩
  rcases all _ (hb_at_mem hj) hh.1 hh.2 with g | g
  · left; exact hb_at_inj h hj ha (by rw [g]; exact hb_par_refl _)
  · right; exact hb_at_inj h hj hb' (by rw [g]; exact hb_par_refl _)

/-- Euler: corners and faces are two more than the edges -/
theorem hb_euler {ps L : List hb_V4} (hb : hb_bnd ps) (h : hb_En ps L) (nz : ∀ p ∈ ps, hb_n p ≠ hb_z) (hne : L ≠ []) (d3 : ∀ p ∈ ps, ∃ k ∈ L, hb_s p k ≠ 0) {c : hb_V3} (hc0 : c ≠ hb_z) (gen : ∀ k ∈ L, ∀ l ∈ L, hb_dot c (hb_dir k l) = 0 → hb_par k l) :
    L.length + hb_F ps L = hb_E ps L + 2 := by
  have w : ∀ i, i < L.length → 0 < hb_w (hb_at L i) := fun i hi => (h.1 _ (hb_at_mem hi)).1.1
  -- corners on faces: twice the edges
  have S1 : hb_sm ps.length (fun p => hb_sm L.length (fun k => hb_i (hb_Fac ps L p ∧ hb_s (hb_at ps p) (hb_at L k) = 0))) = 2 * hb_E ps L := by
    have A : hb_sm L.length (fun k => hb_sm L.length (fun l => hb_sm ps.length (fun p => hb_i (hb_nb ps L (hb_at L k) (hb_at L l) ∧ (hb_Fac ps L p ∧ hb_s (hb_at ps p) (hb_at L k) = 0 ∧ hb_s (hb_at ps p) (hb_at L l) = 0))))) = 2 * (2 * hb_E ps L) := by
      rw [← hb_E2, ← hb_sm_mul]
      refine hb_sm_c (fun k hk => ?_)
      rw [← hb_sm_mul]
      refine hb_sm_c (fun l hl => ?_)
      by_cases nb : hb_nb ps L (hb_at L k) (hb_at L l)
      · rw [hb_i_t nb]
        obtain ⟨q1, m1, q2, m2, hcr, ⟨f1, a1, b1⟩, ⟨f2, a2, b2⟩, all⟩ := hb_cnt1 hb h nz d3 (hb_at_mem hk) (hb_at_mem hl) nb
        rw [← hb_two_pl (P := fun p => hb_s p (hb_at L k) = 0 ∧ hb_s p (hb_at L l) = 0) nz (w k hk) (fun p q hs hp => ⟨(hs _ (hb_at_mem hk)).mp hp.1, (hs _ (hb_at_mem hl)).mp hp.2⟩) (fun p hp => hp.1) m1 m2 hcr f1 f2 ⟨a1, b1⟩ ⟨a2, b2⟩ (fun r mr fr hr => all r mr fr hr.1 hr.2)]
        rw [Nat.mul_one]
        exact hb_sm_c (fun p _ => hb_i_c ⟨fun e => e.2, fun e => ⟨nb, e⟩⟩)
      · rw [hb_i_f nb]
        exact hb_sm_0 (fun p _ => hb_i_f (fun e => nb e.1))
    have B : hb_sm L.length (fun k => hb_sm L.length (fun l => hb_sm ps.length (fun p => hb_i (hb_nb ps L (hb_at L k) (hb_at L l) ∧ (hb_Fac ps L p ∧ hb_s (hb_at ps p) (hb_at L k) = 0 ∧ hb_s (hb_at ps p) (hb_at L l) = 0))))) = hb_sm L.length (fun k => hb_sm ps.length (fun p => 2 * hb_i (hb_Fac ps L p ∧ hb_s (hb_at ps p) (hb_at L k) = 0))) := by
      refine hb_sm_c (fun k hk => ?_)
      rw [hb_sm_comm]
      refine hb_sm_c (fun p hp => ?_)
      by_cases F : hb_Fac ps L p ∧ hb_s (hb_at ps p) (hb_at L k) = 0
      · rw [hb_i_t F]
        obtain ⟨a, b, ha, hb', hab, _, na, nb, all⟩ := hb_cnt2i hb h (hb_at_mem hp) (nz _ (hb_at_mem hp)) F.1.1 hk F.2
        rw [Nat.mul_one]
        exact hb_sm_two ha hb' hab ⟨na.1, F.1, F.2, na.2⟩ ⟨nb.1, F.1, F.2, nb.2⟩ (fun j hj hh => all j hj ⟨hh.1, hh.2.2.2⟩)
      · rw [hb_i_f F]
        exact hb_sm_0 (fun l _ => hb_i_f (fun e => F ⟨e.2.1, e.2.2.1⟩))
    rw [B, hb_sm_comm] at A
    have C : hb_sm ps.length (fun p => hb_sm L.length (fun k => 2 * hb_i (hb_Fac ps L p ∧ hb_s (hb_at ps p) (hb_at L k) = 0))) = 2 * hb_sm ps.length (fun p => hb_sm L.length (fun k => hb_i (hb_Fac ps L p ∧ hb_s (hb_at ps p) (hb_at L k) = 0))) := by
      rw [← hb_sm_mul]
      exact hb_sm_c (fun p _ => hb_sm_mul ..)
    rw [C] at A
    omega
  -- middle corners, by faces
  have S2 : hb_sm ps.length (fun p => hb_sm L.length (fun k => hb_i (hb_Fac ps L p ∧ hb_s (hb_at ps p) (hb_at L k) = 0))) = hb_sm ps.length (fun p => hb_sm L.length (fun k => hb_i (hb_Fac ps L p ∧ (hb_s (hb_at ps p) (hb_at L k) = 0 ∧ hb_ab L c (hb_at ps p) (hb_at L k) ∧ hb_be L c (hb_at ps p) (hb_at L k))))) + 2 * hb_F ps L := by
    unfold hb_F
    rw [← hb_sm_mul, ← hb_sm_add]
    refine hb_sm_c (fun p hp => ?_)
    by_cases F : hb_Fac ps L p
    · rw [hb_i_t F]
      obtain ⟨k0, hk0, s0⟩ := F.1.1
      obtain ⟨k, hk, rfl⟩ := hb_mem_at hk0
      obtain ⟨a, b, ha, hb', hab, hka, na, nb, all⟩ := hb_cnt2i hb h (hb_at_mem hp) (nz _ (hb_at_mem hp)) F.1 hk s0
      have := hb_mids h gen (P := fun k => hb_s (hb_at ps p) (hb_at L k) = 0) hk ha hka s0 na.2
      rw [hb_sm_c (g := fun k => hb_i (hb_s (hb_at ps p) (hb_at L k) = 0)) (fun k _ => hb_i_c ⟨fun e => e.2, fun e => ⟨F, e⟩⟩), ← this]
      have e : hb_sm L.length (fun k => hb_i (hb_s (hb_at ps p) (hb_at L k) = 0 ∧ (∃ m, m < L.length ∧ hb_s (hb_at ps p) (hb_at L m) = 0 ∧ 0 < hb_dot c (hb_dir (hb_at L k) (hb_at L m))) ∧ (∃ m, m < L.length ∧ hb_s (hb_at ps p) (hb_at L m) = 0 ∧ hb_dot c (hb_dir (hb_at L k) (hb_at L m)) < 0))) = hb_sm L.length (fun k => hb_i (hb_Fac ps L p ∧ (hb_s (hb_at ps p) (hb_at L k) = 0 ∧ hb_ab L c (hb_at ps p) (hb_at L k) ∧ hb_be L c (hb_at ps p) (hb_at L k)))) := by
        refine hb_sm_c (fun k hk => hb_i_c ⟨fun e => ?_, fun e => ?_⟩)
        · obtain ⟨e1, ⟨m, hm, sm, cm⟩, ⟨m', hm', sm', cm'⟩⟩ := e
          exact ⟨F, e1, ⟨_, hb_at_mem hm, sm, cm⟩, ⟨_, hb_at_mem hm', sm', cm'⟩⟩
        · obtain ⟨_, e1, ⟨m, hm, sm, cm⟩, ⟨m', hm', sm', cm'⟩⟩ := e
          obtain ⟨i, hi, rfl⟩ := hb_mem_at hm
          obtain ⟨j, hj, rfl⟩ := hb_mem_at hm'
          exact ⟨e1, ⟨i, hi, sm, cm⟩, ⟨j, hj, sm', cm'⟩⟩
      rw [e]
    · rw [hb_i_f F, hb_sm_0 (fun k _ => hb_i_f (fun e => F e.1)), hb_sm_0 (fun k _ => hb_i_f (fun e => F e.1))]
  -- middle corners, by corners
  have S3 : hb_sm ps.length (fun p => hb_sm L.length (fun k => hb_i (hb_Fac ps L p ∧ (hb_s (hb_at ps p) (hb_at L k) = 0 ∧ hb_ab L c (hb_at ps p) (hb_at L k) ∧ hb_be L c (hb_at ps p) (hb_at L k))))) + 4 = 2 * L.length := by
    rw [hb_sm_comm]
    -- two corners
    obtain ⟨v, tl, e⟩ := List.exists_cons_of_ne_nil hne
    have mv : v ∈ L := by rw [e]; exact List.mem_cons_self
    obtain ⟨p, _, _, mp, _, _, ep, _, _, _⟩ := hb_three (h.1 v mv).2
    obtain ⟨k0, mk0, sk0⟩ := d3 p mp
    obtain ⟨a, ha, rfl⟩ := hb_mem_at mv
    obtain ⟨b, hb', rfl⟩ := hb_mem_at mk0
    have hab : a ≠ b := fun e => sk0 (by rw [← e]; exact ep)
    have M := hb_mids h gen (P := fun _ => True) ha hb' hab trivial trivial
    have T : hb_sm L.length (fun k => hb_sm ps.length (fun p => hb_i (hb_Fac ps L p ∧ (hb_s (hb_at ps p) (hb_at L k) = 0 ∧ hb_ab L c (hb_at ps p) (hb_at L k) ∧ hb_be L c (hb_at ps p) (hb_at L k))))) = 2 * hb_sm L.length (fun k => hb_i (True ∧ (∃ m, m < L.length ∧ True ∧ 0 < hb_dot c (hb_dir (hb_at L k) (hb_at L m))) ∧ (∃ m, m < L.length ∧ True ∧ hb_dot c (hb_dir (hb_at L k) (hb_at L m)) < 0))) := by
      rw [← hb_sm_mul]
      refine hb_sm_c (fun k hk => ?_)
      by_cases C : (∃ m, m < L.length ∧ True ∧ 0 < hb_dot c (hb_dir (hb_at L k) (hb_at L m))) ∧ (∃ m, m < L.length ∧ True ∧ hb_dot c (hb_dir (hb_at L k) (hb_at L m)) < 0)
      · rw [hb_i_t ⟨trivial, C⟩]
        obtain ⟨⟨m, hm, _, cm⟩, ⟨m', hm', _, cm'⟩⟩ := C
        obtain ⟨q1, m1, q2, m2, hcr, ⟨f1, a1, b1⟩, ⟨f2, a2, b2⟩, all⟩ := hb_cnt4 hb h d3 hc0 gen (hb_at_mem hk) (hb_at_mem hm) (hb_at_mem hm') cm cm'
        exact hb_two_pl (P := fun p => hb_s p (hb_at L k) = 0 ∧ hb_ab L c p (hb_at L k) ∧ hb_be L c p (hb_at L k)) nz (w k hk) (fun p q hs hp => by
          obtain ⟨p1, ⟨x, mx, sx, cx⟩, ⟨y, my, sy, cy⟩⟩ := hp
          exact ⟨(hs _ (hb_at_mem hk)).mp p1, ⟨x, mx, (hs x mx).mp sx, cx⟩, ⟨y, my, (hs y my).mp sy, cy⟩⟩) (fun p hp => hp.1) m1 m2 hcr f1 f2 ⟨a1, b1⟩ ⟨a2, b2⟩ (fun r mr fr hr => all r mr fr hr.1 hr.2.1 hr.2.2)
      · rw [hb_i_f (fun e => C e.2)]
        refine hb_sm_0 (fun p _ => hb_i_f (fun e => C ?_))
        obtain ⟨_, _, ⟨x, mx, sx, cx⟩, ⟨y, my, sy, cy⟩⟩ := e
        obtain ⟨i, hi, rfl⟩ := hb_mem_at mx
        obtain ⟨j, hj, rfl⟩ := hb_mem_at my
        exact ⟨⟨i, hi, trivial, cx⟩, ⟨j, hj, trivial, cy⟩⟩
    rw [hb_sm_c (g := fun _ => 1) (fun k _ => hb_i_t trivial), hb_sm_k] at M
    rw [T]
    omega
  omega
/-- a polygon has as many edges as corners -/
theorem hb_poly {ps L : List hb_V4} (hb : hb_bnd ps) (h : hb_En ps L) {p : hb_V4} (hp : p ∈ ps) (np : hb_n p ≠ hb_z) (hf : hb_fac ps L p) (all : ∀ k ∈ L, hb_s p k = 0) : hb_E ps L = L.length := by
  have := hb_E2 ps L
  have t : hb_sm L.length (fun k => hb_sm L.length (fun l => hb_i (hb_nb ps L (hb_at L k) (hb_at L l)))) = hb_sm L.length (fun _ => 2) := by
    refine hb_sm_c (fun k hk => ?_)
    obtain ⟨a, b, ha, hb', hab, _, na, nb, al⟩ := hb_cnt2i hb h hp np hf hk (all _ (hb_at_mem hk))
    exact hb_sm_two ha hb' hab na.1 nb.1 (fun j hj hh => al j hj ⟨hh, all _ (hb_at_mem hj)⟩)
  rw [t, hb_sm_k] at this
  omega
/-- no more than two corners a plane -/
theorem hb_few {ps L : List hb_V4} (h : hb_En ps L) (nz : ∀ p ∈ ps, hb_n p ≠ hb_z) {c : hb_V3} (gen : ∀ k ∈ L, ∀ l ∈ L, hb_dot c (hb_dir k l) = 0 → hb_par k l) : L.length ≤ 2 * ps.length := by
  have one : ∀ (P : Nat → Prop), (∀ i j, i < L.length → j < L.length → P i → P j → i = j) → hb_sm L.length (fun k => hb_i (P k)) ≤ 1 := by
    intro P hP
    by_cases ex : ∃ i, i < L.length ∧ P i
    · obtain ⟨i, hi, pi⟩ := ex
      rw [← hb_sm_one hi]
      refine hb_sm_le (fun j hj => ?_)
      by_cases pj : P j
      · rw [hb_i_t pj, hb_i_t (hP j i hj hi pj pi)]; exact Nat.le_refl _
      · rw [hb_i_f pj]; exact Nat.zero_le _
    · rw [hb_sm_0 (fun i hi => hb_i_f (fun pi => ex ⟨i, hi, pi⟩))]; exact Nat.zero_le _
  have g0 : ∀ i j, i < L.length → j < L.length → hb_dot c (hb_dir (hb_at L i) (hb_at L j)) = 0 → i = j := fun i j hi hj e => hb_at_inj h hi hj (gen _ (hb_at_mem hi) _ (hb_at_mem hj) e)
  have A : hb_sm L.length (fun _ => 1) ≤ hb_sm L.length (fun k => hb_sm ps.length (fun p => hb_i (hb_s (hb_at ps p) (hb_at L k) = 0 ∧ ¬ hb_ab L c (hb_at ps p) (hb_at L k)) + hb_i (hb_s (hb_at ps p) (hb_at L k) = 0 ∧ ¬ hb_be L c (hb_at ps p) (hb_at L k)))) := by
    refine hb_sm_le (fun k hk => ?_)
    obtain ⟨p, mp, sp, hh⟩ := hb_topbot (c := c) h nz (hb_at_mem hk)
    obtain ⟨i, hi, rfl⟩ := hb_mem_at mp
    rw [← hb_sm_one hi]
    refine hb_sm_le (fun j hj => ?_)
    by_cases e : j = i
    · rw [hb_i_t e, e]
      rcases hh with g | g
      · rw [hb_i_t (P := _ ∧ ¬ hb_ab _ _ _ _) ⟨sp, g⟩]; omega
      · rw [hb_i_t (P := _ ∧ ¬ hb_be _ _ _ _) ⟨sp, g⟩]; omega
    · rw [hb_i_f e]; exact Nat.zero_le _
  rw [hb_sm_k, hb_sm_comm] at A
  have B : hb_sm ps.length (fun p => hb_sm L.length (fun k => hb_i (hb_s (hb_at ps p) (hb_at L k) = 0 ∧ ¬ hb_ab L c (hb_at ps p) (hb_at L k)) + hb_i (hb_s (hb_at ps p) (hb_at L k) = 0 ∧ ¬ hb_be L c (hb_at ps p) (hb_at L k)))) ≤ hb_sm ps.length (fun _ => 2) := by
    refine hb_sm_le (fun p hp => ?_)
    rw [hb_sm_add]
    have t1 := one (fun k => hb_s (hb_at ps p) (hb_at L k) = 0 ∧ ¬ hb_ab L c (hb_at ps p) (hb_at L k)) (fun i j hi hj pi pj => by
      refine g0 i j hi hj ?_
      rcases Int.lt_trichotomy (hb_dot c (hb_dir (hb_at L i) (hb_at L j))) 0 with g | g | g
      · exact absurd ⟨_, hb_at_mem hi, pi.1, by rw [hb_dir_neg]; omega⟩ pj.2
      · exact g
      · exact absurd ⟨_, hb_at_mem hj, pj.1, g⟩ pi.2)
    have t2 := one (fun k => hb_s (hb_at ps p) (hb_at L k) = 0 ∧ ¬ hb_be L c (hb_at ps p) (hb_at L k)) (fun i j hi hj pi pj => by
      refine g0 i j hi hj ?_
      rcases Int.lt_trichotomy (hb_dot c (hb_dir (hb_at L i) (hb_at L j))) 0 with g | g | g
      · exact absurd ⟨_, hb_at_mem hj, pj.1, g⟩ pi.2
      · exact g
      · exact absurd ⟨_, hb_at_mem hi, pi.1, by rw [hb_dir_neg]; omega⟩ pj.2)
    omega
  rw [hb_sm_k] at B
  omega
end
section
/-! dimension by the rank of the common planes; a plane that isn't needed -/
def hb_rk (Q : hb_V4 → Prop) (r : Nat) : Prop :=
  (r = 0 ∧ ∀ p, ¬ Q p) ∨ (r = 1 ∧ ∃ p, Q p ∧ ∀ q, Q q → hb_crs (hb_n p) (hb_n q) = hb_z) ∨
  (r = 2 ∧ ∃ p q, Q p ∧ Q q ∧ hb_crs (hb_n p) (hb_n q) ≠ hb_z ∧ ∀ t, Q t → hb_det (hb_n p) (hb_n q) (hb_n t) = 0) ∨
  (r = 3 ∧ ∃ p q t, Q p ∧ Q q ∧ Q t ∧ hb_det (hb_n p) (hb_n q) (hb_n t) ≠ 0)
/-- three vectors orthogonal to one that isn't zero -/
theorem hb_det_o {a b c e : hb_V3} (he : e ≠ hb_z) (ha : hb_dot e a = 0) (hb : hb_dot e b = 0) (hc : hb_dot e c = 0) : hb_det a b c = 0 :=
  hb_par_dot he (hb_crs3 (by rw [hb_dot_comm]; exact ha) (by rw [hb_dot_comm]; exact hb)) hc
theorem hb_det_par {a b c : hb_V3} (h : hb_crs a b = hb_z) : hb_det a b c = 0 := by
  unfold hb_det
  rw [h, hb_dot_comm, hb_dot_z]
theorem hb_rk_u {Q : hb_V4 → Prop} (nz : ∀ p, Q p → hb_n p ≠ hb_z) {r r' : Nat} (h : hb_rk Q r) (h' : hb_rk Q r') : r = r' := by
  have x01 : (∀ p, ¬ Q p) → (∃ p, Q p ∧ ∀ q, Q q → hb_crs (hb_n p) (hb_n q) = hb_z) → False := by
    intro a b; obtain ⟨p, hp, _⟩ := b; exact a p hp
  have x02 : (∀ p, ¬ Q p) → (∃ p q, Q p ∧ Q q ∧ hb_crs (hb_n p) (hb_n q) ≠ hb_z ∧ ∀ t, Q t → hb_det (hb_n p) (hb_n q) (hb_n t) = 0) → False := by
    intro a b; obtain ⟨p, _, hp, _⟩ := b; exact a p hp
  have x03 : (∀ p, ¬ Q p) → (∃ p q t, Q p ∧ Q q ∧ Q t ∧ hb_det (hb_n p) (hb_n q) (hb_n t) ≠ 0) → False := by
    intro a b; obtain ⟨p, _, _, hp, _⟩ := b; exact a p hp
  have par : ∀ p, Q p → (∀ q, Q q → hb_crs (hb_n p) (hb_n q) = hb_z) → ∀ a b, Q a → Q b → hb_crs (hb_n a) (hb_n b) = hb_z :=
    fun p hp all a b ha hb => hb_trans (nz p hp) (hb_crs_sw _ _ (all a ha)) (hb_crs_sw _ _ (all b hb))
  have x12 : (∃ p, Q p ∧ ∀ q, Q q → hb_crs (hb_n p) (hb_n q) = hb_z) → (∃ p q, Q p ∧ Q q ∧ hb_crs (hb_n p) (hb_n q) ≠ hb_z ∧ ∀ t, Q t → hb_det (hb_n p) (hb_n q) (hb_n t) = 0) → False := by
    intro a b
    obtain ⟨p, hp, all⟩ := a
    obtain ⟨x, y, hx, hy, c, _⟩ := b
    exact c (par p hp all x y hx hy)
  have x13 : (∃ p, Q p ∧ ∀ q, Q q → hb_crs (hb_n p) (hb_n q) = hb_z) → (∃ p q t, Q p ∧ Q q ∧ Q t ∧ hb_det (hb_n p) (hb_n q) (hb_n t) ≠ 0) → False := by
    intro a b
    obtain ⟨p, hp, all⟩ := a
    obtain ⟨x, y, _, hx, hy, _, c⟩ := b
    exact c (hb_det_par (par p hp all x y hx hy))
  have x23 : (∃ p q, Q p ∧ Q q ∧ hb_crs (hb_n p) (hb_n q) ≠ hb_z ∧ ∀ t, Q t → hb_det (hb_n p) (hb_n q) (hb_n t) = 0) → (∃ p q t, Q p ∧ Q q ∧ Q t ∧ hb_det (hb_n p) (hb_n q) (hb_n t) ≠ 0) → False := by
    intro a b
    obtain ⟨p, q, hp, hq, c, all⟩ := a
    obtain ⟨x, y, z, hx, hy, hz, d⟩ := b
    exact d (hb_det_o c (all x hx) (all y hy) (all z hz))
  rcases h with ⟨e, a⟩ | ⟨e, a⟩ | ⟨e, a⟩ | ⟨e, a⟩ <;> rcases h' with ⟨e', a'⟩ | ⟨e', a'⟩ | ⟨e', a'⟩ | ⟨e', a'⟩
  · omega
  · exact absurd (x01 a a') id
  · exact absurd (x02 a a') id
  · exact absurd (x03 a a') id
  · exact absurd (x01 a' a) id
  · omega
  · exact absurd (x12 a a') id
  · exact absurd (x13 a a') id
  · exact absurd (x02 a' a) id
  · exact absurd (x12 a' a) id
  · omega
  · exact absurd (x23 a a') id
  · exact absurd (x03 a' a) id
  · exact absurd (x13 a' a) id
  · exact absurd (x23 a' a) id
  · omega
/-- the planes on which all corners lie -/
def hb_cq (ps L : List hb_V4) (p : hb_V4) : Prop := p ∈ ps ∧ ∀ k ∈ L, hb_s p k = 0
theorem hb_per {p k l : hb_V4} (h1 : hb_s p k = 0) (h2 : hb_s p l = 0) : hb_dot (hb_dir k l) (hb_n p) = 0 := by
  have : hb_dt p (hb_dir k l) = 0 := by rw [hb_dt_dir, h1, h2]; omega
  rw [hb_dot_comm]; exact this
theorem hb_rk1 {ps L : List hb_V4} (h : hb_En ps L) (hl : L.length = 1) : hb_rk (hb_cq ps L) 3 := by
  obtain ⟨v, rfl⟩ := List.length_eq_one_iff.mp hl
  obtain ⟨p, q, r, mp, mq, mr, ep, eq, er, d⟩ := hb_three (h.1 v (List.mem_singleton.mpr rfl)).2
  have f : ∀ x, x ∈ ps → hb_s x v = 0 → hb_cq ps [v] x := fun x mx ex => ⟨mx, fun k hk => by rw [List.mem_singleton.mp hk]; exact ex⟩
  exact Or.inr (Or.inr (Or.inr ⟨rfl, p, q, r, f p mp ep, f q mq eq, f r mr er, d⟩))
theorem hb_two_of {L : List hb_V4} (hl : L.length = 2) : ∃ k l, L = [k, l] := by
  match L, hl with
  | [k, l], _ => exact ⟨k, l, rfl⟩
theorem hb_nb2 {ps : List hb_V4} {k l : hb_V4} (h : hb_En ps [k, l]) : hb_nb ps [k, l] k l := by
  have pw := h.2.1
  rw [List.pairwise_cons] at pw
  refine ⟨fun e => pw.1 l (List.mem_singleton.mpr rfl) (by rw [e]; exact hb_par_refl _), fun m hm m1 m2 => ?_⟩
  rcases List.mem_cons.mp hm with e | e
  · exact absurd e m1
  · exact absurd (List.mem_singleton.mp e) m2
theorem hb_rk2 {ps L : List hb_V4} (hb : hb_bnd ps) (h : hb_En ps L) (nz : ∀ p ∈ ps, hb_n p ≠ hb_z) (hl : L.length = 2) : hb_rk (hb_cq ps L) 2 ∧ hb_E ps L = 1 := by
  obtain ⟨k, l, rfl⟩ := hb_two_of hl
  have nb := hb_nb2 h
  have hk : k ∈ [k, l] := List.mem_cons_self
  have hl' : l ∈ [k, l] := List.mem_cons_of_mem _ List.mem_cons_self
  have e0 : hb_dir k l ≠ hb_z := fun e => nb.1 (hb_En_inj h hk hl' e)
  have f : ∀ x, x ∈ ps → hb_s x k = 0 → hb_s x l = 0 → hb_cq ps [k, l] x := by
    intro x mx e1 e2
    refine ⟨mx, fun m hm => ?_⟩
    rcases List.mem_cons.mp hm with e | e
    · rw [e]; exact e1
    · rw [List.mem_singleton.mp e]; exact e2
  have ex : ∃ a, a ∈ ps ∧ hb_s a k = 0 ∧ hb_s a l = 0 := by
    refine Classical.byContradiction (fun hc => ?_)
    obtain ⟨u, hu, hpu⟩ := @hb_perp (hb_dir k l)
    exact hu (hb_orth0 e0 (hb_edge hb h hk hl' nb u (fun q hq e1 e2 => absurd ⟨q, hq, e1, e2⟩ hc)) hpu)
  obtain ⟨a, ma, ea, ea'⟩ := ex
  have ex2 : ∃ b, b ∈ ps ∧ hb_s b k = 0 ∧ hb_s b l = 0 ∧ hb_dt b (hb_crs (hb_n a) (hb_dir k l)) ≠ 0 := by
    refine Classical.byContradiction (fun hc => ?_)
    have := hb_orth0 e0 (hb_edge hb h hk hl' nb (hb_crs (hb_n a) (hb_dir k l)) (fun q hq e1 e2 => Classical.byContradiction (fun g' => hc ⟨q, hq, e1, e2, g'⟩))) (hb_crs_r _ _)
    exact nz a ma (hb_orth0 e0 this (hb_per ea ea'))
  obtain ⟨b, mb, eb, eb', db⟩ := ex2
  refine ⟨Or.inr (Or.inr (Or.inl ⟨rfl, a, b, f a ma ea ea', f b mb eb eb', fun e => db ?_, fun t ht => ?_⟩)), ?_⟩
  · exact hb_par_dot (nz a ma) e (hb_crs_l _ _)
  · exact hb_det_o e0 (hb_per ea ea') (hb_per eb eb') (hb_per (ht.2 k hk) (ht.2 l hl'))
  · show 0 + 0 + (0 + hb_i (hb_nb ps [k, l] l k)) = 1
    rw [hb_i_t (hb_nb_sy nb)]
theorem hb_rk3n {ps L : List hb_V4} (h : hb_En ps L) (hr : hb_rk (hb_cq ps L) 3) : L.length ≤ 1 := by
  rcases hr with ⟨e, _⟩ | ⟨e, _⟩ | ⟨e, _⟩ | ⟨_, p, q, t, hp, hq, ht, d⟩
  · omega
  · omega
  · omega
  · rcases Nat.lt_or_ge 1 L.length with g | g
    · refine absurd ?_ d
      have e0 : hb_dir (hb_at L 0) (hb_at L 1) ≠ hb_z := fun e => by
        have := hb_at_inj h (i := 0) (j := 1) (by omega) g e
        omega
      have m0 := hb_at_mem (L := L) (i := 0) (by omega)
      have m1 := hb_at_mem (L := L) (i := 1) g
      exact hb_det_o e0 (hb_per (hp.2 _ m0) (hp.2 _ m1)) (hb_per (hq.2 _ m0) (hq.2 _ m1)) (hb_per (ht.2 _ m0) (ht.2 _ m1))
    · exact g
theorem hb_rk2n {ps L : List hb_V4} (h : hb_En ps L) (hr : hb_rk (hb_cq ps L) 2) : L.length ≤ 2 := by
  rcases hr with ⟨e, _⟩ | ⟨e, _⟩ | ⟨_, p, q, hp, hq, c, _⟩ | ⟨e, _⟩
  · omega
  · omega
  · rcases Nat.lt_or_ge 2 L.length with g | g
    · have m0 := hb_at_mem (L := L) (i := 0) (by omega)
      have m1 := hb_at_mem (L := L) (i := 1) (by omega)
      have m2 := hb_at_mem (L := L) (i := 2) g
      have inj : ∀ i j, i < L.length → j < L.length → i ≠ j → ¬ hb_par (hb_at L i) (hb_at L j) := fun i j hi hj hne e => hne (hb_at_inj h hi hj e)
      refine absurd (hb_both c ?_ ?_ ?_ ?_) (hb_col (h.1 _ m0) (h.1 _ m1) (h.1 _ m2) (inj 0 1 (by omega) (by omega) (by omega)) (inj 0 2 (by omega) (by omega) (by omega)) (inj 1 2 (by omega) (by omega) (by omega)))
      · rw [hb_dot_comm]; exact hb_per (hp.2 _ m0) (hp.2 _ m1)
      · rw [hb_dot_comm]; exact hb_per (hq.2 _ m0) (hq.2 _ m1)
      · rw [hb_dot_comm]; exact hb_per (hp.2 _ m0) (hp.2 _ m2)
      · rw [hb_dot_comm]; exact hb_per (hq.2 _ m0) (hq.2 _ m2)
    · exact g
  · omega
theorem hb_rk1E {ps L : List hb_V4} (hb : hb_bnd ps) (h : hb_En ps L) (nz : ∀ p ∈ ps, hb_n p ≠ hb_z) (hne : L ≠ []) (hr : hb_rk (hb_cq ps L) 1) : hb_E ps L = L.length := by
  rcases hr with ⟨e, _⟩ | ⟨_, p, hp, all⟩ | ⟨e, _⟩ | ⟨e, _⟩
  · omega
  · refine hb_poly hb h hp.1 (nz p hp.1) ⟨?_, fun q hq hc => all q ⟨hq, fun k hk => hc k hk (hp.2 k hk)⟩⟩ hp.2
    obtain ⟨v, tl, e⟩ := List.exists_cons_of_ne_nil hne
    have mv : v ∈ L := by rw [e]; exact List.mem_cons_self
    exact ⟨v, mv, hp.2 v mv⟩
  · omega
  · omega
theorem hb_rk0d {ps L : List hb_V4} (hr : hb_rk (hb_cq ps L) 0) : ∀ p ∈ ps, ∃ k ∈ L, hb_s p k ≠ 0 := by
  rcases hr with ⟨_, no⟩ | ⟨e, _⟩ | ⟨e, _⟩ | ⟨e, _⟩
  · intro p hp
    refine Classical.byContradiction (fun hc => no p ⟨hp, fun k hk => Classical.byContradiction (fun g => hc ⟨k, hk, g⟩)⟩)
  · omega
  · omega
  · omega
/-- what the law asks of a body with corners -/
theorem hb_law_dim {ps L : List hb_V4} (hb : hb_bnd ps) (h : hb_En ps L) (nz : ∀ p ∈ ps, hb_n p ≠ hb_z) (hne : L ≠ []) {c : hb_V3} (hc0 : c ≠ hb_z) (gen : ∀ k ∈ L, ∀ l ∈ L, hb_dot c (hb_dir k l) = 0 → hb_par k l) {r : Nat} (hr : hb_rk (hb_cq ps L) r) :
    (r = 0 → L.length + hb_F ps L = hb_E ps L + 2) ∧ (r = 1 → hb_E ps L = L.length) ∧ (r = 2 → L.length = 2 ∧ hb_E ps L = 1) ∧ (r = 3 → L.length = 1) := by
  have pos : 0 < L.length := List.length_pos_iff.mpr hne
  refine ⟨fun e => ?_, fun e => ?_, fun e => ?_, fun e => ?_⟩
  · rw [e] at hr; exact hb_euler hb h nz hne (hb_rk0d hr) hc0 gen
  · rw [e] at hr; exact hb_rk1E hb h nz hne hr
  · rw [e] at hr
    have a := hb_rk2n h hr
    have b : L.length ≠ 1 := fun e1 => by
      have := hb_rk_u (fun p hp => nz p hp.1) hr (hb_rk1 h e1)
      omega
    have t : L.length = 2 := by omega
    exact ⟨t, (hb_rk2 hb h nz t).2⟩
  · rw [e] at hr
    have a := hb_rk3n h hr
    omega

/-! q may be left out: the same corners -/
theorem hb_sub {ps' L : List hb_V4} {q : hb_V4} (hb : hb_bnd ps') (h' : hb_En ps' L) (hq : ∀ v ∈ L, 0 ≤ hb_s q v) {X : hb_V4} (hX : hb_fe ps' X) : 0 ≤ hb_s q X := by
  rcases Int.lt_or_le (hb_s q X) 0 with g | g
  · obtain ⟨v, hv, _, hf⟩ := hb_far hb h' (-q.1, -q.2.1, -q.2.2.1, -q.2.2.2) hX
    have sn : ∀ Y, hb_s (-q.1, -q.2.1, -q.2.2.1, -q.2.2.2) Y = - hb_s q Y := by
      intro Y; simp only [hb_s, hb_w, hb_n, hb_dot]; grind
    rw [sn, sn] at hf
    have t1 := Int.mul_neg_of_neg_of_pos g (h'.1 v hv).1.1
    have t2 := Int.mul_nonneg (hq v hv) (Int.le_of_lt hX.1)
    rw [Int.neg_mul, Int.neg_mul] at hf
    omega
  · exact g
theorem hb_same_nb {ps ps' L : List hb_V4} {q : hb_V4} (hm : ∀ p, p ∈ ps ↔ p ∈ ps' ∨ p = q) (hb : hb_bnd ps') (h' : hb_En ps' L) (hq : ∀ v ∈ L, 0 ≤ hb_s q v) {k l : hb_V4} (hk : k ∈ L) (hl : l ∈ L) : hb_nb ps L k l ↔ hb_nb ps' L k l := by
  constructor
  · intro h
    refine ⟨h.1, fun m mm m1 m2 hc => h.2 m mm m1 m2 (fun p hp e1 e2 => ?_)⟩
    rcases (hm p).mp hp with g | g
    · exact hc p g e1 e2
    · rw [g] at e1 e2 ⊢
      refine Classical.byContradiction (fun hne => ?_)
      -- from between k and l away from m
      have vk := (h'.1 k hk).1
      have vl := (h'.1 l hl).1
      have vm := (h'.1 m mm).1
      have hmid : hb_fe ps' (hb_lc 1 k 1 l) := by
        refine ⟨?_, fun p hp => ?_⟩
        · rw [hb_w_lc]; have := vk.1; have := vl.1; omega
        · rw [hb_s_lc]; have := vk.2 p hp; have := vl.2 p hp; omega
      have tm : ∀ p, hb_s p k = 0 → hb_s p l = 0 → hb_s p (hb_lc 1 k 1 l) = 0 := by
        intro p e1 e2; rw [hb_s_lc, e1, e2]; rfl
      have tmid : ∀ p ∈ ps', hb_s p (hb_lc 1 k 1 l) = 0 → hb_s p k = 0 ∧ hb_s p l = 0 := by
        intro p hp
        rw [hb_s_lc]; have := vk.2 p hp; have := vl.2 p hp; omega
      obtain ⟨M, hM, fX, _⟩ := hb_nudge hmid (u := hb_sc (-1) (hb_dir (hb_lc 1 k 1 l) m)) (fun p hp e => by
        obtain ⟨a1, a2⟩ := tmid p hp e
        rw [hb_dt_sc, hb_dt_dir, e, hc p hp a1 a2]; omega)
      have := hb_sub hb h' hq fX
      rw [hb_s_mv, tm q e1 e2, hb_dt_sc, hb_dt_dir, tm q e1 e2] at this
      have a := hq m mm
      have b := Int.mul_pos hmid.1 (show 0 < hb_s q m by omega)
      omega
  · intro h
    exact ⟨h.1, fun m mm m1 m2 hc => h.2 m mm m1 m2 (fun p hp e1 e2 => hc p ((hm p).mpr (Or.inl hp)) e1 e2)⟩
theorem hb_same_E {ps ps' L : List hb_V4} {q : hb_V4} (hm : ∀ p, p ∈ ps ↔ p ∈ ps' ∨ p = q) (hb : hb_bnd ps') (h' : hb_En ps' L) (hq : ∀ v ∈ L, 0 ≤ hb_s q v) : hb_E ps L = hb_E ps' L := by
  unfold hb_E
  refine hb_sm_c (fun k hk => hb_sm_c (fun l hl => hb_i_c (hb_same_nb hm hb h' hq (hb_at_mem hk) (hb_at_mem (by omega)))))
theorem hb_same_rk {ps ps' L : List hb_V4} {q : hb_V4} (hm : ∀ p, p ∈ ps ↔ p ∈ ps' ∨ p = q) (hb : hb_bnd ps) (hb' : hb_bnd ps') (h : hb_En ps L) (h' : hb_En ps' L) (nz : ∀ p ∈ ps, hb_n p ≠ hb_z) (hne : L ≠ []) {r r' : Nat} (hr : hb_rk (hb_cq ps L) r) (hr' : hb_rk (hb_cq ps' L) r') : r = r' := by
  have mq : q ∈ ps := (hm q).mpr (Or.inr rfl)
  have nz' : ∀ p ∈ ps', hb_n p ≠ hb_z := fun p hp => nz p ((hm p).mpr (Or.inl hp))
  have hq : ∀ v ∈ L, 0 ≤ hb_s q v := fun v hv => (h.1 v hv).1.2 q mq
  have pos : 0 < L.length := List.length_pos_iff.mpr hne
  have u := fun {a b : Nat} (x : hb_rk (hb_cq ps L) a) (y : hb_rk (hb_cq ps L) b) => hb_rk_u (fun p hp => nz p hp.1) x y
  have u' := fun {a b : Nat} (x : hb_rk (hb_cq ps' L) a) (y : hb_rk (hb_cq ps' L) b) => hb_rk_u (fun p hp => nz' p hp.1) x y
  have le3 : ∀ (Q : hb_V4 → Prop) (a : Nat), hb_rk Q a → a ≤ 3 := by
    intro Q a x
    rcases x with ⟨e, _⟩ | ⟨e, _⟩ | ⟨e, _⟩ | ⟨e, _⟩ <;> omega
  by_cases n1 : L.length = 1
  · rw [u hr (hb_rk1 h n1), u' hr' (hb_rk1 h' n1)]
  by_cases n2 : L.length = 2
  · rw [u hr (hb_rk2 hb h nz n2).1, u' hr' (hb_rk2 hb' h' nz' n2).1]
  have a2 : r ≠ 2 := fun e => by rw [e] at hr; have := hb_rk2n h hr; omega
  have a3 : r ≠ 3 := fun e => by rw [e] at hr; have := hb_rk3n h hr; omega
  have b2 : r' ≠ 2 := fun e => by rw [e] at hr'; have := hb_rk2n h' hr'; omega
  have b3 : r' ≠ 3 := fun e => by rw [e] at hr'; have := hb_rk3n h' hr'; omega
  have la := le3 _ r hr
  have lb := le3 _ r' hr'
  have z1 : r = 0 → r' = 0 := by
    intro e
    rw [e] at hr
    rcases hr' with ⟨e', _⟩ | ⟨_, p, hp, _⟩ | ⟨e', _⟩ | ⟨e', _⟩
    · exact e'
    · obtain ⟨k, hk, s⟩ := hb_rk0d hr p ((hm p).mpr (Or.inl hp.1))
      exact absurd (hp.2 k hk) s
    · exact absurd e' b2
    · exact absurd e' b3
  have z2 : r' = 0 → r = 0 := by
    intro e
    rw [e] at hr'
    rcases hr with ⟨e', _⟩ | ⟨_, p, hp, _⟩ | ⟨e', _⟩ | ⟨e', _⟩
    · exact e'
    · have d3 := hb_rk0d hr'
      rcases (hm p).mp hp.1 with g | g
      · obtain ⟨k, hk, s⟩ := d3 p g
        exact absurd (hp.2 k hk) s
      · exfalso
        obtain ⟨y, fy, hy⟩ := hb_cen (ps := ps') L hne (fun v hv => (h'.1 v hv).1)
        have yq : hb_s q y = 0 := by
          obtain ⟨z, fz, hz⟩ := hb_cen (ps := ps) L hne (fun v hv => (h.1 v hv).1)
          -- q holds all corners, so it holds what they span
          have key : ∀ M : List hb_V4, (∀ v ∈ M, v ∈ L) → ∀ v ∈ M, hb_s q v = 0 := fun M hM v hv => by rw [← g]; exact hp.2 v (hM v hv)
          have s1 := hb_sub hb' h' hq fy
          have s2 := hb_sub (q := (-q.1, -q.2.1, -q.2.2.1, -q.2.2.2)) hb' h' (fun v hv => by
            have sn : hb_s (-q.1, -q.2.1, -q.2.2.1, -q.2.2.2) v = - hb_s q v := by simp only [hb_s, hb_w, hb_n, hb_dot]; grind
            rw [sn, key L (fun _ h => h) v hv]; decide) fy
          have sn : hb_s (-q.1, -q.2.1, -q.2.2.1, -q.2.2.2) y = - hb_s q y := by simp only [hb_s, hb_w, hb_n, hb_dot]; grind
          rw [sn] at s2
          omega
        obtain ⟨M, hM, fX, _⟩ := hb_nudge fy (u := hb_n q) (fun p hp e => by
          obtain ⟨k, hk, s⟩ := d3 p hp
          exact absurd ((hy p hp).mp e k hk) s)
        have := hb_sub hb' h' hq fX
        rw [hb_s_mv, yq] at this
        have np := hb_np (nz q mq)
        have e : hb_dt q (hb_n q) = hb_dot (hb_n q) (hb_n q) := rfl
        omega
    · exact absurd e' a2
    · exact absurd e' a3
  omega
/-- two lists of the same vertices are of the same length -/
theorem hb_len_le {A B L M : List hb_V4} (h : hb_En A L) (h' : hb_En B M) (hv : ∀ X, hb_vtx A X → hb_vtx B X) : L.length ≤ M.length := by
  have t1 : hb_sm L.length (fun _ => 1) ≤ hb_sm L.length (fun i => hb_sm M.length (fun j => hb_i (hb_par (hb_at M j) (hb_at L i)))) := by
    refine hb_sm_le (fun i hi => ?_)
    obtain ⟨v, mv, pv⟩ := h'.2.2 _ (hv _ (h.1 _ (hb_at_mem hi)))
    obtain ⟨j, hj, rfl⟩ := hb_mem_at mv
    rw [← hb_sm_one hj]
    refine hb_sm_le (fun x hx => ?_)
    by_cases e : x = j
    · rw [hb_i_t e, e, hb_i_t pv]; exact Nat.le_refl _
    · rw [hb_i_f e]; exact Nat.zero_le _
  rw [hb_sm_comm] at t1
  have t2 : hb_sm M.length (fun j => hb_sm L.length (fun i => hb_i (hb_par (hb_at M j) (hb_at L i)))) ≤ hb_sm M.length (fun _ => 1) := by
    refine hb_sm_le (fun j hj => ?_)
    by_cases ex : ∃ i, i < L.length ∧ hb_par (hb_at M j) (hb_at L i)
    · obtain ⟨i, hi, pi⟩ := ex
      rw [← hb_sm_one hi]
      refine hb_sm_le (fun x hx => ?_)
      by_cases px : hb_par (hb_at M j) (hb_at L x)
      · have : x = i := hb_at_inj h hx hi (hb_par_trans (h'.1 _ (hb_at_mem hj)).1.1 (hb_par_symm px) pi)
        rw [hb_i_t px, hb_i_t this]; exact Nat.le_refl _
      · rw [hb_i_f px]; exact Nat.zero_le _
    · rw [hb_sm_0 (fun i hi => hb_i_f (fun pi => ex ⟨i, hi, pi⟩))]; exact Nat.zero_le _
  rw [hb_sm_k] at t1 t2
  omega
theorem hb_same_vtx {ps ps' L σ : List hb_V4} {q : hb_V4} (hm : ∀ p, p ∈ ps ↔ p ∈ ps' ∨ p = q) (hb : hb_bnd ps') (h' : hb_En ps' L) (hq : ∀ v ∈ L, 0 ≤ hb_s q v) (X : hb_V4) : hb_vtx (ps ++ σ) X ↔ hb_vtx (ps' ++ σ) X := by
  have ma : ∀ p, p ∈ ps' ++ σ → p ∈ ps ++ σ := by
    intro p hp
    rcases List.mem_append.mp hp with g | g
    · exact List.mem_append_left _ ((hm p).mpr (Or.inl g))
    · exact List.mem_append_right _ g
  have mb : ∀ p, p ∈ ps ++ σ → p ∈ ps' ++ σ ∨ p = q := by
    intro p hp
    rcases List.mem_append.mp hp with g | g
    · rcases (hm p).mp g with g | g
      · exact Or.inl (List.mem_append_left _ g)
      · exact Or.inr g
    · exact Or.inl (List.mem_append_right _ g)
  have fe : ∀ Y, hb_fe (ps' ++ σ) Y → 0 ≤ hb_s q Y := fun Y hY => hb_sub hb h' hq ⟨hY.1, fun p hp => hY.2 p (List.mem_append_left _ hp)⟩
  constructor
  · intro h
    have fX : hb_fe (ps' ++ σ) X := ⟨h.1.1, fun p hp => h.1.2 p (ma p hp)⟩
    refine ⟨fX, fun u hu => h.2 u (fun p hp e => ?_)⟩
    rcases mb p hp with g | g
    · exact hu p g e
    · rw [g] at e ⊢
      have kk : ∀ u, hb_ker (ps' ++ σ) X u → hb_dt q u ≤ 0 := by
        intro u hu
        obtain ⟨M, hM, fY, _⟩ := hb_nudge fX (u := u) (fun p hp e => Int.le_of_eq (hu p hp e))
        have := fe _ fY
        rw [hb_s_mv, e] at this
        omega
      have k1 := kk u hu
      have k2 := kk (hb_sc (-1) u) (fun p hp e => by rw [hb_dt_sc, hu p hp e]; rfl)
      rw [hb_dt_sc] at k2
      omega
  · intro h
    refine ⟨⟨h.1.1, fun p hp => ?_⟩, fun u hu => h.2 u (fun p hp e => hu p (ma p hp) e)⟩
    rcases mb p hp with g | g
    · exact h.1.2 p g
    · rw [g]; exact fe X h.1
theorem hb_same_len {ps ps' L σ A B : List hb_V4} {q : hb_V4} (hm : ∀ p, p ∈ ps ↔ p ∈ ps' ∨ p = q) (hb : hb_bnd ps') (h' : hb_En ps' L) (hq : ∀ v ∈ L, 0 ≤ hb_s q v) (hA : hb_En (ps ++ σ) A) (hB : hb_En (ps' ++ σ) B) : A.length = B.length :=
  Nat.le_antisymm (hb_len_le hA hB (fun X => (hb_same_vtx hm hb h' hq X).mp)) (hb_len_le hB hA (fun X => (hb_same_vtx hm hb h' hq X).mpr))
end
section
/-! Int32 and Int64 as images of Int -/
def hb_I (x : Int) : Int32 := Int32.ofInt x
def hb_L (x : Int) : Int64 := Int64.ofInt x
def hb_R (x : Int) : Prop := -2147483648 ≤ x ∧ x ≤ 2147483647
def hb_RL (x : Int) : Prop := -9223372036854775808 ≤ x ∧ x ≤ 9223372036854775807
theorem hb_I_t {x : Int} (h : hb_R x) : (hb_I x).toInt = x := Int32.toInt_ofInt_of_le (by have := h.1; omega) (by have := h.2; omega)
theorem hb_L_t {x : Int} (h : hb_RL x) : (hb_L x).toInt = x := Int64.toInt_ofInt_of_le (by have := h.1; omega) (by have := h.2; omega)
theorem hb_I_L {x : Int} (h : hb_R x) : (hb_I x).toInt64 = hb_L x := by
  unfold hb_L
  rw [← Int64.ofInt_int32ToInt, hb_I_t h]
theorem hb_L_I (x : Int) : (hb_L x).toInt32 = hb_I x := Int64.toInt32_ofInt
theorem hb_L_add (a b : Int) : hb_L a + hb_L b = hb_L (a + b) := (Int64.ofInt_add a b).symm
theorem hb_L_sub (a b : Int) : hb_L a - hb_L b = hb_L (a - b) := (Int64.ofInt_sub a b).symm
theorem hb_L_mul (a b : Int) : hb_L a * hb_L b = hb_L (a * b) := (Int64.ofInt_mul a b).symm
theorem hb_L_neg (a : Int) : - hb_L a = hb_L (-a) := (Int64.ofInt_neg a).symm
theorem hb_I_add (a b : Int) : hb_I a + hb_I b = hb_I (a + b) := (Int32.ofInt_add a b).symm
theorem hb_I_sub (a b : Int) : hb_I a - hb_I b = hb_I (a - b) := (Int32.ofInt_sub a b).symm
theorem hb_I_mul (a b : Int) : hb_I a * hb_I b = hb_I (a * b) := (Int32.ofInt_mul a b).symm
theorem hb_I_neg (a : Int) : - hb_I a = hb_I (-a) := (Int32.ofInt_neg a).symm
theorem hb_L_le {a b : Int} (ha : hb_RL a) (hb : hb_RL b) : hb_L a ≤ hb_L b ↔ a ≤ b := by
  rw [Int64.le_iff_toInt_le, hb_L_t ha, hb_L_t hb]
theorem hb_L_lt {a b : Int} (ha : hb_RL a) (hb : hb_RL b) : hb_L a < hb_L b ↔ a < b := by
  rw [Int64.lt_iff_toInt_lt, hb_L_t ha, hb_L_t hb]
theorem hb_L_eq {a b : Int} (ha : hb_RL a) (hb : hb_RL b) : hb_L a = hb_L b ↔ a = b := by
  rw [← Int64.toInt_inj, hb_L_t ha, hb_L_t hb]
theorem hb_I_le {a b : Int} (ha : hb_R a) (hb : hb_R b) : hb_I a ≤ hb_I b ↔ a ≤ b := by
  rw [Int32.le_iff_toInt_le, hb_I_t ha, hb_I_t hb]
theorem hb_I_lt {a b : Int} (ha : hb_R a) (hb : hb_R b) : hb_I a < hb_I b ↔ a < b := by
  rw [Int32.lt_iff_toInt_lt, hb_I_t ha, hb_I_t hb]
theorem hb_I_eq {a b : Int} (ha : hb_R a) (hb : hb_R b) : hb_I a = hb_I b ↔ a = b := by
  rw [← Int32.toInt_inj, hb_I_t ha, hb_I_t hb]
theorem hb_I_n (n : Nat) : nI n = hb_I n := by
  rw [← Int32.toInt_inj]
  show (Int32.ofNat n).toInt = (Int32.ofInt n).toInt
  rw [Int32.toInt_ofNat', Int32.toInt_ofInt]
theorem hb_L_div {a b : Int} (ha : hb_RL a) (hb : hb_RL b) (h : a ≠ -9223372036854775808) : hb_L a / hb_L b = hb_L (a.tdiv b) := by
  rw [← Int64.toInt_inj, Int64.toInt_div, hb_L_t ha, hb_L_t hb]
  show _ = (Int64.ofInt _).toInt
  rw [Int64.toInt_ofInt]
theorem hb_I_div {a b : Int} (ha : hb_R a) (hb : hb_R b) : hb_I a / hb_I b = hb_I (a.tdiv b) := by
  rw [← Int32.toInt_inj, Int32.toInt_div, hb_I_t ha, hb_I_t hb]
  show _ = (Int32.ofInt _).toInt
  rw [Int32.toInt_ofInt]
theorem hb_byte {x : Int} (h : -128 ≤ x ∧ x ≤ 127) : (hb_I x).toInt8.toInt32 = hb_I x := by
  have k : ∀ j : Fin 256, (hb_I ((j.val : Int) - 128)).toInt8.toInt32 = hb_I ((j.val : Int) - 128) := by decide +kernel
  have e := k ⟨(x + 128).toNat, by omega⟩
  have e2 : (((x + 128).toNat : Nat) : Int) - 128 = x := by omega
  simp only [e2] at e
  exact e
theorem hb_I0 : (0 : Int32) = hb_I 0 := by decide
theorem hb_L0 : (0 : Int64) = hb_L 0 := by decide
theorem hb_R0 : hb_R 0 := by unfold hb_R; omega
theorem hb_RL0 : hb_RL 0 := by unfold hb_RL; omega
theorem hb_R_n {n : Nat} (h : n < 2147483648) : hb_R n := by unfold hb_R; omega
theorem hb_upd {f : Nat → Int32} {k j : Nat} {x : Int32} : upd f k x j = if j = k then x else f j := rfl
theorem hb_updL {f : Nat → Int64} {k j : Nat} {x : Int64} : vp_updL f k x j = if j = k then x else f j := rfl

/-! bits (rows of kit/laws/BITS) -/
def bt (x : Int32) (i : Nat) : Bool := x.toBitVec.getLsbD i
theorem b_ext {x y : Int32} (h : ∀ i, i < 32 → bt x i = bt y i) : x = y := Int32.toBitVec_inj.mp (BitVec.eq_of_getLsbD_eq (fun i hi => h i hi))
theorem b_or (x y : Int32) (i : Nat) : bt (x ||| y) i = (bt x i || bt y i) := by unfold bt; rw [Int32.toBitVec_or, BitVec.getLsbD_or]
theorem b_and (x y : Int32) (i : Nat) : bt (x &&& y) i = (bt x i && bt y i) := by unfold bt; rw [Int32.toBitVec_and, BitVec.getLsbD_and]
theorem b_big {x : Int32} {i : Nat} (h : 32 ≤ i) : bt x i = false := BitVec.getLsbD_of_ge _ _ h
theorem b_m1 : ∀ i, i < 32 → bt (-1) i = true := by decide +kernel
theorem b_0 (i : Nat) : bt 0 i = false := BitVec.getLsbD_zero
theorem s_l : ∀ n, n < 32 → ((nI n &&& 31).toBitVec.smod 32).toNat = n := by decide +kernel
theorem b_shl (n : Nat) (hn : n < 32) (x : Int32) {i : Nat} (hi : i < 32) : bt (x <<< (nI n &&& 31)) i = (decide (n ≤ i) && bt x (i - n)) := by
  unfold bt
  rw [Int32.toBitVec_shiftLeft]
  show (x.toBitVec <<< ((nI n &&& 31).toBitVec.smod 32).toNat).getLsbD i = _
  rw [s_l n hn, BitVec.getLsbD_shiftLeft]
  rcases Nat.lt_or_ge i n with h | h
  · simp [h, Nat.not_le.mpr h]
  · simp [hi, h, Nat.not_lt.mpr h]
theorem b_sshr (n : Nat) (hn : n < 32) (x : Int32) {i : Nat} (hi : i < 32) : bt (x >>> (nI n &&& 31)) i = if n + i < 32 then bt x (n + i) else bt x 31 := by
  unfold bt
  rw [Int32.toBitVec_shiftRight]
  show (x.toBitVec.sshiftRight ((nI n &&& 31).toBitVec.smod 32).toNat).getLsbD i = _
  rw [s_l n hn, BitVec.getLsbD_sshiftRight, BitVec.msb_eq_getLsbD_last]
  simp [hi]
theorem hb_bt1 : ∀ i, i < 32 → bt 1 i = decide (i = 0) := by decide +kernel
/-- bit p of x, as the code reads it -/
theorem hb_bit (x : Int32) {p : Nat} (hp : p < 32) : ((x >>> (nI p &&& 31)) &&& 1) = 0 ↔ bt x p = false := by
  constructor
  · intro h
    have := congrArg (fun y => bt y 0) h
    simp only [b_and, b_sshr p hp x (show 0 < 32 by omega), hb_bt1 0 (by omega), b_0] at this
    simpa [hp] using this
  · intro h
    refine b_ext (fun i hi => ?_)
    rw [b_and, hb_bt1 i hi, b_0, b_sshr p hp x hi]
    by_cases e : i = 0
    · simp [e, hp, h]
    · simp [e]
/-- one bit -/
theorem hb_onebit {p : Nat} (hp : p < 32) {i : Nat} (hi : i < 32) : bt ((1 : Int32) <<< (nI p &&& 31)) i = decide (i = p) := by
  rw [b_shl p hp 1 hi]
  by_cases e : p ≤ i
  · rw [hb_bt1 (i - p) (by omega)]
    by_cases e' : i = p
    · simp [e']
    · have : ¬ i - p = 0 := by omega
      simp [e', this]
  · have : ¬ i = p := by omega
    simp [e, this]
/-- all bits of c are bits of x -/
theorem hb_subset (x c : Int32) : (x &&& c) = c ↔ ∀ i, i < 32 → bt c i = true → bt x i = true := by
  constructor
  · intro h i hi hc
    have := congrArg (fun y => bt y i) h
    simp only [b_and] at this
    rw [hc] at this
    simpa using this
  · intro h
    refine b_ext (fun i hi => ?_)
    rw [b_and]
    by_cases hc : bt c i = true
    · rw [h i hi hc, hc]; rfl
    · simp [hc]
end
section
/-! pictures of the arrays; small methods of the class -/
def hb_PA (a1 a2 a3 a4 : Nat → Int32) (pl : Nat → hb_V4) : Prop := ∀ i, i < 16 → a1 i = hb_I (pl i).1 ∧ a2 i = hb_I (pl i).2.1 ∧ a3 i = hb_I (pl i).2.2.1 ∧ a4 i = hb_I (pl i).2.2.2 ∧ hb_pb (pl i)
/-- a corner's row: its coordinates, and as bits the planes of A on which it lies -/
def hb_rw (pl : Nat → hb_V4) (A : Nat → Prop) (x y z w m : Int32) (v : hb_V4) : Prop := x = hb_I v.1 ∧ y = hb_I v.2.1 ∧ z = hb_I v.2.2.1 ∧ w = hb_I v.2.2.2 ∧ ∀ i, i < 32 → (bt m i = true ↔ A i ∧ hb_s (pl i) v = 0)
def hb_CM (pl : Nat → hb_V4) (A : Nat → Prop) (a5 a6 a7 a8 a9 : Nat → Int32) (L : List hb_V4) : Prop := ∀ k, k < L.length → hb_rw pl A (a5 k) (a6 k) (a7 k) (a8 k) (a9 k) (hb_at L k)
theorem hb_CM_c {pl : Nat → hb_V4} {A A' : Nat → Prop} (h : ∀ i, A i ↔ A' i) {a5 a6 a7 a8 a9 : Nat → Int32} {L : List hb_V4} (hc : hb_CM pl A a5 a6 a7 a8 a9 L) : hb_CM pl A' a5 a6 a7 a8 a9 L := by
  have : A = A' := funext (fun i => propext (h i))
  rw [← this]; exact hc
theorem hb_b38 {x w : Int} (hx : -3840 ≤ x ∧ x ≤ 3840) (hw : 1 ≤ w ∧ w ≤ 384) : -1474560 ≤ x * w ∧ x * w ≤ 1474560 := hb_mb (A := 3840) (B := 384) (by omega) hx (by omega)
theorem hb_R_x {x : Int} (hx : -3840 ≤ x ∧ x ≤ 3840) : hb_R x := by unfold hb_R; omega
theorem hb_R_w {x : Int} (hx : 1 ≤ x ∧ x ≤ 384) : hb_R x := by unfold hb_R; omega
section
variable {cc bu cn mk kk : Int32} {fT fB : Int64} {a1 a2 a3 a4 a5 a6 a7 a8 a9 a10 a11 a12 a13 a14 : Nat → Int32} {a15 : Nat → Int64} {a16 a17 a18 a19 a20 a21 : Nat → Int32}
theorem hb_setPlane {post : St1 → Prop} {p : Nat} {x y z : Int} (hp : p < 16) (hx : -128 ≤ x ∧ x ≤ 127) (hy : -128 ≤ y ∧ y ≤ 127) (hz : -128 ≤ z ∧ z ≤ 127)
    (H : post (cc, bu, cn, mk, kk, fT, fB, upd a1 p (hb_I x), upd a2 p (hb_I y), upd a3 p (hb_I z), a4, a5, a6, a7, a8, a9, a10, a11, a12, a13, a14, a15, a16, a17, a18, a19, a20, a21)) : wpX_setPlane post (cc, bu, cn, mk, kk, fT, fB, a1, a2, a3, a4, a5, a6, a7, a8, a9, a10, a11, a12, a13, a14, a15, a16, a17, a18, a19, a20, a21) (nI p) (hb_I x) (hb_I y) (hb_I z) := by
  unfold wpX_setPlane
  refine ⟨pk_in p 16 hp, nm_r (by rw [nI_clamp (by omega), hb_byte hx]) ⟨pk_in p 16 hp, nm_r (by rw [nI_clamp (by omega), hb_byte hy]) ⟨pk_in p 16 hp, nm_r (by rw [nI_clamp (by omega), hb_byte hz]) H⟩⟩⟩
/-- v comes ahead of l -/
def hb_bf (v l : hb_V4) : Prop := v.1 * l.2.2.2 - l.1 * v.2.2.2 < 0 ∨ (v.1 * l.2.2.2 - l.1 * v.2.2.2 = 0 ∧ (v.2.1 * l.2.2.2 - l.2.1 * v.2.2.2 < 0 ∨ (v.2.1 * l.2.2.2 - l.2.1 * v.2.2.2 = 0 ∧ v.2.2.1 * l.2.2.2 < l.2.2.1 * v.2.2.2)))
theorem hb_isBefore {post : Int32 → Prop} {i j : Nat} {v l : hb_V4} {pl : Nat → hb_V4} {A : Nat → Prop} (hi : i < 64) (hj : j < 64) (ri : hb_rw pl A (a5 i) (a6 i) (a7 i) (a8 i) (a9 i) v) (rj : hb_rw pl A (a5 j) (a6 j) (a7 j) (a8 j) (a9 j) l) (bv : hb_Bd v) (bl : hb_Bd l)
    (H1 : hb_bf v l → post 1) (H0 : ¬ hb_bf v l → post 0) : wpX_isBefore post (cc, bu, cn, mk, kk, fT, fB, a1, a2, a3, a4, a5, a6, a7, a8, a9, a10, a11, a12, a13, a14, a15, a16, a17, a18, a19, a20, a21) (nI i) (nI j) := by
  obtain ⟨x1, x2, x3, x4, _⟩ := ri
  obtain ⟨y1, y2, y3, y4, _⟩ := rj
  obtain ⟨b1, b2, b3, b4⟩ := bv
  obtain ⟨c1, c2, c3, c4⟩ := bl
  have ii : ∀ N, i < N → vp_in (nI i) N → vp_in (nI i) N := fun _ _ h => h
  have pi : vp_in (nI i) 64 := pk_in i 64 hi
  have pj : vp_in (nI j) 64 := pk_in j 64 hj
  have e1 := hb_b38 b1 c4
  have e2 := hb_b38 c1 b4
  have f1 := hb_b38 b2 c4
  have f2 := hb_b38 c2 b4
  have g1 := hb_b38 b3 c4
  have g2 := hb_b38 c3 b4
  have RL : ∀ x : Int, -2949120 ≤ x ∧ x ≤ 2949120 → hb_RL x := by intro x h; unfold hb_RL; omega
  unfold wpX_isBefore
  simp only [nI_clamp (show i < 2 ^ 31 by omega), nI_clamp (show j < 2 ^ 31 by omega), x1, x2, x3, x4, y1, y2, y3, y4, hb_I_L (hb_R_x b1), hb_I_L (hb_R_x b2), hb_I_L (hb_R_x b3), hb_I_L (hb_R_w b4), hb_I_L (hb_R_x c1), hb_I_L (hb_R_x c2), hb_I_L (hb_R_x c3), hb_I_L (hb_R_w c4), hb_L_mul, hb_L_sub, hb_L0]
  refine ⟨pi, pj, pj, pi, nm_e (ek_if (hb_L_eq (RL _ (by omega)) hb_RL0) (fun z1 => ⟨pi, pj, pj, pi, nm_e (ek_if (hb_L_eq (RL _ (by omega)) hb_RL0) (fun z2 => ⟨pi, pj, pj, pi, ek_if (hb_L_le (RL _ (by omega)) (RL _ (by omega))) (fun z3 => H0 ?_) (fun z3 => H1 ?_)⟩) (fun z2 => ek_if (hb_L_le hb_RL0 (RL _ (by omega))) (fun z3 => H0 ?_) (fun z3 => H1 ?_)))⟩) (fun z1 => ek_if (hb_L_le hb_RL0 (RL _ (by omega))) (fun z3 => H0 ?_) (fun z3 => H1 ?_)))⟩
  all_goals unfold hb_bf; omega
theorem hb_swap1 {post : St1 → Prop} {i j : Nat} (hi : i < 64) (hj : j < 64) (H : post (cc, bu, cn, mk, kk, fT, fB, a1, a2, a3, a4, upd (upd a5 i (a5 j)) j (a5 i), a6, a7, a8, a9, a10, a11, a12, a13, a14, a15, a16, a17, a18, a19, a20, a21)) : wpX_swapIn post (cc, bu, cn, mk, kk, fT, fB, a1, a2, a3, a4, a5, a6, a7, a8, a9, a10, a11, a12, a13, a14, a15, a16, a17, a18, a19, a20, a21) (nI i) (nI j) := by
  unfold wpX_swapIn
  rw [nI_clamp (show i < 2 ^ 31 by omega), nI_clamp (show j < 2 ^ 31 by omega)]
  exact ⟨pk_in i 64 hi, nm_e ⟨pk_in j 64 hj, pk_in i 64 hi, nm_e ⟨pk_in j 64 hj, nm_e H⟩⟩⟩
theorem hb_swap2 {post : St1 → Prop} {i j : Nat} (hi : i < 64) (hj : j < 64) (H : post (cc, bu, cn, mk, kk, fT, fB, a1, a2, a3, a4, a5, upd (upd a6 i (a6 j)) j (a6 i), a7, a8, a9, a10, a11, a12, a13, a14, a15, a16, a17, a18, a19, a20, a21)) : wpX_swapIn_2 post (cc, bu, cn, mk, kk, fT, fB, a1, a2, a3, a4, a5, a6, a7, a8, a9, a10, a11, a12, a13, a14, a15, a16, a17, a18, a19, a20, a21) (nI i) (nI j) := by
  unfold wpX_swapIn_2
  rw [nI_clamp (show i < 2 ^ 31 by omega), nI_clamp (show j < 2 ^ 31 by omega)]
  exact ⟨pk_in i 64 hi, nm_e ⟨pk_in j 64 hj, pk_in i 64 hi, nm_e ⟨pk_in j 64 hj, nm_e H⟩⟩⟩
theorem hb_swap3 {post : St1 → Prop} {i j : Nat} (hi : i < 64) (hj : j < 64) (H : post (cc, bu, cn, mk, kk, fT, fB, a1, a2, a3, a4, a5, a6, upd (upd a7 i (a7 j)) j (a7 i), a8, a9, a10, a11, a12, a13, a14, a15, a16, a17, a18, a19, a20, a21)) : wpX_swapIn_3 post (cc, bu, cn, mk, kk, fT, fB, a1, a2, a3, a4, a5, a6, a7, a8, a9, a10, a11, a12, a13, a14, a15, a16, a17, a18, a19, a20, a21) (nI i) (nI j) := by
  unfold wpX_swapIn_3
  rw [nI_clamp (show i < 2 ^ 31 by omega), nI_clamp (show j < 2 ^ 31 by omega)]
  exact ⟨pk_in i 64 hi, nm_e ⟨pk_in j 64 hj, pk_in i 64 hi, nm_e ⟨pk_in j 64 hj, nm_e H⟩⟩⟩
theorem hb_swap4 {post : St1 → Prop} {i j : Nat} (hi : i < 64) (hj : j < 64) (H : post (cc, bu, cn, mk, kk, fT, fB, a1, a2, a3, a4, a5, a6, a7, upd (upd a8 i (a8 j)) j (a8 i), a9, a10, a11, a12, a13, a14, a15, a16, a17, a18, a19, a20, a21)) : wpX_swapIn_4 post (cc, bu, cn, mk, kk, fT, fB, a1, a2, a3, a4, a5, a6, a7, a8, a9, a10, a11, a12, a13, a14, a15, a16, a17, a18, a19, a20, a21) (nI i) (nI j) := by
  unfold wpX_swapIn_4
  rw [nI_clamp (show i < 2 ^ 31 by omega), nI_clamp (show j < 2 ^ 31 by omega)]
  exact ⟨pk_in i 64 hi, nm_e ⟨pk_in j 64 hj, pk_in i 64 hi, nm_e ⟨pk_in j 64 hj, nm_e H⟩⟩⟩
theorem hb_swap5 {post : St1 → Prop} {i j : Nat} (hi : i < 64) (hj : j < 64) (H : post (cc, bu, cn, mk, kk, fT, fB, a1, a2, a3, a4, a5, a6, a7, a8, upd (upd a9 i (a9 j)) j (a9 i), a10, a11, a12, a13, a14, a15, a16, a17, a18, a19, a20, a21)) : wpX_swapIn_5 post (cc, bu, cn, mk, kk, fT, fB, a1, a2, a3, a4, a5, a6, a7, a8, a9, a10, a11, a12, a13, a14, a15, a16, a17, a18, a19, a20, a21) (nI i) (nI j) := by
  unfold wpX_swapIn_5
  rw [nI_clamp (show i < 2 ^ 31 by omega), nI_clamp (show j < 2 ^ 31 by omega)]
  exact ⟨pk_in i 64 hi, nm_e ⟨pk_in j 64 hj, pk_in i 64 hi, nm_e ⟨pk_in j 64 hj, nm_e H⟩⟩⟩
theorem hb_exchange {post : St1 → Prop} {i j : Nat} (hi : i < 64) (hj : j < 64) (H : post (cc, bu, cn, mk, kk, fT, fB, a1, a2, a3, a4, upd (upd a5 i (a5 j)) j (a5 i), upd (upd a6 i (a6 j)) j (a6 i), upd (upd a7 i (a7 j)) j (a7 i), upd (upd a8 i (a8 j)) j (a8 i), upd (upd a9 i (a9 j)) j (a9 i), a10, a11, a12, a13, a14, a15, a16, a17, a18, a19, a20, a21)) : wpX_exchange post (cc, bu, cn, mk, kk, fT, fB, a1, a2, a3, a4, a5, a6, a7, a8, a9, a10, a11, a12, a13, a14, a15, a16, a17, a18, a19, a20, a21) (nI i) (nI j) := by
  unfold wpX_exchange
  exact hb_swap1 hi hj (hb_swap2 hi hj (hb_swap3 hi hj (hb_swap4 hi hj (hb_swap5 hi hj H))))
end
end
section
/-! the sort -/
noncomputable def hb_ins (v : hb_V4) : List hb_V4 → List hb_V4
  | [] => [v]
  | u :: t => if hb_b (hb_bf v u) then u :: hb_ins v t else v :: u :: t
noncomputable def hb_fo (L : List hb_V4) : List hb_V4 := L.foldl (fun t v => hb_ins v t) []
noncomputable def hb_srt (L : List hb_V4) : List hb_V4 := (hb_fo L).reverse
theorem hb_ins_p (v : hb_V4) : ∀ t, (hb_ins v t).Perm (v :: t) := by
  intro t
  induction t with
  | nil => exact List.Perm.refl _
  | cons u t ih =>
    unfold hb_ins
    split
    · exact (List.Perm.cons u ih).trans (List.Perm.swap v u t)
    · exact List.Perm.refl _
theorem hb_fo_s (L : List hb_V4) (v : hb_V4) : hb_fo (L ++ [v]) = hb_ins v (hb_fo L) := by
  unfold hb_fo
  rw [List.foldl_append]; rfl
theorem hb_fo_p (L : List hb_V4) : (hb_fo L).Perm L := by
  have key : ∀ (L t : List hb_V4), (L.foldl (fun t v => hb_ins v t) t).Perm (t ++ L) := by
    intro L
    induction L with
    | nil => intro t; rw [List.append_nil]; exact List.Perm.refl _
    | cons v L ih =>
      intro t
      show (L.foldl (fun t v => hb_ins v t) (hb_ins v t)).Perm (t ++ v :: L)
      refine (ih _).trans ?_
      refine (List.Perm.append_right L (hb_ins_p v t)).trans ?_
      exact List.perm_middle.symm
  exact key L []
theorem hb_srt_p (L : List hb_V4) : (hb_srt L).Perm L := (List.reverse_perm _).trans (hb_fo_p L)
theorem hb_at_q (L : List hb_V4) (k : Nat) : hb_at L k = (L[k]?).getD (0, 0, 0, 0) := List.getD_eq_getElem?_getD ..
theorem hb_at_l {p m : List hb_V4} {k : Nat} (h : k < p.length) : hb_at (p ++ m) k = hb_at p k := by
  rw [hb_at_q, hb_at_q, List.getElem?_append_left h]
theorem hb_at_r {p m : List hb_V4} {k : Nat} (h : p.length ≤ k) : hb_at (p ++ m) k = hb_at m (k - p.length) := by
  rw [hb_at_q, hb_at_q, List.getElem?_append_right h]
theorem hb_at_0 {u : hb_V4} {m : List hb_V4} : hb_at (u :: m) 0 = u := rfl
theorem hb_at_c {u : hb_V4} {m : List hb_V4} {k : Nat} : hb_at (u :: m) (k + 1) = hb_at m k := by
  rw [hb_at_q, hb_at_q, List.getElem?_cons_succ]
theorem hb_at_m {p m : List hb_V4} {u : hb_V4} : hb_at (p ++ u :: m) p.length = u := by
  rw [hb_at_r (Nat.le_refl _), Nat.sub_self]; rfl
theorem hb_at_m1 {p m : List hb_V4} {u v : hb_V4} : hb_at (p ++ u :: v :: m) (p.length + 1) = v := by
  rw [hb_at_r (by omega), show p.length + 1 - p.length = 0 + 1 by omega, hb_at_c]; rfl
theorem hb_at_sw {p m : List hb_V4} {u v : hb_V4} {k : Nat} (h : k ≠ p.length) (h1 : k ≠ p.length + 1) : hb_at (p ++ u :: v :: m) k = hb_at (p ++ v :: u :: m) k := by
  rcases Nat.lt_or_ge k p.length with g | g
  · rw [hb_at_l g, hb_at_l g]
  · obtain ⟨q, rfl⟩ : ∃ q, k = p.length + (q + 2) := ⟨k - p.length - 2, by omega⟩
    rw [hb_at_r (by omega), hb_at_r (by omega), show p.length + (q + 2) - p.length = q + 1 + 1 by omega, hb_at_c, hb_at_c, hb_at_c, hb_at_c]
theorem hb_CM_sw {pl : Nat → hb_V4} {A : Nat → Prop} {a5 a6 a7 a8 a9 : Nat → Int32} {p m : List hb_V4} {u v : hb_V4} {i j : Nat} (hi : i = p.length + 1) (hj : j = p.length) (h : hb_CM pl A a5 a6 a7 a8 a9 (p ++ u :: v :: m)) :
    hb_CM pl A (upd (upd a5 i (a5 j)) j (a5 i)) (upd (upd a6 i (a6 j)) j (a6 i)) (upd (upd a7 i (a7 j)) j (a7 i)) (upd (upd a8 i (a8 j)) j (a8 i)) (upd (upd a9 i (a9 j)) j (a9 i)) (p ++ v :: u :: m) := by
  have len : (p ++ v :: u :: m).length = (p ++ u :: v :: m).length := by simp
  have lj : j < (p ++ u :: v :: m).length := by simp; omega
  have li : i < (p ++ u :: v :: m).length := by simp; omega
  intro k hk
  rw [len] at hk
  by_cases e : k = j
  · rw [e, pk_us, pk_us, pk_us, pk_us, pk_us]
    have := h i li
    rw [hi, hb_at_m1] at this
    rw [hj, hb_at_m, hi]
    exact this
  · rw [pk_un e, pk_un e, pk_un e, pk_un e, pk_un e]
    by_cases e' : k = i
    · rw [e', pk_us, pk_us, pk_us, pk_us, pk_us]
      have := h j lj
      rw [hj, hb_at_m] at this
      rw [hi, hb_at_m1, hj]
      exact this
    · rw [pk_un e', pk_un e', pk_un e', pk_un e', pk_un e', ← hb_at_sw (by omega) (by omega)]
      exact h k hk
section
variable {cc bu cn mk kk : Int32} {fT fB : Int64} {a1 a2 a3 a4 a5 a6 a7 a8 a9 a10 a11 a12 a13 a14 : Nat → Int32} {a15 : Nat → Int64} {a16 a17 a18 a19 a20 a21 : Nat → Int32}
theorem hb_sort12 {post : St1 → Prop} {J : Int32 → Int32 → Int32 → Int32 → Int32 → Int32 → Int64 → Int64 → (Nat → Int32) → (Nat → Int32) → (Nat → Int32) → (Nat → Int32) → (Nat → Int32) → (Nat → Int32) → (Nat → Int32) → (Nat → Int32) → (Nat → Int32) → (Nat → Int32) → (Nat → Int32) → (Nat → Int32) → (Nat → Int32) → (Nat → Int32) → (Nat → Int64) → (Nat → Int32) → (Nat → Int32) → (Nat → Int32) → (Nat → Int32) → (Nat → Int32) → (Nat → Int32) → Prop}
    {k : Nat} {pl : Nat → hb_V4} {A : Nat → Prop} {v : hb_V4} : ∀ (t m : List hb_V4) (a5 a6 a7 a8 a9 : Nat → Int32), (t.reverse ++ v :: m).length ≤ 64 → (∀ x ∈ t.reverse ++ v :: m, hb_Bd x) → hb_CM pl A a5 a6 a7 a8 a9 (t.reverse ++ v :: m) →
    (∀ a5 a6 a7 a8 a9, hb_CM pl A a5 a6 a7 a8 a9 ((hb_ins v t).reverse ++ m) → J (nI (k + 1)) cc bu cn mk kk fT fB a1 a2 a3 a4 a5 a6 a7 a8 a9 a10 a11 a12 a13 a14 a15 a16 a17 a18 a19 a20 a21) → ∃ n, wX_sortCorners_12 post J (nI k) n (nI t.length) cc bu cn mk kk fT fB a1 a2 a3 a4 a5 a6 a7 a8 a9 a10 a11 a12 a13 a14 a15 a16 a17 a18 a19 a20 a21 := by
  intro t
  induction t with
  | nil =>
    intro m a5 a6 a7 a8 a9 hl hb hc H
    exact ⟨1, pk_le 0 0 (fun _ => nm_r (nI_1 k) (H _ _ _ _ _ hc)) (fun z => absurd z (by omega))⟩
  | cons u t ih =>
    intro m a5 a6 a7 a8 a9 hl hb hc H
    have eC : (u :: t).reverse ++ v :: m = t.reverse ++ u :: v :: m := by simp
    rw [eC] at hl hb hc
    have hlen : t.length + 1 < 64 := by simp at hl; omega
    have lu : t.length < (t.reverse ++ u :: v :: m).length := by simp
    have lv : t.length + 1 < (t.reverse ++ u :: v :: m).length := by simp
    have tl : t.reverse.length = t.length := List.length_reverse
    have ru := hc t.length lu
    have rv := hc (t.length + 1) lv
    have au : hb_at (t.reverse ++ u :: v :: m) t.length = u := by have := @hb_at_m t.reverse (v :: m) u; rwa [tl] at this
    have av : hb_at (t.reverse ++ u :: v :: m) (t.length + 1) = v := by have := @hb_at_m1 t.reverse m u v; rwa [tl] at this
    rw [au] at ru
    rw [av] at rv
    have bu' : hb_Bd u := hb u (by simp)
    have bv' : hb_Bd v := hb v (by simp)
    by_cases hbf : hb_bf v u
    · have hi : hb_ins v (u :: t) = u :: hb_ins v t := by
        show (if hb_b (hb_bf v u) then _ else _) = _
        rw [if_pos (hb_b_t.mpr hbf)]
      have H' : ∀ a5 a6 a7 a8 a9, hb_CM pl A a5 a6 a7 a8 a9 ((hb_ins v t).reverse ++ (u :: m)) → J (nI (k + 1)) cc bu cn mk kk fT fB a1 a2 a3 a4 a5 a6 a7 a8 a9 a10 a11 a12 a13 a14 a15 a16 a17 a18 a19 a20 a21 := by
        intro a5 a6 a7 a8 a9 h
        refine H a5 a6 a7 a8 a9 ?_
        rw [hi]
        simpa using h
      have hc' := hb_CM_sw (i := t.length + 1) (j := t.length) (by rw [tl]) (by rw [tl]) hc
      obtain ⟨n, hn⟩ := ih (u :: m) _ _ _ _ _ (by simpa using hl) (fun x hx => hb x (by simp at hx ⊢; rcases hx with h | h | h | h <;> simp [h])) hc' H'
      refine ⟨n + 1, pk_le (t.length + 1) 0 (fun z => absurd z (by omega)) (fun _ => ?_)⟩
      show wpX_isBefore _ _ (nI (t.length + 1)) (nI (t.length + 1) - 1)
      rw [nI_pred]
      refine hb_isBefore hlen (by omega) rv ru bv' bu' (fun _ => br_f (by decide) ?_) (fun h => absurd hbf h)
      show wpX_exchange _ _ (nI (t.length + 1)) (nI (t.length + 1) - 1)
      rw [nI_pred]
      exact hb_exchange hlen (by omega) (nm_r (pk_m1 _) hn)
    · have hi : hb_ins v (u :: t) = v :: u :: t := by
        show (if hb_b (hb_bf v u) then _ else _) = _
        rw [if_neg (fun h => hbf (hb_b_t.mp h))]
      refine ⟨1, pk_le (t.length + 1) 0 (fun z => absurd z (by omega)) (fun _ => ?_)⟩
      show wpX_isBefore _ _ (nI (t.length + 1)) (nI (t.length + 1) - 1)
      rw [nI_pred]
      refine hb_isBefore hlen (by omega) rv ru bv' bu' (fun h => absurd h hbf) (fun _ => br_t rfl (nm_r (nI_1 k) (H _ _ _ _ _ ?_)))
      rw [hi]
      simpa using hc
theorem hb_sort {post : St1 → Prop} {pl : Nat → hb_V4} {A : Nat → Prop} {L : List hb_V4} (hl : L.length ≤ 64) (hb : ∀ x ∈ L, hb_Bd x) (hc : hb_CM pl A a5 a6 a7 a8 a9 L) (hn : cn = nI L.length)
    (H : ∀ a5 a6 a7 a8 a9, hb_CM pl A a5 a6 a7 a8 a9 (hb_srt L) → post (cc, bu, cn, mk, kk, fT, fB, a1, a2, a3, a4, a5, a6, a7, a8, a9, a10, a11, a12, a13, a14, a15, a16, a17, a18, a19, a20, a21)) : wpX_sortCorners post (cc, bu, cn, mk, kk, fT, fB, a1, a2, a3, a4, a5, a6, a7, a8, a9, a10, a11, a12, a13, a14, a15, a16, a17, a18, a19, a20, a21) := by
  unfold wpX_sortCorners
  have len_fo : ∀ k, k ≤ L.length → (hb_fo (L.take k)).length = k := by
    intro k hk
    rw [(hb_fo_p _).length_eq, List.length_take]; omega
  refine pk_loop (σ := (Nat → Int32) × (Nat → Int32) × (Nat → Int32) × (Nat → Int32) × (Nat → Int32)) (fun n i s => wX_sortCorners_2 post n (nI i) cc bu cn mk kk fT fB a1 a2 a3 a4 s.1 s.2.1 s.2.2.1 s.2.2.2.1 s.2.2.2.2 a10 a11 a12 a13 a14 a15 a16 a17 a18 a19 a20 a21) (fun i s => 1 ≤ i ∧ hb_CM pl A s.1 s.2.1 s.2.2.1 s.2.2.2.1 s.2.2.2.2 ((hb_fo (L.take i)).reverse ++ L.drop i)) (max 1 L.length) 1 (a5, a6, a7, a8, a9) (by omega) ?_ ?_ ?_
  · refine ⟨Nat.le_refl _, ?_⟩
    have : (hb_fo (L.take 1)).reverse ++ L.drop 1 = L := by
      cases L with
      | nil => rfl
      | cons a t => rfl
    rw [this]; exact hc
  · intro n s hs
    refine pk_le L.length (max 1 L.length) (fun _ => ?_) (fun z => absurd z (by omega)) hn
    refine H _ _ _ _ _ ?_
    have e1 : L.take (max 1 L.length) = L := List.take_of_length_le (by omega)
    have e2 : L.drop (max 1 L.length) = [] := List.drop_of_length_le (by omega)
    have := hs.2
    rw [e1, e2, List.append_nil] at this
    exact this
  · intro n i s hi hs hw
    have hi' : i < L.length := by have := hs.1; omega
    refine pk_le L.length i (fun z => absurd z (by omega)) (fun _ => ?_) hn
    have ed : L.drop i = L[i] :: L.drop (i + 1) := List.drop_eq_getElem_cons hi'
    have et : L.take (i + 1) = L.take i ++ [L[i]] := (List.take_append_getElem hi').symm
    have hl' := len_fo i (by omega)
    have hc' := hs.2
    rw [ed] at hc'
    obtain ⟨n', hn'⟩ := hb_sort12 (post := post) (J := wX_sortCorners_2 post n) (k := i) (v := L[i]) (hb_fo (L.take i)) (L.drop (i + 1)) s.1 s.2.1 s.2.2.1 s.2.2.2.1 s.2.2.2.2 (by
        rw [← ed, List.length_append, List.length_reverse, hl', List.length_drop]; omega) (fun x hx => hb x (by
        rw [← ed] at hx
        rcases List.mem_append.mp hx with g | g
        · exact List.mem_of_mem_take ((hb_fo_p _).mem_iff.mp (List.mem_reverse.mp g))
        · exact List.mem_of_mem_drop g)) hc' (fun b5 b6 b7 b8 b9 h => hw (b5, b6, b7, b8, b9) ⟨by omega, by rw [et, hb_fo_s]; exact h⟩)
    rw [hl'] at hn'
    exact ⟨n', hn'⟩
end
end
section
/-! neighbours, greatest common divisors, crossings -/
theorem hb_L_n (n : Nat) : lN n = hb_L n := by
  rw [← Int64.toInt_inj]
  show (Int64.ofNat n).toInt = (Int64.ofInt n).toInt
  rw [Int64.toInt_ofNat', Int64.toInt_ofInt]
/-- what the masks say of shared planes -/
theorem hb_cm_bits {pl : Nat → hb_V4} {A : Nat → Prop} {ps : List hb_V4} (hps : ∀ p, p ∈ ps ↔ ∃ i, A i ∧ pl i = p) (hA : ∀ i, A i → i < 32) {mk ml mm : Int32} {k l m : hb_V4}
    (hk : ∀ i, i < 32 → (bt mk i = true ↔ A i ∧ hb_s (pl i) k = 0)) (hl : ∀ i, i < 32 → (bt ml i = true ↔ A i ∧ hb_s (pl i) l = 0)) (hm : ∀ i, i < 32 → (bt mm i = true ↔ A i ∧ hb_s (pl i) m = 0)) :
    (mm &&& (mk &&& ml)) = (mk &&& ml) ↔ hb_cm ps k l m := by
  rw [hb_subset]
  constructor
  · intro h p hp e1 e2
    obtain ⟨i, ai, rfl⟩ := (hps p).mp hp
    have hi := hA i ai
    have := h i hi (by rw [b_and, (hk i hi).mpr ⟨ai, e1⟩, (hl i hi).mpr ⟨ai, e2⟩]; rfl)
    exact ((hm i hi).mp this).2
  · intro h i hi hb
    rw [b_and, Bool.and_eq_true] at hb
    obtain ⟨ai, e1⟩ := (hk i hi).mp hb.1
    obtain ⟨_, e2⟩ := (hl i hi).mp hb.2
    exact (hm i hi).mpr ⟨ai, h (pl i) ((hps _).mpr ⟨i, ai, rfl⟩) e1 e2⟩
section
variable {cc bu cn mk kk : Int32} {fT fB : Int64} {a1 a2 a3 a4 a5 a6 a7 a8 a9 a10 a11 a12 a13 a14 : Nat → Int32} {a15 : Nat → Int64} {a16 a17 a18 a19 a20 a21 : Nat → Int32}
theorem hb_areNb {post : Int32 → Prop} {pl : Nat → hb_V4} {A : Nat → Prop} {L ps : List hb_V4} {k l : Nat} (hn : cn = nI L.length) (hl : L.length ≤ 64) (hk : k < L.length) (hl' : l < L.length) (hc : hb_CM pl A a5 a6 a7 a8 a9 L)
    (hps : ∀ p, p ∈ ps ↔ ∃ i, A i ∧ pl i = p) (hA : ∀ i, A i → i < 32) (inj : ∀ i j, i < L.length → j < L.length → hb_at L i = hb_at L j → i = j) (H1 : hb_nb ps L (hb_at L k) (hb_at L l) → post 1) (H0 : ¬ hb_nb ps L (hb_at L k) (hb_at L l) → post 0) : wpX_areNeighbours post (cc, bu, cn, mk, kk, fT, fB, a1, a2, a3, a4, a5, a6, a7, a8, a9, a10, a11, a12, a13, a14, a15, a16, a17, a18, a19, a20, a21) (nI k) (nI l) := by
  unfold wpX_areNeighbours
  refine pk_eq k l (fun e => H0 (fun h => h.1 (by rw [e]))) (fun hne => ?_)
  refine ⟨pk_in k 64 (by omega), pk_in l 64 (by omega), nm_e ?_⟩
  rw [nI_clamp (show k < 2 ^ 31 by omega), nI_clamp (show l < 2 ^ 31 by omega)]
  refine pk_loop (σ := Unit) (fun n i _ => wX_areNeighbours_24 post (nI k) (nI l) (a9 k &&& a9 l) cc bu cn mk kk fT fB a1 a2 a3 a4 a5 a6 a7 a8 a9 a10 a11 a12 a13 a14 a15 a16 a17 a18 a19 a20 a21 n (nI i)) (fun i _ => ∀ j, j < i → j ≠ k → j ≠ l → ¬ hb_cm ps (hb_at L k) (hb_at L l) (hb_at L j)) L.length 0 () (by omega) (fun j hj => absurd hj (by omega)) ?_ ?_
  · intro n _ h
    refine pk_le L.length L.length (fun _ => H1 ⟨fun e => hne (inj k l hk hl' e), fun m hm m1 m2 => ?_⟩) (fun z => absurd z (by omega)) hn
    obtain ⟨j, hj, rfl⟩ := hb_mem_at hm
    exact h j hj (fun e => m1 (by rw [e])) (fun e => m2 (by rw [e]))
  · intro n i _ hi h hw
    refine pk_le L.length i (fun z => absurd z (by omega)) (fun _ => ?_) hn
    refine pk_eq i k (fun e => nm_r (nI_1 i) (hw () (fun j hj j1 j2 => h j (by omega) j1 j2))) (fun ek => ?_)
    refine pk_eq i l (fun e => nm_r (nI_1 i) (hw () (fun j hj j1 j2 => h j (by omega) j1 j2))) (fun el => ?_)
    refine ⟨pk_in i 64 (by omega), ?_⟩
    rw [nI_clamp (show i < 2 ^ 31 by omega)]
    refine ek_if (hb_cm_bits hps hA (hc k hk).2.2.2.2 (hc l hl').2.2.2.2 (hc i hi).2.2.2.2) (fun hcm => H0 (fun nb => nb.2 (hb_at L i) (hb_at_mem hi) (fun e => ek (inj i k hi hk e)) (fun e => el (inj i l hi hl' e)) hcm)) (fun hcm => nm_r (nI_1 i) (hw () (fun j hj j1 j2 => ?_)))
    by_cases e : j = i
    · rw [e]; exact hcm
    · exact h j (by omega) j1 j2
theorem hb_gcd28 {post : Int64 → Prop} : ∀ (v u : Nat), u < 2 ^ 63 → v < 2 ^ 63 → post (lN (Nat.gcd u v)) → ∃ n, wX_commonDivisor_28 post cc bu cn mk kk fT fB a1 a2 a3 a4 a5 a6 a7 a8 a9 a10 a11 a12 a13 a14 a15 a16 a17 a18 a19 a20 a21 n (lN u) (lN v) := by
  intro v
  induction v using Nat.strongRecOn with
  | _ v ih =>
    intro u hu hv H
    by_cases hz : v = 0
    · rw [hz, Nat.gcd_zero_right] at H
      exact ⟨1, br_t (by rw [hz]; rfl) H⟩
    · have nz : ¬ lN v = 0 := by
        have : (0 : Int64) = lN 0 := rfl
        rw [this, pk_lEQ hv (by omega)]; exact hz
      have hr : u % v < v := Nat.mod_lt _ (by omega)
      obtain ⟨n, hn⟩ := ih (u % v) hr v hv (by omega) (by
        rw [Nat.gcd_comm v, ← Nat.gcd_rec, Nat.gcd_comm v u]; exact H)
      exact ⟨n + 1, br_f nz ⟨nz, nm_r (pk_lRem hu (by omega) hv) hn⟩⟩
theorem hb_gcd {post : Int64 → Prop} {a b : Int} (ha : -9223372036854775808 < a ∧ a ≤ 9223372036854775807) (hb : -9223372036854775808 < b ∧ b ≤ 9223372036854775807) (H : post (hb_L (Int.gcd a b))) : wpX_commonDivisor post (cc, bu, cn, mk, kk, fT, fB, a1, a2, a3, a4, a5, a6, a7, a8, a9, a10, a11, a12, a13, a14, a15, a16, a17, a18, a19, a20, a21) (hb_L a) (hb_L b) := by
  have ra : hb_RL a := by unfold hb_RL; omega
  have rb : hb_RL b := by unfold hb_RL; omega
  have G : ∀ u v : Nat, u = a.natAbs → v = b.natAbs → ∃ n, wX_commonDivisor_28 post cc bu cn mk kk fT fB a1 a2 a3 a4 a5 a6 a7 a8 a9 a10 a11 a12 a13 a14 a15 a16 a17 a18 a19 a20 a21 n (lN u) (lN v) := by
    intro u v hu hv
    refine hb_gcd28 v u (by omega) (by omega) ?_
    rw [hu, hv, hb_L_n]; exact H
  have K : ∀ u : Nat, u = a.natAbs → wX_commonDivisor_12 post (hb_L b) (lN u) cc bu cn mk kk fT fB a1 a2 a3 a4 a5 a6 a7 a8 a9 a10 a11 a12 a13 a14 a15 a16 a17 a18 a19 a20 a21 := by
    intro u hu
    unfold wX_commonDivisor_12
    rw [hb_L0]
    refine ek_if (hb_L_le hb_RL0 rb) (fun z => ?_) (fun z => nm_e ?_)
    · have e : hb_L b = lN b.natAbs := by rw [hb_L_n]; congr 1; omega
      rw [e]; exact G u _ hu rfl
    · have e : - hb_L b = lN b.natAbs := by rw [hb_L_neg, hb_L_n]; congr 1; omega
      rw [e]; exact G u _ hu rfl
  unfold wpX_commonDivisor
  dsimp only
  rw [hb_L0]
  refine ek_if (hb_L_le hb_RL0 ra) (fun z => ?_) (fun z => ?_)
  · have e : hb_L a = lN a.natAbs := by rw [hb_L_n]; congr 1; omega
    rw [e]; exact K _ rfl
  · have e : - hb_L a = lN a.natAbs := by rw [hb_L_neg, hb_L_n]; congr 1; omega
    rw [e]; exact K _ rfl
theorem hb_addMade {post : St1 → Prop} {c : Nat} {x y z w m : Int32} (hc : c < 64) (hm : mk = nI c) (H : post (cc, bu, cn, nI (c + 1), kk, fT, fB, a1, a2, a3, a4, a5, a6, a7, a8, a9, upd a10 c x, upd a11 c y, upd a12 c z, upd a13 c w, upd a14 c m, a15, a16, a17, a18, a19, a20, a21)) : wpX_addMade post (cc, bu, cn, mk, kk, fT, fB, a1, a2, a3, a4, a5, a6, a7, a8, a9, a10, a11, a12, a13, a14, a15, a16, a17, a18, a19, a20, a21) x y z w m := by
  unfold wpX_addMade
  rw [hm]
  have i : vp_in (nI c) 64 := pk_in c 64 hc
  have e := nI_clamp (show c < 2 ^ 31 by omega)
  exact ⟨i, nm_r (by rw [e]) ⟨i, nm_r (by rw [e]) ⟨i, nm_r (by rw [e]) ⟨i, nm_r (by rw [e]) ⟨i, nm_r (by rw [e]) (nm_r (nI_1 c) H)⟩⟩⟩⟩⟩
theorem hb_s_b {p v : hb_V4} (hp : hb_pb p) (hv : hb_Bd v) : -61440 ≤ hb_s p v ∧ hb_s p v ≤ 61440 := by
  obtain ⟨p1, p2, p3, p4⟩ := hp
  obtain ⟨v1, v2, v3, v4⟩ := hv
  have m1 := hb_mb (by omega) p1 v1
  have m2 := hb_mb (by omega) p2 v2
  have m3 := hb_mb (by omega) p3 v3
  have m4 := hb_mb (B := 384) (by omega) p4 (y := v.2.2.2) (by omega)
  simp only [hb_s, hb_w, hb_n, hb_dot]
  omega
theorem hb_distanceTo {post : Int64 → Prop} {pl : Nat → hb_V4} {A : Nat → Prop} {p k : Nat} {v : hb_V4} (hp : p < 16) (hk : k < 64) (hpa : hb_PA a1 a2 a3 a4 pl) (rk : hb_rw pl A (a5 k) (a6 k) (a7 k) (a8 k) (a9 k) v) (bv : hb_Bd v) (H : post (hb_L (hb_s (pl p) v))) : wpX_distanceTo post (cc, bu, cn, mk, kk, fT, fB, a1, a2, a3, a4, a5, a6, a7, a8, a9, a10, a11, a12, a13, a14, a15, a16, a17, a18, a19, a20, a21) (nI p) (nI k) := by
  obtain ⟨x1, x2, x3, x4, _⟩ := rk
  obtain ⟨y1, y2, y3, y4, q1, q2, q3, q4⟩ := hpa p hp
  obtain ⟨b1, b2, b3, b4⟩ := bv
  have pp : vp_in (nI p) 16 := pk_in p 16 hp
  have pk : vp_in (nI k) 64 := pk_in k 64 hk
  have R4 : ∀ x : Int, -4 ≤ x ∧ x ≤ 4 → hb_R x := by intro x h; unfold hb_R; omega
  have R40 : ∀ x : Int, -40 ≤ x ∧ x ≤ 40 → hb_R x := by intro x h; unfold hb_R; omega
  unfold wpX_distanceTo
  simp only [nI_clamp (show p < 2 ^ 31 by omega), nI_clamp (show k < 2 ^ 31 by omega), x1, x2, x3, x4, y1, y2, y3, y4, hb_I_L (hb_R_x b1), hb_I_L (hb_R_x b2), hb_I_L (hb_R_x b3), hb_I_L (hb_R_w b4), hb_I_L (R4 _ q1), hb_I_L (R4 _ q2), hb_I_L (R4 _ q3), hb_I_L (R40 _ q4), hb_L_mul, hb_L_add]
  refine ⟨pp, pk, pp, pk, pp, pk, nm_e ⟨pp, pk, ?_⟩⟩
  rw [hb_L_sub]
  exact H
theorem hb_addCrossing {post : St1 → Prop} {pl : Nat → hb_V4} {A : Nat → Prop} {c i j p : Nat} {k l : hb_V4} (hi : i < 64) (hj : j < 64) (hc : c < 64) (hp : p < 16) (hm : mk = nI c) (ri : hb_rw pl A (a5 i) (a6 i) (a7 i) (a8 i) (a9 i) k) (rj : hb_rw pl A (a5 j) (a6 j) (a7 j) (a8 j) (a9 j) l) (bk : hb_Bd k) (bl : hb_Bd l) (pb : hb_pb (pl p))
    (ei : a15 i = hb_L (hb_s (pl p) k)) (ej : a15 j = hb_L (hb_s (pl p) l)) (hw : 0 < hb_w (hb_lc (-(hb_s (pl p) l)) k (hb_s (pl p) k) l))
    (H : post (cc, bu, cn, nI (c + 1), kk, fT, fB, a1, a2, a3, a4, a5, a6, a7, a8, a9, upd a10 c (hb_I (hb_cross (pl p) k l).1), upd a11 c (hb_I (hb_cross (pl p) k l).2.1), upd a12 c (hb_I (hb_cross (pl p) k l).2.2.1), upd a13 c (hb_I (hb_cross (pl p) k l).2.2.2), upd a14 c ((a9 i &&& a9 j) ||| ((1 : Int32) <<< (nI p &&& 31))), a15, a16, a17, a18, a19, a20, a21)) : wpX_addCrossing post (cc, bu, cn, mk, kk, fT, fB, a1, a2, a3, a4, a5, a6, a7, a8, a9, a10, a11, a12, a13, a14, a15, a16, a17, a18, a19, a20, a21) (nI i) (nI j) (nI p) := by
  obtain ⟨x1, x2, x3, x4, _⟩ := ri
  obtain ⟨y1, y2, y3, y4, _⟩ := rj
  have sk := hb_s_b pb bk
  have sl := hb_s_b pb bl
  obtain ⟨b1, b2, b3, b4⟩ := bk
  obtain ⟨c1, c2, c3, c4⟩ := bl
  have pi : vp_in (nI i) 64 := pk_in i 64 hi
  have pj : vp_in (nI j) 64 := pk_in j 64 hj
  have g0 := hb_g4_pos hw
  obtain ⟨d1, d2, d3, d4⟩ := hb_g4_dvd (hb_lc (-(hb_s (pl p) l)) k (hb_s (pl p) k) l)
  have bnd : ∀ f g x y : Int, -61440 ≤ f ∧ f ≤ 61440 → -61440 ≤ g ∧ g ≤ 61440 → -3840 ≤ x ∧ x ≤ 3840 → -3840 ≤ y ∧ y ≤ 3840 → -471859200 ≤ f * x + g * y ∧ f * x + g * y ≤ 471859200 := by
    intro f g x y hf hg hx hy
    have := hb_mb (by omega) hf hx
    have := hb_mb (by omega) hg hy
    omega
  have z1 := bnd (-(hb_s (pl p) l)) (hb_s (pl p) k) k.1 l.1 (by omega) sk b1 c1
  have z2 := bnd (-(hb_s (pl p) l)) (hb_s (pl p) k) k.2.1 l.2.1 (by omega) sk b2 c2
  have z3 := bnd (-(hb_s (pl p) l)) (hb_s (pl p) k) k.2.2.1 l.2.2.1 (by omega) sk b3 c3
  have z4 := bnd (-(hb_s (pl p) l)) (hb_s (pl p) k) k.2.2.2 l.2.2.2 (by omega) sk (by omega) (by omega)
  have gle : hb_g4 (hb_lc (-(hb_s (pl p) l)) k (hb_s (pl p) k) l) ≤ 471859200 := by
    have hw' : 0 < -(hb_s (pl p) l) * k.2.2.2 + hb_s (pl p) k * l.2.2.2 := hw
    have := Int.le_of_dvd hw' d4
    omega
  have quo : ∀ x : Int, -471859200 ≤ x ∧ x ≤ 471859200 → hb_g4 (hb_lc (-(hb_s (pl p) l)) k (hb_s (pl p) k) l) ∣ x → (hb_L x / hb_L (hb_g4 (hb_lc (-(hb_s (pl p) l)) k (hb_s (pl p) k) l))).toInt32 = hb_I (x / hb_g4 (hb_lc (-(hb_s (pl p) l)) k (hb_s (pl p) k) l)) := by
    intro x hx hd
    rw [hb_L_div (by unfold hb_RL; omega) (by unfold hb_RL; omega) (by omega), hb_L_I, Int.tdiv_eq_ediv_of_dvd hd]
  unfold wpX_addCrossing
  simp only [nI_clamp (show i < 2 ^ 31 by omega), nI_clamp (show j < 2 ^ 31 by omega), x1, x2, x3, x4, y1, y2, y3, y4, ei, ej, hb_I_L (hb_R_x b1), hb_I_L (hb_R_x b2), hb_I_L (hb_R_x b3), hb_I_L (hb_R_w b4), hb_I_L (hb_R_x c1), hb_I_L (hb_R_x c2), hb_I_L (hb_R_x c3), hb_I_L (hb_R_w c4), hb_L_neg]
  refine ⟨pj, nm_e ⟨pi, nm_e ⟨pi, pj, nm_r (by rw [hb_L_mul, hb_L_mul, hb_L_add]) ⟨pi, pj, nm_r (by rw [hb_L_mul, hb_L_mul, hb_L_add]) ⟨pi, pj, nm_r (by rw [hb_L_mul, hb_L_mul, hb_L_add]) ⟨pi, pj, nm_r (by rw [hb_L_mul, hb_L_mul, hb_L_add]) ?_⟩⟩⟩⟩⟩⟩
  have gb : ∀ a b : Int, -471859200 ≤ a ∧ a ≤ 471859200 → -471859200 ≤ b ∧ b ≤ 471859200 → -471859200 ≤ ((Int.gcd a b : Nat) : Int) ∧ ((Int.gcd a b : Nat) : Int) ≤ 471859200 := by
    intro a b ha hb
    have h : Int.gcd a b ≤ a.natAbs ∨ a = 0 := by
      by_cases e : a = 0
      · exact Or.inr e
      · exact Or.inl (Nat.le_of_dvd (by omega) (Int.gcd_dvd_natAbs_left a b))
    rcases h with h | h
    · omega
    · rw [h, Int.gcd_zero_left]; omega
  have G1 := gb _ _ z1 z2
  have G2 := gb _ _ G1 z3
  refine hb_gcd (by omega) (by omega) (hb_gcd (by omega) (by omega) (hb_gcd (by omega) (by omega) ?_))
  have e4 : ((Int.gcd (Int.gcd (Int.gcd (-(hb_s (pl p) l) * k.1 + hb_s (pl p) k * l.1) (-(hb_s (pl p) l) * k.2.1 + hb_s (pl p) k * l.2.1) : Int) (-(hb_s (pl p) l) * k.2.2.1 + hb_s (pl p) k * l.2.2.1) : Int) (-(hb_s (pl p) l) * k.2.2.2 + hb_s (pl p) k * l.2.2.2) : Nat) : Int) = hb_g4 (hb_lc (-(hb_s (pl p) l)) k (hb_s (pl p) k) l) := rfl
  rw [e4]
  have nz : ¬ hb_L (hb_g4 (hb_lc (-(hb_s (pl p) l)) k (hb_s (pl p) k) l)) = hb_L 0 := by
    rw [hb_L_eq (by unfold hb_RL; omega) hb_RL0]; omega
  rw [quo _ z1 d1, quo _ z2 d2, quo _ z3 d3, quo _ z4 d4]
  exact ⟨nz, nz, nz, nz, pi, pj, hb_addMade hc hm H⟩
end
end
section
/-! applyPlane -/
theorem hb_CM_0 {pl : Nat → hb_V4} {A : Nat → Prop} {a5 a6 a7 a8 a9 : Nat → Int32} : hb_CM pl A a5 a6 a7 a8 a9 [] := fun k hk => absurd hk (Nat.not_lt_zero k)
theorem hb_CM_add {pl : Nat → hb_V4} {A : Nat → Prop} {a5 a6 a7 a8 a9 : Nat → Int32} {K : List hb_V4} {x y z w m : Int32} {v : hb_V4} (h : hb_CM pl A a5 a6 a7 a8 a9 K) (hr : hb_rw pl A x y z w m v) : hb_CM pl A (upd a5 K.length x) (upd a6 K.length y) (upd a7 K.length z) (upd a8 K.length w) (upd a9 K.length m) (K ++ [v]) := by
  intro k hk
  rw [List.length_append, List.length_singleton] at hk
  by_cases e : k = K.length
  · rw [e, pk_us, pk_us, pk_us, pk_us, pk_us, hb_at_m]; exact hr
  · rw [pk_un e, pk_un e, pk_un e, pk_un e, pk_un e, hb_at_l (by omega)]
    exact h k (by omega)
theorem hb_kept_app (p : hb_V4) (M N : List hb_V4) : hb_kept p (M ++ N) = hb_kept p M ++ hb_kept p N := List.filter_append ..
theorem hb_kept_y {p v : hb_V4} (h : 0 ≤ hb_s p v) : hb_kept p [v] = [v] := by
  unfold hb_kept
  rw [List.filter_cons_of_pos (by simpa using h)]; rfl
theorem hb_kept_n {p v : hb_V4} (h : ¬ 0 ≤ hb_s p v) : hb_kept p [v] = [] := by
  unfold hb_kept
  rw [List.filter_cons_of_neg (by simpa using h)]; rfl
theorem hb_row_app (ps L : List hb_V4) (p k : hb_V4) (M N : List hb_V4) : hb_row ps L p k (M ++ N) = hb_row ps L p k M ++ hb_row ps L p k N := List.filterMap_append ..
theorem hb_row_y {ps L : List hb_V4} {p k l : hb_V4} (h : 0 < hb_s p k ∧ hb_s p l < 0 ∧ hb_nb ps L k l) : hb_row ps L p k [l] = [hb_cross p k l] := by
  unfold hb_row
  simp only [List.filterMap_cons, List.filterMap_nil, if_pos (hb_b_t.mpr h)]
theorem hb_row_n {ps L : List hb_V4} {p k l : hb_V4} (h : ¬ (0 < hb_s p k ∧ hb_s p l < 0 ∧ hb_nb ps L k l)) : hb_row ps L p k [l] = [] := by
  unfold hb_row
  have h' : ¬ hb_b (0 < hb_s p k ∧ hb_s p l < 0 ∧ hb_nb ps L k l) = true := fun e => h (hb_b_t.mp e)
  simp only [List.filterMap_cons, List.filterMap_nil, if_neg h']
theorem hb_xs_app (ps L : List hb_V4) (p : hb_V4) (M N : List hb_V4) : hb_xs ps L p (M ++ N) = hb_xs ps L p M ++ hb_xs ps L p N := List.flatMap_append ..
theorem hb_xs_1 (ps L : List hb_V4) (p k : hb_V4) : hb_xs ps L p [k] = hb_row ps L p k L := by
  unfold hb_xs
  simp
/-- the row of a kept corner -/
theorem hb_rw_keep {pl : Nat → hb_V4} {A : Nat → Prop} {x y z w m b : Int32} {v : hb_V4} {p : Nat} (h : hb_rw pl A x y z w m v) (hb : ∀ i, i < 32 → (bt b i = true ↔ i = p ∧ hb_s (pl p) v = 0)) : hb_rw pl (fun i => A i ∨ i = p) x y z w (m ||| b) v := by
  obtain ⟨h1, h2, h3, h4, h5⟩ := h
  refine ⟨h1, h2, h3, h4, fun i hi => ?_⟩
  rw [b_or, Bool.or_eq_true, h5 i hi, hb i hi]
  constructor
  · intro e
    rcases e with e | e
    · exact ⟨Or.inl e.1, e.2⟩
    · rw [e.1]; exact ⟨Or.inr rfl, e.2⟩
  · intro e
    rcases e.1 with g | g
    · exact Or.inl ⟨g, e.2⟩
    · rw [g] at e; exact Or.inr ⟨g, e.2⟩
theorem hb_rw_cross {pl : Nat → hb_V4} {A : Nat → Prop} {ps : List hb_V4} (hps : ∀ p, p ∈ ps ↔ ∃ i, A i ∧ pl i = p) {mk ml : Int32} {k l : hb_V4} {p : Nat} (hp : p < 32) (fk : hb_fe ps k) (fl : hb_fe ps l) (h1 : 0 < hb_s (pl p) k) (h2 : hb_s (pl p) l < 0)
    (hk : ∀ i, i < 32 → (bt mk i = true ↔ A i ∧ hb_s (pl i) k = 0)) (hl : ∀ i, i < 32 → (bt ml i = true ↔ A i ∧ hb_s (pl i) l = 0)) : hb_rw pl (fun i => A i ∨ i = p) (hb_I (hb_cross (pl p) k l).1) (hb_I (hb_cross (pl p) k l).2.1) (hb_I (hb_cross (pl p) k l).2.2.1) (hb_I (hb_cross (pl p) k l).2.2.2) ((mk &&& ml) ||| ((1 : Int32) <<< (nI p &&& 31))) (hb_cross (pl p) k l) := by
  refine ⟨rfl, rfl, rfl, rfl, fun i hi => ?_⟩
  have w1 := hb_x_w fk fl h1 h2
  have sp : hb_s (pl p) (hb_cross (pl p) k l) = 0 := by
    refine (hb_par_ti (hb_red_w w1) w1 hb_red_par).mpr ?_
    rw [hb_x_s]; grind
  have sq : ∀ q ∈ ps, hb_s q (hb_cross (pl p) k l) = 0 ↔ hb_s q k = 0 ∧ hb_s q l = 0 := fun q hq => (hb_par_ti (hb_red_w w1) w1 hb_red_par).trans (hb_x_ti fk fl h1 h2 hq)
  rw [b_or, Bool.or_eq_true, b_and, Bool.and_eq_true, hk i hi, hl i hi, hb_onebit hp hi, decide_eq_true_eq]
  constructor
  · intro e
    rcases e with e | e
    · exact ⟨Or.inl e.1.1, (sq _ ((hps _).mpr ⟨i, e.1.1, rfl⟩)).mpr ⟨e.1.2, e.2.2⟩⟩
    · rw [e]; exact ⟨Or.inr rfl, sp⟩
  · intro e
    rcases e.1 with g | g
    · have := (sq _ ((hps _).mpr ⟨i, g, rfl⟩)).mp e.2
      exact Or.inl ⟨⟨g, this.1⟩, ⟨g, this.2⟩⟩
    · exact Or.inr g
abbrev hb_F5 : Type := (Nat → Int32) × (Nat → Int32) × (Nat → Int32) × (Nat → Int32) × (Nat → Int32)
section
variable {cc bu cn mk kk : Int32} {fT fB : Int64} {a1 a2 a3 a4 a5 a6 a7 a8 a9 a10 a11 a12 a13 a14 : Nat → Int32} {a15 : Nat → Int64} {a16 a17 a18 a19 a20 a21 : Nat → Int32}
/-- the made corners are copied -/
theorem hb_ap177 {post : St1 → Prop} {pl : Nat → hb_V4} {A : Nat → Prop} {K : List hb_V4} (hK : K.length ≤ 64) (hm : mk = nI K.length) (hc : hb_CM pl A a10 a11 a12 a13 a14 K) (H : ∀ a5 a6 a7 a8 a9, hb_CM pl A a5 a6 a7 a8 a9 K → post (cc, bu, cn, mk, kk, fT, fB, a1, a2, a3, a4, a5, a6, a7, a8, a9, a10, a11, a12, a13, a14, a15, a16, a17, a18, a19, a20, a21)) : ∃ n, wX_applyPlane_177 post cc bu cn mk kk fT fB n 0 a1 a2 a3 a4 a5 a6 a7 a8 a9 a10 a11 a12 a13 a14 a15 a16 a17 a18 a19 a20 a21 := by
  refine pk_loop (σ := hb_F5) (fun n i s => wX_applyPlane_177 post cc bu cn mk kk fT fB n (nI i) a1 a2 a3 a4 s.1 s.2.1 s.2.2.1 s.2.2.2.1 s.2.2.2.2 a10 a11 a12 a13 a14 a15 a16 a17 a18 a19 a20 a21) (fun i s => ∀ j, j < i → s.1 j = a10 j ∧ s.2.1 j = a11 j ∧ s.2.2.1 j = a12 j ∧ s.2.2.2.1 j = a13 j ∧ s.2.2.2.2 j = a14 j) K.length 0 (a5, a6, a7, a8, a9) (by omega) (fun j hj => absurd hj (by omega)) ?_ ?_
  · intro n s h
    refine pk_le K.length K.length (fun _ => H _ _ _ _ _ (fun k hk => ?_)) (fun z => absurd z (by omega)) hm
    obtain ⟨e1, e2, e3, e4, e5⟩ := h k hk
    rw [e1, e2, e3, e4, e5]; exact hc k hk
  · intro n i s hi h hw
    have ii : vp_in (nI i) 64 := pk_in i 64 (by omega)
    have ei := nI_clamp (show i < 2 ^ 31 by omega)
    refine pk_le K.length i (fun z => absurd z (by omega)) (fun _ => ?_) hm
    refine ⟨ii, ii, nm_r (by rw [ei]) ⟨ii, ii, nm_r (by rw [ei]) ⟨ii, ii, nm_r (by rw [ei]) ⟨ii, ii, nm_r (by rw [ei]) ⟨ii, ii, nm_r (by rw [ei]) (nm_r (nI_1 i) (hw (_, _, _, _, _) (fun j hj => ?_)))⟩⟩⟩⟩⟩
    by_cases e : j = i
    · subst e
      exact ⟨pk_us, pk_us, pk_us, pk_us, pk_us⟩
    · have := h j (by omega)
      exact ⟨(pk_un e).trans this.1, (pk_un e).trans this.2.1, (pk_un e).trans this.2.2.1, (pk_un e).trans this.2.2.2.1, (pk_un e).trans this.2.2.2.2⟩
theorem hb_apply {post : St1 → Prop} {pl : Nat → hb_V4} {A : Nat → Prop} {L ps : List hb_V4} {p : Nat} (hp : p < 16) (hpa : hb_PA a1 a2 a3 a4 pl) (hn : cn = nI L.length) (hl : L.length ≤ 64) (hc : hb_CM pl A a5 a6 a7 a8 a9 L) (hA : ∀ i, A i → i < 32) (hps : ∀ q, q ∈ ps ↔ ∃ i, A i ∧ pl i = q) (hE : hb_En ps L) (hB : ∀ v ∈ L, hb_Bd v) (hl' : (hb_app ps L (pl p)).length ≤ 64)
    (H : ∀ a5 a6 a7 a8 a9 a10 a11 a12 a13 a14 a15, hb_CM pl (fun i => A i ∨ i = p) a5 a6 a7 a8 a9 (hb_app ps L (pl p)) → post (cc, bu, nI (hb_app ps L (pl p)).length, nI (hb_app ps L (pl p)).length, kk, fT, fB, a1, a2, a3, a4, a5, a6, a7, a8, a9, a10, a11, a12, a13, a14, a15, a16, a17, a18, a19, a20, a21)) : wpX_applyPlane post (cc, bu, cn, mk, kk, fT, fB, a1, a2, a3, a4, a5, a6, a7, a8, a9, a10, a11, a12, a13, a14, a15, a16, a17, a18, a19, a20, a21) (nI p) := by
  unfold wpX_applyPlane
  have inj : ∀ i j, i < L.length → j < L.length → hb_at L i = hb_at L j → i = j := fun i j hi hj e => hb_at_inj hE hi hj (by rw [e]; exact hb_par_refl _)
  have pb : hb_pb (pl p) := (hpa p hp).2.2.2.2
  have sb : ∀ j, j < L.length → hb_RL (hb_s (pl p) (hb_at L j)) := fun j hj => by have := hb_s_b pb (hB _ (hb_at_mem hj)); unfold hb_RL; omega
  have tk : ∀ i (hi : i < L.length), L.take (i + 1) = L.take i ++ [hb_at L i] := fun i hi => by rw [hb_at_e hi]; exact (List.take_append_getElem hi).symm
  have dr : ∀ i (hi : i < L.length), L = L.take i ++ ([hb_at L i] ++ L.drop (i + 1)) := fun i hi => by
    rw [← List.append_assoc, ← tk i hi, List.take_append_drop]
  have kl : ∀ i, (hb_kept (pl p) (L.take i)).length ≤ (hb_kept (pl p) L).length := fun i => by
    have : hb_kept (pl p) L = hb_kept (pl p) (L.take i) ++ hb_kept (pl p) (L.drop i) := by rw [← hb_kept_app, List.take_append_drop]
    rw [this, List.length_append]; omega
  have al : (hb_kept (pl p) L).length ≤ (hb_app ps L (pl p)).length := by unfold hb_app; rw [List.length_append]; omega
  refine pk_loop (σ := hb_F5 × (Nat → Int64)) (fun n i s => wX_applyPlane_7 post (nI p) n (nI i) cc bu cn (nI (hb_kept (pl p) (L.take i)).length) kk fT fB a1 a2 a3 a4 a5 a6 a7 a8 a9 s.1.1 s.1.2.1 s.1.2.2.1 s.1.2.2.2.1 s.1.2.2.2.2 s.2 a16 a17 a18 a19 a20 a21)
    (fun i s => hb_CM pl (fun i => A i ∨ i = p) s.1.1 s.1.2.1 s.1.2.2.1 s.1.2.2.2.1 s.1.2.2.2.2 (hb_kept (pl p) (L.take i)) ∧ ∀ j, j < i → s.2 j = hb_L (hb_s (pl p) (hb_at L j))) L.length 0 ((a10, a11, a12, a13, a14), a15) (by omega) ⟨hb_CM_0, fun j hj => absurd hj (by omega)⟩ ?_ ?_
  · -- the crossings
    intro n s hs
    refine pk_le L.length L.length (fun _ => ?_) (fun z => absurd z (by omega)) hn
    obtain ⟨hs1, hs2⟩ := hs
    rw [List.take_length] at hs1 ⊢
    obtain ⟨s1, b15⟩ := s
    dsimp only at hs1 hs2 ⊢
    have base : hb_kept (pl p) L ++ hb_xs ps L (pl p) (L.take 0) = hb_kept (pl p) L := by
      rw [List.take_zero]; show _ ++ [] = _; rw [List.append_nil]
    have goal0 : ∃ n, wX_applyPlane_99 post (nI p) n (nI 0) cc bu cn (nI (hb_kept (pl p) L ++ hb_xs ps L (pl p) (L.take 0)).length) kk fT fB a1 a2 a3 a4 a5 a6 a7 a8 a9 s1.1 s1.2.1 s1.2.2.1 s1.2.2.2.1 s1.2.2.2.2 b15 a16 a17 a18 a19 a20 a21 := by
      refine pk_loop (σ := hb_F5) (fun n i s => wX_applyPlane_99 post (nI p) n (nI i) cc bu cn (nI (hb_kept (pl p) L ++ hb_xs ps L (pl p) (L.take i)).length) kk fT fB a1 a2 a3 a4 a5 a6 a7 a8 a9 s.1 s.2.1 s.2.2.1 s.2.2.2.1 s.2.2.2.2 b15 a16 a17 a18 a19 a20 a21)
        (fun i s => hb_CM pl (fun i => A i ∨ i = p) s.1 s.2.1 s.2.2.1 s.2.2.2.1 s.2.2.2.2 (hb_kept (pl p) L ++ hb_xs ps L (pl p) (L.take i))) L.length 0 s1 (by omega) (by rw [base]; exact hs1) ?_ ?_
      · intro n s h
        refine pk_le L.length L.length (fun _ => ?_) (fun z => absurd z (by omega)) hn
        have h' : hb_CM pl (fun i => A i ∨ i = p) s.1 s.2.1 s.2.2.1 s.2.2.2.1 s.2.2.2.2 (hb_app ps L (pl p)) := by
          have := h; rw [List.take_length] at this; exact this
        rw [List.take_length]
        exact hb_ap177 hl' rfl h' (fun b5 b6 b7 b8 b9 hb => H b5 b6 b7 b8 b9 _ _ _ _ _ _ hb)
      · intro n i s hi h hw
        refine pk_le L.length i (fun z => absurd z (by omega)) (fun _ => ?_) hn
        have ii : vp_in (nI i) 64 := pk_in i 64 (by omega)
        have ei := nI_clamp (show i < 2 ^ 31 by omega)
        have base1 : hb_kept (pl p) L ++ hb_xs ps L (pl p) (L.take i) ++ hb_row ps L (pl p) (hb_at L i) (L.take 0) = hb_kept (pl p) L ++ hb_xs ps L (pl p) (L.take i) := by
          rw [List.take_zero]; show _ ++ [] = _; rw [List.append_nil]
        have goal1 : ∃ n', wX_applyPlane_109 post (wX_applyPlane_99 post (nI p) n) (nI p) (nI i) n' (nI 0) cc bu cn (nI (hb_kept (pl p) L ++ hb_xs ps L (pl p) (L.take i) ++ hb_row ps L (pl p) (hb_at L i) (L.take 0)).length) kk fT fB a1 a2 a3 a4 a5 a6 a7 a8 a9 s.1 s.2.1 s.2.2.1 s.2.2.2.1 s.2.2.2.2 b15 a16 a17 a18 a19 a20 a21 := by
          refine pk_loop (σ := hb_F5) (fun n' j s => wX_applyPlane_109 post (wX_applyPlane_99 post (nI p) n) (nI p) (nI i) n' (nI j) cc bu cn (nI (hb_kept (pl p) L ++ hb_xs ps L (pl p) (L.take i) ++ hb_row ps L (pl p) (hb_at L i) (L.take j)).length) kk fT fB a1 a2 a3 a4 a5 a6 a7 a8 a9 s.1 s.2.1 s.2.2.1 s.2.2.2.1 s.2.2.2.2 b15 a16 a17 a18 a19 a20 a21)
            (fun j s => hb_CM pl (fun i => A i ∨ i = p) s.1 s.2.1 s.2.2.1 s.2.2.2.1 s.2.2.2.2 (hb_kept (pl p) L ++ hb_xs ps L (pl p) (L.take i) ++ hb_row ps L (pl p) (hb_at L i) (L.take j))) L.length 0 s (by omega) (by rw [base1]; exact h) ?_ ?_
          · intro n' s h
            refine pk_le L.length L.length (fun _ => nm_r (nI_1 i) ?_) (fun z => absurd z (by omega)) hn
            have e : hb_kept (pl p) L ++ hb_xs ps L (pl p) (L.take i) ++ hb_row ps L (pl p) (hb_at L i) (L.take L.length) = hb_kept (pl p) L ++ hb_xs ps L (pl p) (L.take (i + 1)) := by
              rw [List.take_length, tk i hi, hb_xs_app, hb_xs_1, List.append_assoc]
            have t := hw s (by rw [← e]; exact h)
            rw [e]; exact t
          · intro n' j s hj h hw'
            refine pk_le L.length j (fun z => absurd z (by omega)) (fun _ => ?_) hn
            have jj : vp_in (nI j) 64 := pk_in j 64 (by omega)
            have ej := nI_clamp (show j < 2 ^ 31 by omega)
            have step0 : ¬ (0 < hb_s (pl p) (hb_at L i) ∧ hb_s (pl p) (hb_at L j) < 0 ∧ hb_nb ps L (hb_at L i) (hb_at L j)) → wX_applyPlane_109 post (wX_applyPlane_99 post (nI p) n) (nI p) (nI i) n' (nI (j + 1)) cc bu cn (nI (hb_kept (pl p) L ++ hb_xs ps L (pl p) (L.take i) ++ hb_row ps L (pl p) (hb_at L i) (L.take j)).length) kk fT fB a1 a2 a3 a4 a5 a6 a7 a8 a9 s.1 s.2.1 s.2.2.1 s.2.2.2.1 s.2.2.2.2 b15 a16 a17 a18 a19 a20 a21 := by
              intro hno
              have e : hb_row ps L (pl p) (hb_at L i) (L.take (j + 1)) = hb_row ps L (pl p) (hb_at L i) (L.take j) := by
                rw [tk j hj, hb_row_app, hb_row_n hno, List.append_nil]
              have t := hw' s (by rw [e]; exact h)
              rw [e] at t; exact t
            refine ⟨ii, ?_⟩
            rw [ei, ej, hs2 i hi, hs2 j hj, hb_L0]
            refine ek_if (hb_L_le (sb i hi) hb_RL0) (fun z => nm_r (nI_1 j) (step0 (fun hh => by omega))) (fun z1 => ⟨jj, ?_⟩)
            refine ek_if (hb_L_le hb_RL0 (sb j hj)) (fun z => nm_r (nI_1 j) (step0 (fun hh => by omega))) (fun z2 => ?_)
            refine hb_areNb hn hl hi hj hc hps hA inj (fun nb => br_f (by decide) ?_) (fun nb => br_t rfl (nm_r (nI_1 j) (step0 (fun hh => nb hh.2.2))))
            have yes : 0 < hb_s (pl p) (hb_at L i) ∧ hb_s (pl p) (hb_at L j) < 0 ∧ hb_nb ps L (hb_at L i) (hb_at L j) := ⟨by omega, by omega, nb⟩
            have e : hb_row ps L (pl p) (hb_at L i) (L.take (j + 1)) = hb_row ps L (pl p) (hb_at L i) (L.take j) ++ [hb_cross (pl p) (hb_at L i) (hb_at L j)] := by
              rw [tk j hj, hb_row_app, hb_row_y yes]
            have len : (hb_kept (pl p) L ++ hb_xs ps L (pl p) (L.take i) ++ hb_row ps L (pl p) (hb_at L i) (L.take j)).length < 64 := by
              have q1 : hb_xs ps L (pl p) L = hb_xs ps L (pl p) (L.take i) ++ (hb_row ps L (pl p) (hb_at L i) L ++ hb_xs ps L (pl p) (L.drop (i + 1))) := by
                have := congrArg (hb_xs ps L (pl p)) (dr i hi)
                rw [hb_xs_app, hb_xs_app, hb_xs_1] at this
                exact this
              have q2 : hb_row ps L (pl p) (hb_at L i) L = hb_row ps L (pl p) (hb_at L i) (L.take (j + 1)) ++ hb_row ps L (pl p) (hb_at L i) (L.drop (j + 1)) := by
                rw [← hb_row_app, List.take_append_drop]
              have q3 : (hb_app ps L (pl p)).length = (hb_kept (pl p) L).length + (hb_xs ps L (pl p) L).length := by unfold hb_app; rw [List.length_append]
              rw [q1, q2, e] at q3
              simp only [List.length_append, List.length_singleton] at q3 ⊢
              omega
            have fi := (hE.1 _ (hb_at_mem hi)).1
            have fj := (hE.1 _ (hb_at_mem hj)).1
            refine hb_addCrossing (show i < 64 by omega) (by omega) len hp rfl (hc i hi) (hc j hj) (hB _ (hb_at_mem hi)) (hB _ (hb_at_mem hj)) pb (hs2 i hi) (hs2 j hj) (hb_x_w fi fj yes.1 yes.2.1) (nm_r (nI_1 j) ?_)
            have t := hw' (_, _, _, _, _) (by
              have := hb_CM_add h (hb_rw_cross (p := p) hps (by omega) fi fj yes.1 yes.2.1 (hc i hi).2.2.2.2 (hc j hj).2.2.2.2)
              rw [e, ← List.append_assoc]
              exact this)
            rw [e, ← List.append_assoc, List.length_append, List.length_singleton] at t
            exact t
        rw [base1] at goal1
        exact goal1
    rw [base] at goal0
    exact goal0
  · intro n i s hi hs hw
    obtain ⟨hs1, hs2⟩ := hs
    have ii : vp_in (nI i) 64 := pk_in i 64 (by omega)
    have ei := nI_clamp (show i < 2 ^ 31 by omega)
    refine pk_le L.length i (fun z => absurd z (by omega)) (fun _ => ?_) hn
    refine hb_distanceTo hp (by omega) hpa (hc i hi) (hB _ (hb_at_mem hi)) ⟨ii, nm_r (by rw [ei]) ⟨ii, ?_⟩⟩
    have fresh : ∀ j, j < i + 1 → vp_updL s.2 i (hb_L (hb_s (pl p) (hb_at L i))) j = hb_L (hb_s (pl p) (hb_at L j)) := by
      intro j hj
      by_cases e : j = i
      · rw [e, pk_uLs]
      · rw [pk_uLn e]; exact hs2 j (by omega)
    rw [ei, pk_uLs, hb_L0]
    refine ek_if (hb_L_lt (sb i hi) hb_RL0) (fun z => nm_r (nI_1 i) ?_) (fun z => ?_)
    · have e : hb_kept (pl p) (L.take (i + 1)) = hb_kept (pl p) (L.take i) := by
        rw [tk i hi, hb_kept_app, hb_kept_n (by omega), List.append_nil]
      have t := hw (s.1, _) ⟨by rw [e]; exact hs1, fresh⟩
      rw [e] at t
      exact t
    · have e : hb_kept (pl p) (L.take (i + 1)) = hb_kept (pl p) (L.take i) ++ [hb_at L i] := by
        rw [tk i hi, hb_kept_app, hb_kept_y (by omega)]
      have len : (hb_kept (pl p) (L.take i)).length < 64 := by
        have := kl (i + 1)
        rw [e, List.length_append, List.length_singleton] at this
        omega
      have fin : ∀ b : Int32, (∀ q, q < 32 → (bt b q = true ↔ q = p ∧ hb_s (pl p) (hb_at L i) = 0)) → wX_applyPlane_87 post (wX_applyPlane_7 post (nI p) n) (nI p) (nI i) b (a9 i) (a8 i) (a7 i) (a6 i) (a5 i) cc bu cn (nI (hb_kept (pl p) (L.take i)).length) kk fT fB a1 a2 a3 a4 a5 a6 a7 a8 a9 s.1.1 s.1.2.1 s.1.2.2.1 s.1.2.2.2.1 s.1.2.2.2.2 (vp_updL s.2 i (hb_L (hb_s (pl p) (hb_at L i)))) a16 a17 a18 a19 a20 a21 := by
        intro b hb
        unfold wX_applyPlane_87
        refine hb_addMade len rfl (nm_r (nI_1 i) ?_)
        have t := hw ((_, _, _, _, _), _) ⟨by
          have := hb_CM_add hs1 (hb_rw_keep (hc i hi) hb)
          rw [e]; exact this, fresh⟩
        rw [e, List.length_append, List.length_singleton] at t
        exact t
      refine ⟨ii, ii, ii, ii, ii, ii, ?_⟩
      refine ek_if (hb_L_eq (sb i hi) hb_RL0) (fun z0 => fin _ (fun q hq => ?_)) (fun z0 => ?_)
      · rw [hb_onebit (by omega) hq, decide_eq_true_eq]
        exact ⟨fun g => ⟨g, z0⟩, fun g => g.1⟩
      · have := fin 0 (fun q hq => by
          rw [b_0]
          exact ⟨fun g => Bool.noConfusion g, fun g => absurd g.2 z0⟩)
        exact this
end
end
section
/-! the cube; build -/
def hb_cbP : List hb_V4 := [(1, 0, 0, 8), (-1, 0, 0, 8), (0, 1, 0, 8), (0, -1, 0, 8), (0, 0, 1, 8), (0, 0, -1, 8)]
def hb_cbC : List hb_V4 := [(8, 8, 8, 1), (-8, 8, 8, 1), (8, -8, 8, 1), (-8, -8, 8, 1), (8, 8, -8, 1), (-8, 8, -8, 1), (8, -8, -8, 1), (-8, -8, -8, 1)]
theorem hb_cb_bnd : hb_bnd hb_cbP := by
  intro u hu
  have mem : ∀ p, p ∈ hb_cbP → 0 < hb_dt p u → ∃ p ∈ hb_cbP, 0 < hb_dt p u := fun p hp h => ⟨p, hp, h⟩
  refine Classical.byContradiction (fun hc => hu ?_)
  have no : ∀ p, p ∈ hb_cbP → hb_dt p u ≤ 0 := fun p hp => by
    rcases Int.lt_or_le 0 (hb_dt p u) with g | g
    · exact absurd (mem p hp g) hc
    · exact g
  have h1 := no (1, 0, 0, 8) (by decide)
  have h2 := no (-1, 0, 0, 8) (by decide)
  have h3 := no (0, 1, 0, 8) (by decide)
  have h4 := no (0, -1, 0, 8) (by decide)
  have h5 := no (0, 0, 1, 8) (by decide)
  have h6 := no (0, 0, -1, 8) (by decide)
  simp only [hb_dt, hb_n, hb_dot] at h1 h2 h3 h4 h5 h6
  exact hb_ext3 (by simp only [hb_z]; omega) (by simp only [hb_z]; omega) (by simp only [hb_z]; omega)
theorem hb_cb_v {x y z : Int} (hx : x = 8 ∨ x = -8) (hy : y = 8 ∨ y = -8) (hz : z = 8 ∨ z = -8) : hb_vtx hb_cbP (x, y, z, 1) := by
  refine ⟨⟨by show (0 : Int) < 1; decide, fun p hp => ?_⟩, fun u hu => ?_⟩
  · simp only [hb_cbP, List.mem_cons, List.not_mem_nil, or_false] at hp
    rcases hp with rfl | rfl | rfl | rfl | rfl | rfl <;> simp only [hb_s, hb_w, hb_n, hb_dot] <;> omega
  · refine hb_ext3 ?_ ?_ ?_ <;> simp only [hb_z]
    · rcases hx with rfl | rfl
      · have := hu (1, 0, 0, 8) (by decide) (by simp only [hb_s, hb_w, hb_n, hb_dot]; omega)
        simp only [hb_dt, hb_n, hb_dot] at this; omega
      · have := hu (-1, 0, 0, 8) (by decide) (by simp only [hb_s, hb_w, hb_n, hb_dot]; omega)
        simp only [hb_dt, hb_n, hb_dot] at this; omega
    · rcases hy with rfl | rfl
      · have := hu (0, 1, 0, 8) (by decide) (by simp only [hb_s, hb_w, hb_n, hb_dot]; omega)
        simp only [hb_dt, hb_n, hb_dot] at this; omega
      · have := hu (0, -1, 0, 8) (by decide) (by simp only [hb_s, hb_w, hb_n, hb_dot]; omega)
        simp only [hb_dt, hb_n, hb_dot] at this; omega
    · rcases hz with rfl | rfl
      · have := hu (0, 0, 1, 8) (by decide) (by simp only [hb_s, hb_w, hb_n, hb_dot]; omega)
        simp only [hb_dt, hb_n, hb_dot] at this; omega
      · have := hu (0, 0, -1, 8) (by decide) (by simp only [hb_s, hb_w, hb_n, hb_dot]; omega)
        simp only [hb_dt, hb_n, hb_dot] at this; omega
theorem hb_cb_En : hb_En hb_cbP hb_cbC := by
  refine ⟨fun v hv => ?_, ?_, fun X hX => ?_⟩
  · simp only [hb_cbC, List.mem_cons, List.not_mem_nil, or_false] at hv
    rcases hv with rfl | rfl | rfl | rfl | rfl | rfl | rfl | rfl <;> exact hb_cb_v (by omega) (by omega) (by omega)
  · show List.Pairwise (fun a b => ¬ hb_dir a b = hb_z) hb_cbC
    decide
  · have ax : ∀ u : hb_V3, u ≠ hb_z → ∃ p ∈ hb_cbP, hb_s p X = 0 ∧ hb_dt p u ≠ 0 := fun u hu => Classical.byContradiction (fun hc => hu (hX.2 u (fun p hp e => Classical.byContradiction (fun g => hc ⟨p, hp, e, g⟩))))
    obtain ⟨p1, m1, e1, d1⟩ := ax (1, 0, 0) (by decide)
    obtain ⟨p2, m2, e2, d2⟩ := ax (0, 1, 0) (by decide)
    obtain ⟨p3, m3, e3, d3⟩ := ax (0, 0, 1) (by decide)
    have x1 : X.1 = 8 * hb_w X ∨ X.1 = -8 * hb_w X := by
      simp only [hb_cbP, List.mem_cons, List.not_mem_nil, or_false] at m1
      rcases m1 with rfl | rfl | rfl | rfl | rfl | rfl <;> simp only [hb_s, hb_w, hb_n, hb_dot, hb_dt] at e1 d1 ⊢ <;> omega
    have x2 : X.2.1 = 8 * hb_w X ∨ X.2.1 = -8 * hb_w X := by
      simp only [hb_cbP, List.mem_cons, List.not_mem_nil, or_false] at m2
      rcases m2 with rfl | rfl | rfl | rfl | rfl | rfl <;> simp only [hb_s, hb_w, hb_n, hb_dot, hb_dt] at e2 d2 ⊢ <;> omega
    have x3 : X.2.2.1 = 8 * hb_w X ∨ X.2.2.1 = -8 * hb_w X := by
      simp only [hb_cbP, List.mem_cons, List.not_mem_nil, or_false] at m3
      rcases m3 with rfl | rfl | rfl | rfl | rfl | rfl <;> simp only [hb_s, hb_w, hb_n, hb_dot, hb_dt] at e3 d3 ⊢ <;> omega
    have go : ∀ v : hb_V4, v ∈ hb_cbC → v.2.2.2 = 1 → X.1 = v.1 * hb_w X → X.2.1 = v.2.1 * hb_w X → X.2.2.1 = v.2.2.1 * hb_w X → ∃ v ∈ hb_cbC, hb_par v X := by
      intro v hv w1 a b c
      refine ⟨v, hv, hb_ext3 ?_ ?_ ?_⟩ <;> simp only [hb_dir, hb_z] <;> simp only [hb_w] at a b c ⊢ <;> rw [w1] <;> grind
    rcases x1 with a | a <;> rcases x2 with b | b <;> rcases x3 with c | c
    · exact go (8, 8, 8, 1) (by decide) rfl a b c
    · exact go (8, 8, -8, 1) (by decide) rfl a b c
    · exact go (8, -8, 8, 1) (by decide) rfl a b c
    · exact go (8, -8, -8, 1) (by decide) rfl a b c
    · exact go (-8, 8, 8, 1) (by decide) rfl a b c
    · exact go (-8, 8, -8, 1) (by decide) rfl a b c
    · exact go (-8, -8, 8, 1) (by decide) rfl a b c
    · exact go (-8, -8, -8, 1) (by decide) rfl a b c
theorem hb_cb_nrm : ∀ v ∈ hb_cbC, hb_nrm v := by
  intro v hv t _ _ _ h4
  simp only [hb_cbC, List.mem_cons, List.not_mem_nil, or_false] at hv
  rcases hv with rfl | rfl | rfl | rfl | rfl | rfl | rfl | rfl <;> exact h4
theorem hb_cb_pb : ∀ p ∈ hb_cbP, hb_pb p ∧ hb_n p ≠ hb_z := by
  intro p hp
  simp only [hb_cbP, List.mem_cons, List.not_mem_nil, or_false] at hp
  rcases hp with rfl | rfl | rfl | rfl | rfl | rfl <;> exact ⟨by unfold hb_pb; decide, by decide⟩
/-! the corners behind the cuts cs, as a function of cs -/
noncomputable def hb_st (cs : List hb_V4) : List hb_V4 × List hb_V4 := cs.foldl (fun s p => (s.1 ++ [p], hb_app s.1 s.2 p)) (hb_cbP, hb_cbC)
noncomputable def hb_cs (cs : List hb_V4) : List hb_V4 := (hb_st cs).2
theorem hb_rev {P : List hb_V4 → Prop} (h0 : P []) (hs : ∀ cs p, P cs → P (cs ++ [p])) : ∀ cs, P cs := by
  have key : ∀ cs : List hb_V4, P cs.reverse := by
    intro cs
    induction cs with
    | nil => exact h0
    | cons p t ih => rw [List.reverse_cons]; exact hs _ _ ih
  intro cs
  have := key cs.reverse
  rwa [List.reverse_reverse] at this
theorem hb_st_s (cs : List hb_V4) (p : hb_V4) : hb_st (cs ++ [p]) = ((hb_st cs).1 ++ [p], hb_app (hb_st cs).1 (hb_st cs).2 p) := by
  unfold hb_st
  rw [List.foldl_append]; rfl
theorem hb_st_1 (cs : List hb_V4) : (hb_st cs).1 = hb_cbP ++ cs := by
  refine hb_rev (P := fun cs => (hb_st cs).1 = hb_cbP ++ cs) (by rw [List.append_nil]; rfl) (fun cs p ih => ?_) cs
  rw [hb_st_s]
  show (hb_st cs).1 ++ [p] = _
  rw [ih, List.append_assoc]
theorem hb_cs_s (cs : List hb_V4) (p : hb_V4) : hb_cs (cs ++ [p]) = hb_app (hb_cbP ++ cs) (hb_cs cs) p := by
  unfold hb_cs
  rw [hb_st_s, hb_st_1]
theorem hb_cs_0 : hb_cs [] = hb_cbC := rfl
/-- a plane as the law makes them -/
def hb_gp (p : hb_V4) : Prop := hb_pb p ∧ hb_n p ≠ hb_z
theorem hb_bnd_cs (cs : List hb_V4) : hb_bnd (hb_cbP ++ cs) := hb_bnd_app hb_cb_bnd cs
theorem hb_cs_En (cs : List hb_V4) : hb_En (hb_cbP ++ cs) (hb_cs cs) ∧ ∀ v ∈ hb_cs cs, hb_nrm v := by
  refine hb_rev (P := fun cs => hb_En (hb_cbP ++ cs) (hb_cs cs) ∧ ∀ v ∈ hb_cs cs, hb_nrm v) ?_ (fun cs p ih => ?_) cs
  · rw [List.append_nil]; exact ⟨hb_cb_En, hb_cb_nrm⟩
  · rw [hb_cs_s, ← List.append_assoc]
    exact ⟨hb_app_En (hb_bnd_cs cs) ih.1 p, hb_app_nrm ih.1 ih.2 p⟩
theorem hb_gp_all {cs : List hb_V4} (h : ∀ p ∈ cs, hb_gp p) : ∀ p ∈ hb_cbP ++ cs, hb_gp p := by
  intro p hp
  rcases List.mem_append.mp hp with g | g
  · exact hb_cb_pb p g
  · exact h p g
theorem hb_cs_Bd {cs : List hb_V4} (h : ∀ p ∈ cs, hb_gp p) : ∀ v ∈ hb_cs cs, hb_Bd v := fun v hv => hb_Bd_of (fun p hp => (hb_gp_all h p hp).1) ((hb_cs_En cs).1.1 v hv) ((hb_cs_En cs).2 v hv)
theorem hb_cs_gen {L : List hb_V4} (h : ∀ v ∈ L, hb_Bd v) : ∀ k ∈ L, ∀ l ∈ L, hb_dot hb_c (hb_dir k l) = 0 → hb_par k l := fun k hk l hl e => hb_gen (h k hk) (h l hl) e
theorem hb_cs_len {cs : List hb_V4} (h : ∀ p ∈ cs, hb_gp p) : (hb_cs cs).length ≤ 2 * (6 + cs.length) := by
  have := hb_few (c := hb_c) (hb_cs_En cs).1 (fun p hp => (hb_gp_all h p hp).2) (hb_cs_gen (hb_cs_Bd h))
  rw [List.length_append] at this
  exact this
/-- the sorted corners -/
noncomputable def hb_SL (cs : List hb_V4) : List hb_V4 := hb_srt (hb_cs cs)
theorem hb_En_perm {ps L M : List hb_V4} (hp : M.Perm L) (h : hb_En ps L) : hb_En ps M := by
  refine ⟨fun v hv => h.1 v (hp.mem_iff.mp hv), ?_, fun X hX => ?_⟩
  · exact (List.Perm.pairwise_iff (fun {a b} hab hba => hab (hb_par_symm hba)) hp).mpr h.2.1
  · obtain ⟨v, hv, e⟩ := h.2.2 X hX
    exact ⟨v, hp.mem_iff.mpr hv, e⟩
theorem hb_SL_En (cs : List hb_V4) : hb_En (hb_cbP ++ cs) (hb_SL cs) := hb_En_perm (hb_srt_p _) (hb_cs_En cs).1
theorem hb_SL_Bd {cs : List hb_V4} (h : ∀ p ∈ cs, hb_gp p) : ∀ v ∈ hb_SL cs, hb_Bd v := fun v hv => hb_cs_Bd h v ((hb_srt_p _).mem_iff.mp hv)
theorem hb_SL_len {cs : List hb_V4} (h : ∀ p ∈ cs, hb_gp p) : (hb_SL cs).length ≤ 2 * (6 + cs.length) := by
  have := hb_cs_len h
  unfold hb_SL
  rw [(hb_srt_p _).length_eq]; exact this
/-! the walk -/
theorem hb_c1 : ∀ i, i < 8 → ((nI i &&& 1) = 0 ↔ (hb_at hb_cbC i).1 = 8) ∧ ((nI i &&& 2) = 0 ↔ (hb_at hb_cbC i).2.1 = 8) ∧ ((nI i &&& 4) = 0 ↔ (hb_at hb_cbC i).2.2.1 = 8) := by decide +kernel
theorem hb_c2 : ∀ i, i < 8 → ((hb_at hb_cbC i).1 = 8 ∨ (hb_at hb_cbC i).1 = -8) ∧ ((hb_at hb_cbC i).2.1 = 8 ∨ (hb_at hb_cbC i).2.1 = -8) ∧ ((hb_at hb_cbC i).2.2.1 = 8 ∨ (hb_at hb_cbC i).2.2.1 = -8) ∧ (hb_at hb_cbC i).2.2.2 = 1 := by decide +kernel
def hb_cmask (i : Nat) : Int32 := ((((1 : Int32) <<< ((nI i &&& 1) &&& 31)) ||| ((4 : Int32) <<< (((nI i >>> ((1 : Int32) &&& 31)) &&& 1) &&& 31))) ||| ((16 : Int32) <<< ((nI i >>> ((2 : Int32) &&& 31)) &&& 31)))
theorem hb_c3 : ∀ i, i < 8 → ∀ q, q < 32 → (bt (hb_cmask i) q = true ↔ q < 6 ∧ hb_s (hb_at hb_cbP q) (hb_at hb_cbC i) = 0) := by decide +kernel
section
variable {cc bu cn mk kk : Int32} {fT fB : Int64} {a1 a2 a3 a4 a5 a6 a7 a8 a9 a10 a11 a12 a13 a14 : Nat → Int32} {a15 : Nat → Int64} {a16 a17 a18 a19 a20 a21 : Nat → Int32}
theorem hb_startCube {post : St1 → Prop} {pl : Nat → hb_V4} (hpl : ∀ q, q < 6 → pl q = hb_at hb_cbP q) (H : ∀ a5 a6 a7 a8 a9, hb_CM pl (fun q => q < 6) a5 a6 a7 a8 a9 hb_cbC → post (cc, bu, nI 8, mk, kk, fT, fB, a1, a2, a3, a4, a5, a6, a7, a8, a9, a10, a11, a12, a13, a14, a15, a16, a17, a18, a19, a20, a21)) : wpX_startCube post (cc, bu, cn, mk, kk, fT, fB, a1, a2, a3, a4, a5, a6, a7, a8, a9, a10, a11, a12, a13, a14, a15, a16, a17, a18, a19, a20, a21) := by
  unfold wpX_startCube
  refine pk_loop (σ := hb_F5) (fun n i s => wX_startCube_8 post cc bu (nI 8) mk kk fT fB n (nI i) a1 a2 a3 a4 s.1 s.2.1 s.2.2.1 s.2.2.2.1 s.2.2.2.2 a10 a11 a12 a13 a14 a15 a16 a17 a18 a19 a20 a21) (fun i s => ∀ k, k < i → hb_rw pl (fun q => q < 6) (s.1 k) (s.2.1 k) (s.2.2.1 k) (s.2.2.2.1 k) (s.2.2.2.2 k) (hb_at hb_cbC k)) 8 0 (a5, a6, a7, a8, a9) (by omega) (fun k hk => absurd hk (by omega)) ?_ ?_
  · intro n s h
    exact pk_le 8 8 (fun _ => H _ _ _ _ _ (fun k hk => h k hk)) (fun z => absurd z (by omega))
  · intro n i s hi h hw
    have ii : vp_in (nI i) 64 := pk_in i 64 (by omega)
    have ei := nI_clamp (show i < 2 ^ 31 by omega)
    obtain ⟨c1, c2, c3⟩ := hb_c1 i hi
    obtain ⟨d1, d2, d3, d4⟩ := hb_c2 i hi
    have f70 : ∀ x y z : Int32, x = hb_I (hb_at hb_cbC i).1 → y = hb_I (hb_at hb_cbC i).2.1 → z = hb_I (hb_at hb_cbC i).2.2.1 → wX_startCube_70 post (wX_startCube_8 post cc bu (nI 8) mk kk fT fB n) (nI i) z (nI i) cc bu (nI 8) mk kk fT fB a1 a2 a3 a4 (upd s.1 i x) (upd s.2.1 i y) s.2.2.1 s.2.2.2.1 s.2.2.2.2 a10 a11 a12 a13 a14 a15 a16 a17 a18 a19 a20 a21 := by
      intro x y z hx hy hz
      unfold wX_startCube_70
      refine ⟨ii, nm_r (by rw [ei]) ⟨ii, nm_r (by rw [ei]) ⟨ii, nm_r (by rw [ei]; rfl) (nm_r (nI_1 i) (hw (upd s.1 i x, upd s.2.1 i y, upd s.2.2.1 i z, upd s.2.2.2.1 i 1, upd s.2.2.2.2 i (hb_cmask i)) (fun k hk => ?_)))⟩⟩⟩
      show hb_rw pl (fun q => q < 6) (upd s.1 i x k) (upd s.2.1 i y k) (upd s.2.2.1 i z k) (upd s.2.2.2.1 i 1 k) (upd s.2.2.2.2 i (hb_cmask i) k) (hb_at hb_cbC k)
      by_cases e : k = i
      · rw [e, pk_us, pk_us, pk_us, pk_us, pk_us]
        refine ⟨hx, hy, hz, by rw [d4]; decide, fun q hq => ?_⟩
        rw [hb_c3 i hi q hq]
        constructor
        · intro g; rw [hpl q g.1]; exact g
        · intro g; rw [hpl q g.1] at g; exact g
      · rw [pk_un e, pk_un e, pk_un e, pk_un e, pk_un e]
        exact h k (by omega)
    have v8 : ∀ x : Int, x = 8 → (8 : Int32) = hb_I x := fun x e => by rw [e]; decide
    have v8' : ∀ x : Int, x = -8 → (-8 : Int32) = hb_I x := fun x e => by rw [e]; decide
    have f51 : ∀ x y : Int32, x = hb_I (hb_at hb_cbC i).1 → y = hb_I (hb_at hb_cbC i).2.1 → wX_startCube_51 post (wX_startCube_8 post cc bu (nI 8) mk kk fT fB n) (nI i) y (nI i) cc bu (nI 8) mk kk fT fB a1 a2 a3 a4 (upd s.1 i x) s.2.1 s.2.2.1 s.2.2.2.1 s.2.2.2.2 a10 a11 a12 a13 a14 a15 a16 a17 a18 a19 a20 a21 := by
      intro x y hx hy
      unfold wX_startCube_51
      refine ⟨ii, nm_r (by rw [ei]) (ek_if c3 (fun z => f70 x y 8 hx hy (v8 _ z)) (fun z => f70 x y (-8) hx hy (v8' _ (by omega))))⟩
    have f32 : ∀ x : Int32, x = hb_I (hb_at hb_cbC i).1 → wX_startCube_32 post (wX_startCube_8 post cc bu (nI 8) mk kk fT fB n) (nI i) x (nI i) cc bu (nI 8) mk kk fT fB a1 a2 a3 a4 s.1 s.2.1 s.2.2.1 s.2.2.2.1 s.2.2.2.2 a10 a11 a12 a13 a14 a15 a16 a17 a18 a19 a20 a21 := by
      intro x hx
      unfold wX_startCube_32
      refine ⟨ii, nm_r (by rw [ei]) (ek_if c2 (fun z => f51 x 8 hx (v8 _ z)) (fun z => f51 x (-8) hx (v8' _ (by omega))))⟩
    exact pk_le 8 i (fun z => absurd z (by omega)) (fun _ => ek_if c1 (fun z => f32 8 (v8 _ z)) (fun z => f32 (-8) (v8' _ (by omega))))
end
end
section
/-! buildWithout, build, and what reads the corners -/
def hb_ta (cs : List hb_V4) (lf : Nat) : Nat → List hb_V4
  | 0 => []
  | j + 1 => if 6 + j = lf then hb_ta cs lf j else hb_ta cs lf j ++ [hb_at cs j]
theorem hb_ta_mem {cs : List hb_V4} {lf : Nat} : ∀ j, j ≤ cs.length → ∀ p ∈ hb_ta cs lf j, p ∈ cs := by
  intro j
  induction j with
  | zero => intro _ p hp; cases hp
  | succ j ih =>
    intro hj p hp
    unfold hb_ta at hp
    split at hp
    · exact ih (by omega) p hp
    · rcases List.mem_append.mp hp with g | g
      · exact ih (by omega) p g
      · rw [List.mem_singleton.mp g]; exact hb_at_mem (by omega)
theorem hb_ta_len {cs : List hb_V4} {lf : Nat} : ∀ j, (hb_ta cs lf j).length ≤ j := by
  intro j
  induction j with
  | zero => exact Nat.le_refl _
  | succ j ih =>
    unfold hb_ta
    split
    · omega
    · rw [List.length_append, List.length_singleton]; omega
theorem hb_at_cut {cs : List hb_V4} {j : Nat} : hb_at (hb_cbP ++ cs) (6 + j) = hb_at cs j := by
  rw [hb_at_r (by show 6 ≤ 6 + j; omega)]
  congr 1
  show 6 + j - 6 = j
  omega
theorem hb_ta_hps {cs : List hb_V4} {lf : Nat} {pl : Nat → hb_V4} (hlf : 6 ≤ lf) (hpl : ∀ i, i < 6 + cs.length → pl i = hb_at (hb_cbP ++ cs) i) : ∀ j, j ≤ cs.length → ∀ q, q ∈ hb_cbP ++ hb_ta cs lf j ↔ ∃ i, (i < 6 + j ∧ i ≠ lf) ∧ pl i = q := by
  intro j
  induction j with
  | zero =>
    intro _ q
    show q ∈ hb_cbP ++ [] ↔ _
    rw [List.append_nil]
    constructor
    · intro h
      obtain ⟨i, hi, e⟩ := hb_mem_at h
      have hi' : i < 6 := hi
      exact ⟨i, ⟨by omega, by omega⟩, by rw [hpl i (by omega), hb_at_l hi, e]⟩
    · intro h
      obtain ⟨i, ⟨hi, _⟩, e⟩ := h
      have hi' : i < hb_cbP.length := hi
      rw [hpl i (by omega), hb_at_l hi'] at e
      rw [← e]; exact hb_at_mem hi'
  | succ j ih =>
    intro hj q
    have := ih (by omega) q
    unfold hb_ta
    split
    · rename_i h
      rw [this]
      constructor
      · intro h
        obtain ⟨i, ⟨a, b⟩, e⟩ := h
        exact ⟨i, ⟨by omega, b⟩, e⟩
      · intro h
        obtain ⟨i, ⟨a, b⟩, e⟩ := h
        exact ⟨i, ⟨by omega, b⟩, e⟩
    · rename_i h
      rw [← List.append_assoc, List.mem_append, this, List.mem_singleton]
      constructor
      · intro g
        rcases g with ⟨i, ⟨a, b⟩, e⟩ | g
        · exact ⟨i, ⟨by omega, b⟩, e⟩
        · exact ⟨6 + j, ⟨by omega, h⟩, by rw [hpl _ (by omega), hb_at_cut, g]⟩
      · intro g
        obtain ⟨i, ⟨a, b⟩, e⟩ := g
        by_cases e' : i = 6 + j
        · right
          rw [e', hpl _ (by omega), hb_at_cut] at e
          exact e.symm
        · exact Or.inl ⟨i, ⟨by omega, b⟩, e⟩
theorem hb_ta_all {cs : List hb_V4} (h : cs.length ≤ 8) : hb_ta cs 99 cs.length = cs := by
  have key : ∀ j, j ≤ cs.length → hb_ta cs 99 j = cs.take j := by
    intro j
    induction j with
    | zero => intro _; rfl
    | succ j ih =>
      intro hj
      unfold hb_ta
      rw [if_neg (by omega), ih (by omega), hb_at_e (by omega), List.take_append_getElem]
  rw [key _ (Nat.le_refl _), List.take_length]
theorem hb_ta_erase {cs : List hb_V4} {k : Nat} (hk : k < cs.length) : hb_ta cs (6 + k) cs.length = cs.eraseIdx k := by
  have key : ∀ j, j ≤ cs.length → hb_ta cs (6 + k) j = (cs.take j).eraseIdx k := by
    intro j
    induction j with
    | zero => intro _; simp [hb_ta]
    | succ j ih =>
      intro hj
      have lt : (cs.take j).length = j := by rw [List.length_take]; omega
      have et : cs.take (j + 1) = cs.take j ++ [hb_at cs j] := by rw [hb_at_e (by omega)]; exact (List.take_append_getElem (by omega)).symm
      unfold hb_ta
      rw [et, ih (by omega)]
      by_cases e : 6 + j = 6 + k
      · rw [if_pos e, List.eraseIdx_of_length_le (by omega), List.eraseIdx_append_of_length_le (by omega), lt, show k - j = 0 by omega]
        simp
      · rw [if_neg e]
        rcases Nat.lt_or_ge j k with g | g
        · rw [List.eraseIdx_of_length_le (by omega), List.eraseIdx_of_length_le (by simp; omega)]
        · rw [List.eraseIdx_append_of_lt_length (by omega)]
  rw [key _ (Nat.le_refl _), List.take_length]
def hb_CV (cs : List hb_V4) (cn : Int32) (a5 a6 a7 a8 a9 : Nat → Int32) : Prop := cn = nI (hb_SL cs).length ∧ hb_CM (hb_at (hb_cbP ++ cs)) (fun i => i < 6 + cs.length) a5 a6 a7 a8 a9 (hb_SL cs)
def hb_PV (cs : List hb_V4) (cc : Int32) (a1 a2 a3 a4 : Nat → Int32) : Prop := cc = nI cs.length ∧ cs.length ≤ 8 ∧ (∀ p ∈ cs, hb_gp p) ∧ ∃ pl, hb_PA a1 a2 a3 a4 pl ∧ ∀ i, i < 6 + cs.length → pl i = hb_at (hb_cbP ++ cs) i
theorem hb_CM_pl {pl pl' : Nat → hb_V4} {A A' : Nat → Prop} (h : ∀ i, A i ↔ A' i) (hp : ∀ i, A' i → pl i = pl' i) {a5 a6 a7 a8 a9 : Nat → Int32} {L : List hb_V4} (hc : hb_CM pl A a5 a6 a7 a8 a9 L) : hb_CM pl' A' a5 a6 a7 a8 a9 L := by
  intro k hk
  obtain ⟨h1, h2, h3, h4, h5⟩ := hc k hk
  refine ⟨h1, h2, h3, h4, fun i hi => ?_⟩
  rw [h5 i hi, h i]
  constructor
  · intro g; rw [← hp i g.1]; exact g
  · intro g; rw [hp i g.1]; exact g
section
variable {cc bu cn mk kk : Int32} {fT fB : Int64} {a1 a2 a3 a4 a5 a6 a7 a8 a9 a10 a11 a12 a13 a14 : Nat → Int32} {a15 : Nat → Int64} {a16 a17 a18 a19 a20 a21 : Nat → Int32}
theorem hb_buildW {post : St1 → Prop} {pl : Nat → hb_V4} {cs : List hb_V4} {lf : Nat} {x1 : Int32} (hx : ∀ j, j < 16 → (nI j = x1 ↔ j = lf)) (hlf : 6 ≤ lf) (hcc : cc = nI cs.length) (hc8 : cs.length ≤ 8) (hg : ∀ p ∈ cs, hb_gp p) (hpa : hb_PA a1 a2 a3 a4 pl) (hpl : ∀ i, i < 6 + cs.length → pl i = hb_at (hb_cbP ++ cs) i)
    (H : ∀ mk a5 a6 a7 a8 a9 a10 a11 a12 a13 a14 a15, hb_CM pl (fun i => i < 6 + cs.length ∧ i ≠ lf) a5 a6 a7 a8 a9 (hb_SL (hb_ta cs lf cs.length)) → post (cc, bu, nI (hb_SL (hb_ta cs lf cs.length)).length, mk, kk, fT, fB, a1, a2, a3, a4, a5, a6, a7, a8, a9, a10, a11, a12, a13, a14, a15, a16, a17, a18, a19, a20, a21)) : wpX_buildWithout post (cc, bu, cn, mk, kk, fT, fB, a1, a2, a3, a4, a5, a6, a7, a8, a9, a10, a11, a12, a13, a14, a15, a16, a17, a18, a19, a20, a21) x1 := by
  unfold wpX_buildWithout
  have gpj : ∀ j, j ≤ cs.length → ∀ p ∈ hb_ta cs lf j, hb_gp p := fun j hj p hp => hg p (hb_ta_mem j hj p hp)
  have lenj : ∀ j, j ≤ cs.length → (hb_cs (hb_ta cs lf j)).length ≤ 64 := fun j hj => by
    have := hb_cs_len (gpj j hj)
    have := @hb_ta_len cs lf j
    omega
  refine hb_startCube (pl := pl) (fun q hq => by rw [hpl q (by omega)]; exact hb_at_l hq) (fun b5 b6 b7 b8 b9 hc0 => ?_)
  have six : ∀ m, (6 : Int32) + nI m = nI (6 + m) := fun m => nI_add 6 m
  refine pk_loop (σ := Int32 × hb_F5 × hb_F5 × (Nat → Int64)) (fun n j s => wX_buildWithout_7 post x1 n (nI (6 + j)) cc bu (nI (hb_cs (hb_ta cs lf j)).length) s.1 kk fT fB a1 a2 a3 a4 s.2.1.1 s.2.1.2.1 s.2.1.2.2.1 s.2.1.2.2.2.1 s.2.1.2.2.2.2 s.2.2.1.1 s.2.2.1.2.1 s.2.2.1.2.2.1 s.2.2.1.2.2.2.1 s.2.2.1.2.2.2.2 s.2.2.2 a16 a17 a18 a19 a20 a21)
    (fun j s => hb_CM pl (fun i => i < 6 + j ∧ i ≠ lf) s.2.1.1 s.2.1.2.1 s.2.1.2.2.1 s.2.1.2.2.2.1 s.2.1.2.2.2.2 (hb_cs (hb_ta cs lf j))) cs.length 0 (mk, (b5, b6, b7, b8, b9), (a10, a11, a12, a13, a14), a15) (by omega) (hb_CM_c (fun i => ⟨fun h => ⟨by omega, by omega⟩, fun h => by omega⟩) hc0) ?_ ?_
  · intro n s h
    refine pk_le (6 + cs.length) (6 + cs.length) (fun _ => ?_) (fun z => absurd z (by omega)) (by rw [hcc, six])
    refine hb_sort (lenj _ (Nat.le_refl _)) (hb_cs_Bd (gpj _ (Nat.le_refl _))) h rfl (fun c5 c6 c7 c8 c9 hs => ?_)
    have e : (hb_cs (hb_ta cs lf cs.length)).length = (hb_SL (hb_ta cs lf cs.length)).length := (hb_srt_p _).length_eq.symm
    rw [e]
    exact H s.1 c5 c6 c7 c8 c9 _ _ _ _ _ _ hs
  · intro n j s hj h hw
    refine pk_le (6 + cs.length) (6 + j) (fun z => absurd z (by omega)) (fun _ => ?_) (by rw [hcc, six])
    refine ek_if (hx (6 + j) (by omega)) (fun e => nm_r (nI_1 _) ?_) (fun e => ?_)
    · have et : hb_ta cs lf (j + 1) = hb_ta cs lf j := by
        show (if 6 + j = lf then _ else _) = _
        rw [if_pos e]
      have t := hw s (by rw [et]; exact hb_CM_c (fun i => ⟨fun g => ⟨by omega, g.2⟩, fun g => ⟨by omega, g.2⟩⟩) h)
      rw [et] at t
      exact t
    · have et : hb_ta cs lf (j + 1) = hb_ta cs lf j ++ [hb_at cs j] := by
        show (if 6 + j = lf then _ else _) = _
        rw [if_neg e]
      have epl : pl (6 + j) = hb_at cs j := by rw [hpl _ (by omega), hb_at_cut]
      have ecs : hb_app (hb_cbP ++ hb_ta cs lf j) (hb_cs (hb_ta cs lf j)) (pl (6 + j)) = hb_cs (hb_ta cs lf (j + 1)) := by
        rw [et, hb_cs_s, epl]
      refine hb_apply (by omega) hpa rfl (lenj j (by omega)) h (fun i hi => by omega) (hb_ta_hps hlf hpl j (by omega)) (hb_cs_En _).1 (hb_cs_Bd (gpj j (by omega))) (by rw [ecs]; exact lenj _ (by omega)) (fun c5 c6 c7 c8 c9 c10 c11 c12 c13 c14 c15 hc => nm_r (nI_1 _) ?_)
      rw [ecs] at hc ⊢
      exact hw (_, (c5, c6, c7, c8, c9), (c10, c11, c12, c13, c14), c15) (hb_CM_c (fun i => ⟨fun g => by
        rcases g with g | g
        · exact ⟨by omega, g.2⟩
        · exact ⟨by omega, by omega⟩, fun g => by
        by_cases e' : i = 6 + j
        · exact Or.inr e'
        · exact Or.inl ⟨by omega, g.2⟩⟩) hc)
theorem hb_m1x : ∀ j, j < 16 → (nI j = (-1 : Int32) ↔ j = 99) := by decide +kernel
theorem hb_build {post : St1 → Prop} {cs : List hb_V4} (hP : hb_PV cs cc a1 a2 a3 a4) (hB : bu = 0 ∨ (bu = 1 ∧ hb_CV cs cn a5 a6 a7 a8 a9)) (H : ∀ cn mk a5 a6 a7 a8 a9 a10 a11 a12 a13 a14 a15, hb_CV cs cn a5 a6 a7 a8 a9 → post (cc, 1, cn, mk, kk, fT, fB, a1, a2, a3, a4, a5, a6, a7, a8, a9, a10, a11, a12, a13, a14, a15, a16, a17, a18, a19, a20, a21)) : wpX_build post (cc, bu, cn, mk, kk, fT, fB, a1, a2, a3, a4, a5, a6, a7, a8, a9, a10, a11, a12, a13, a14, a15, a16, a17, a18, a19, a20, a21) := by
  unfold wpX_build
  rcases hB with e | ⟨e, hC⟩
  · obtain ⟨hcc, h8, hg, pl, hpa, hpl⟩ := hP
    refine br_t e (hb_buildW hb_m1x (by omega) hcc h8 hg hpa hpl (fun mk b5 b6 b7 b8 b9 b10 b11 b12 b13 b14 b15 hc => ?_))
    rw [hb_ta_all h8] at hc ⊢
    exact H _ _ _ _ _ _ _ _ _ _ _ _ _ ⟨rfl, hb_CM_pl (fun i => ⟨fun g => g.1, fun g => ⟨g, by omega⟩⟩) hpl hc⟩
  · rw [e]
    exact br_f (by decide) (H _ _ _ _ _ _ _ _ _ _ _ _ _ hC)
theorem hb_corners {post : Int32 → St1 → Prop} {cs : List hb_V4} (hP : hb_PV cs cc a1 a2 a3 a4) (hB : bu = 0 ∨ (bu = 1 ∧ hb_CV cs cn a5 a6 a7 a8 a9)) (H : ∀ cn mk a5 a6 a7 a8 a9 a10 a11 a12 a13 a14 a15, hb_CV cs cn a5 a6 a7 a8 a9 → post (nI (hb_SL cs).length) (cc, 1, cn, mk, kk, fT, fB, a1, a2, a3, a4, a5, a6, a7, a8, a9, a10, a11, a12, a13, a14, a15, a16, a17, a18, a19, a20, a21)) : wpX_corners post (cc, bu, cn, mk, kk, fT, fB, a1, a2, a3, a4, a5, a6, a7, a8, a9, a10, a11, a12, a13, a14, a15, a16, a17, a18, a19, a20, a21) := by
  unfold wpX_corners
  refine hb_build hP hB (fun cn mk a5 a6 a7 a8 a9 a10 a11 a12 a13 a14 a15 hC => ?_)
  have := H cn mk a5 a6 a7 a8 a9 a10 a11 a12 a13 a14 a15 hC
  rw [← hC.1] at this
  exact this
/-- a coordinate of a corner -/
def hb_co (v : hb_V4) (x : Nat) : Int := if x = 0 then v.1 else if x = 1 then v.2.1 else v.2.2.1
theorem hb_top {post : Int32 → St1 → Prop} {cs : List hb_V4} {k x : Nat} (hk : k < (hb_SL cs).length) (hx : x ≤ 2) (hP : hb_PV cs cc a1 a2 a3 a4) (hC : hb_CV cs cn a5 a6 a7 a8 a9) (H : post (hb_I (hb_co (hb_at (hb_SL cs) k) x)) (cc, 1, cn, mk, kk, fT, fB, a1, a2, a3, a4, a5, a6, a7, a8, a9, a10, a11, a12, a13, a14, a15, a16, a17, a18, a19, a20, a21)) : wpX_top post (cc, 1, cn, mk, kk, fT, fB, a1, a2, a3, a4, a5, a6, a7, a8, a9, a10, a11, a12, a13, a14, a15, a16, a17, a18, a19, a20, a21) (nI k) (nI x) := by
  have hl := @hb_SL_len cs hP.2.2.1
  have h8 := hP.2.1
  unfold wpX_top
  refine br_f (nI_pos (by omega)) (pk_le x 2 (fun _ => ?_) (fun z => absurd z (by omega)))
  unfold wpX_build
  refine br_f (by decide) ?_
  obtain ⟨r1, r2, r3, _⟩ := hC.2 k hk
  have ik : vp_in (nI k) 64 := pk_in k 64 (by omega)
  have ek := nI_clamp (show k < 2 ^ 31 by omega)
  refine br_f (nI_pos (by omega)) (pk_lt k (hb_SL cs).length (fun _ => ?_) (fun z => absurd z (by omega)) rfl hC.1)
  refine pk_eq x 0 (fun e => ⟨ik, ?_⟩) (fun e => pk_eq x 1 (fun e' => ⟨ik, ?_⟩) (fun e' => ⟨ik, ?_⟩))
  · rw [ek, r1]; rw [e] at H; exact H
  · rw [ek, r2]; rw [e'] at H; exact H
  · rw [ek, r3]
    have : hb_co (hb_at (hb_SL cs) k) x = (hb_at (hb_SL cs) k).2.2.1 := by unfold hb_co; rw [if_neg e, if_neg e']
    rw [this] at H; exact H
theorem hb_bottom {post : Int32 → St1 → Prop} {cs : List hb_V4} {k : Nat} (hk : k < (hb_SL cs).length) (hP : hb_PV cs cc a1 a2 a3 a4) (hC : hb_CV cs cn a5 a6 a7 a8 a9) (H : post (hb_I (hb_w (hb_at (hb_SL cs) k))) (cc, 1, cn, mk, kk, fT, fB, a1, a2, a3, a4, a5, a6, a7, a8, a9, a10, a11, a12, a13, a14, a15, a16, a17, a18, a19, a20, a21)) : wpX_bottom post (cc, 1, cn, mk, kk, fT, fB, a1, a2, a3, a4, a5, a6, a7, a8, a9, a10, a11, a12, a13, a14, a15, a16, a17, a18, a19, a20, a21) (nI k) := by
  have hl := @hb_SL_len cs hP.2.2.1
  have h8 := hP.2.1
  unfold wpX_bottom
  unfold wpX_build
  refine br_f (by decide) ?_
  obtain ⟨_, _, _, r4, _⟩ := hC.2 k hk
  have ik : vp_in (nI k) 64 := pk_in k 64 (by omega)
  have ek := nI_clamp (show k < 2 ^ 31 by omega)
  refine br_f (nI_pos (by omega)) (pk_lt k (hb_SL cs).length (fun _ => ⟨ik, ?_⟩) (fun z => absurd z (by omega)) rfl hC.1)
  rw [ek, r4]; exact H
end
end
section
/-! rank and dimension -/
section
variable {cc bu cn mk kk : Int32} {fT fB : Int64} {a1 a2 a3 a4 a5 a6 a7 a8 a9 a10 a11 a12 a13 a14 : Nat → Int32} {a15 : Nat → Int64} {a16 a17 a18 a19 a20 a21 : Nat → Int32}
theorem hb_nextPlane {post : Int32 → Prop} {m : Int32} {f : Nat} (hf : f ≤ 16) (H1 : ∀ p, f ≤ p → p < 16 → bt m p = true → (∀ q, f ≤ q → q < p → bt m q = false) → post (nI p)) (H0 : (∀ q, f ≤ q → q < 16 → bt m q = false) → post (-1)) : wpX_nextPlane post (cc, bu, cn, mk, kk, fT, fB, a1, a2, a3, a4, a5, a6, a7, a8, a9, a10, a11, a12, a13, a14, a15, a16, a17, a18, a19, a20, a21) m (nI f) := by
  unfold wpX_nextPlane
  refine pk_loop (σ := Unit) (fun n i _ => wX_nextPlane_2 post m cc bu cn mk kk fT fB a1 a2 a3 a4 a5 a6 a7 a8 a9 a10 a11 a12 a13 a14 a15 a16 a17 a18 a19 a20 a21 n (nI i)) (fun i _ => f ≤ i ∧ ∀ q, f ≤ q → q < i → bt m q = false) 16 f () hf ⟨Nat.le_refl _, fun q h1 h2 => absurd h2 (by omega)⟩ ?_ ?_
  · intro n _ h
    exact pk_le 16 16 (fun _ => H0 h.2) (fun z => absurd z (by omega))
  · intro n i _ hi h hw
    refine pk_le 16 i (fun z => absurd z (by omega)) (fun _ => ek_if (hb_bit m (by omega)) (fun e => nm_r (nI_1 i) (hw () ⟨by omega, fun q h1 h2 => ?_⟩)) (fun e => H1 i h.1 hi (by simpa using e) h.2))
    by_cases g : q = i
    · rw [g]; exact e
    · exact h.2 q h1 (by omega)
theorem hb_b16 {x y : Int} (hx : -4 ≤ x ∧ x ≤ 4) (hy : -4 ≤ y ∧ y ≤ 4) : -16 ≤ x * y ∧ x * y ≤ 16 := hb_mb (A := 4) (B := 4) (by omega) hx hy
theorem hb_areParallel {post : Int32 → Prop} {pl : Nat → hb_V4} {p q : Nat} (hp : p < 16) (hq : q < 16) (hpa : hb_PA a1 a2 a3 a4 pl) (H1 : hb_crs (hb_n (pl p)) (hb_n (pl q)) = hb_z → post 1) (H0 : hb_crs (hb_n (pl p)) (hb_n (pl q)) ≠ hb_z → post 0) : wpX_areParallel post (cc, bu, cn, mk, kk, fT, fB, a1, a2, a3, a4, a5, a6, a7, a8, a9, a10, a11, a12, a13, a14, a15, a16, a17, a18, a19, a20, a21) (nI p) (nI q) := by
  obtain ⟨x1, x2, x3, _, b1, b2, b3, _⟩ := hpa p hp
  obtain ⟨y1, y2, y3, _, c1, c2, c3, _⟩ := hpa q hq
  have ip : vp_in (nI p) 16 := pk_in p 16 hp
  have iq : vp_in (nI q) 16 := pk_in q 16 hq
  have e1 := hb_b16 b2 c3
  have e2 := hb_b16 b3 c2
  have e3 := hb_b16 b3 c1
  have e4 := hb_b16 b1 c3
  have e5 := hb_b16 b1 c2
  have e6 := hb_b16 b2 c1
  have R : ∀ x : Int, -32 ≤ x ∧ x ≤ 32 → hb_R x := by intro x h; unfold hb_R; omega
  unfold wpX_areParallel
  simp only [nI_clamp (show p < 2 ^ 31 by omega), nI_clamp (show q < 2 ^ 31 by omega), x1, x2, x3, y1, y2, y3, hb_I_mul, hb_I_sub]
  have fin : ∀ P : Prop, (hb_crs (hb_n (pl p)) (hb_n (pl q)) = hb_z ↔ ((pl p).2.1 * (pl q).2.2.1 - (pl p).2.2.1 * (pl q).2.1 = 0 ∧ (pl p).2.2.1 * (pl q).1 - (pl p).1 * (pl q).2.2.1 = 0 ∧ (pl p).1 * (pl q).2.1 - (pl p).2.1 * (pl q).1 = 0)) := by
    intro _
    constructor
    · intro h
      have h1 := congrArg (fun t : hb_V3 => t.1) h
      have h2 := congrArg (fun t : hb_V3 => t.2.1) h
      have h3 := congrArg (fun t : hb_V3 => t.2.2) h
      exact ⟨h1, h2, h3⟩
    · intro h
      exact hb_ext3 h.1 h.2.1 h.2.2
  rw [fin True] at H1
  have H0' : ¬ _ → post 0 := fun h => H0 (fun g => h ((fin True).mp g))
  have z0 : (0 : Int32) = hb_I 0 := hb_I0
  have eq : ∀ x : Int, -32 ≤ x ∧ x ≤ 32 → (hb_I x = 0 ↔ x = 0) := fun x h => by rw [z0]; exact hb_I_eq (R x h) hb_R0
  refine ⟨ip, iq, ip, iq, nm_e ⟨ip, iq, ip, iq, nm_e ⟨ip, iq, ip, iq, nm_e ?_⟩⟩⟩
  refine ek_if (eq _ (by omega)) (fun z1 => ek_if (eq _ (by omega)) (fun z2 => ek_if (eq _ (by omega)) (fun z3 => H1 ⟨z1, z2, z3⟩) (fun z3 => H0' (fun h => z3 h.2.2))) (fun z2 => H0' (fun h => z2 h.2.1))) (fun z1 => H0' (fun h => z1 h.1))
theorem hb_determinant {post : Int32 → Prop} {pl : Nat → hb_V4} {p q r : Nat} (hp : p < 16) (hq : q < 16) (hr : r < 16) (hpa : hb_PA a1 a2 a3 a4 pl) (H : post (hb_I (hb_det (hb_n (pl p)) (hb_n (pl q)) (hb_n (pl r))))) : wpX_determinant post (cc, bu, cn, mk, kk, fT, fB, a1, a2, a3, a4, a5, a6, a7, a8, a9, a10, a11, a12, a13, a14, a15, a16, a17, a18, a19, a20, a21) (nI p) (nI q) (nI r) := by
  obtain ⟨x1, x2, x3, _⟩ := hpa p hp
  obtain ⟨y1, y2, y3, _⟩ := hpa q hq
  obtain ⟨z1, z2, z3, _⟩ := hpa r hr
  have ip : vp_in (nI p) 16 := pk_in p 16 hp
  have iq : vp_in (nI q) 16 := pk_in q 16 hq
  have ir : vp_in (nI r) 16 := pk_in r 16 hr
  unfold wpX_determinant
  simp only [nI_clamp (show p < 2 ^ 31 by omega), nI_clamp (show q < 2 ^ 31 by omega), nI_clamp (show r < 2 ^ 31 by omega), x1, x2, x3, y1, y2, y3, z1, z2, z3, hb_I_mul, hb_I_sub]
  refine ⟨ip, iq, ip, iq, nm_e ⟨ip, iq, ip, iq, nm_e ⟨ip, iq, ip, iq, nm_e ⟨ir, ir, ir, ?_⟩⟩⟩⟩
  rw [hb_I_mul, hb_I_mul, hb_I_mul, hb_I_add, hb_I_add]
  exact H
theorem hb_det384 {pl : Nat → hb_V4} {p q r : Nat} (hp : p < 16) (hq : q < 16) (hr : r < 16) (hpa : hb_PA a1 a2 a3 a4 pl) : -384 ≤ hb_det (hb_n (pl p)) (hb_n (pl q)) (hb_n (pl r)) ∧ hb_det (hb_n (pl p)) (hb_n (pl q)) (hb_n (pl r)) ≤ 384 := by
  obtain ⟨_, _, _, _, b1, b2, b3, _⟩ := hpa p hp
  obtain ⟨_, _, _, _, c1, c2, c3, _⟩ := hpa q hq
  obtain ⟨_, _, _, _, d1, d2, d3, _⟩ := hpa r hr
  exact hb_det_b (A := 4) (by omega) b1 c1 d1 b2 c2 d2 b3 c3 d3
theorem hb_neg1 : ((-1 : Int32) < 0) := by decide
theorem hb_rankOf {post : Int32 → Prop} {pl : Nat → hb_V4} {m : Int32} (hpa : hb_PA a1 a2 a3 a4 pl) (nz : ∀ i, i < 16 → bt m i = true → hb_n (pl i) ≠ hb_z) (H : ∀ r, hb_rk (fun p => ∃ i, (i < 16 ∧ bt m i = true) ∧ pl i = p) r → post (nI r)) : wpX_rankOf post (cc, bu, cn, mk, kk, fT, fB, a1, a2, a3, a4, a5, a6, a7, a8, a9, a10, a11, a12, a13, a14, a15, a16, a17, a18, a19, a20, a21) m := by
  unfold wpX_rankOf
  refine hb_nextPlane (f := 0) (by omega) (fun f _ hf bf nf => ?_) (fun no => br_f (by decide) (H 0 (Or.inl ⟨rfl, fun p hp => ?_⟩)))
  rotate_left
  · obtain ⟨i, ⟨hi, bi⟩, _⟩ := hp
    have := no i (by omega) hi
    rw [this] at bi; exact absurd bi (by decide)
  refine br_t (nI_pos' (by omega)) ?_
  have npf := nz f hf bf
  have selfc : ∀ x : hb_V3, hb_crs x x = hb_z := fun x => by refine hb_ext3 ?_ ?_ ?_ <;> simp only [hb_crs, hb_z] <;> grind
  -- the third plane
  have L63 : ∀ s, f < s → s < 16 → bt m s = true → hb_crs (hb_n (pl f)) (hb_n (pl s)) ≠ hb_z → (∀ j, f < j → j < s → bt m j = true → hb_crs (hb_n (pl f)) (hb_n (pl j)) = hb_z) →
      (∀ n, ∀ t, s < t → t < 16 → 17 - t ≤ n → bt m t = true → (∀ j, s < j → j < t → bt m j = true → hb_det (hb_n (pl f)) (hb_n (pl s)) (hb_n (pl j)) = 0) → wX_rankOf_63 post m (nI f) (nI s) cc bu cn mk kk fT fB a1 a2 a3 a4 a5 a6 a7 a8 a9 a10 a11 a12 a13 a14 a15 a16 a17 a18 a19 a20 a21 n (nI t)) ∧ ((∀ j, s < j → j < 16 → bt m j = true → hb_det (hb_n (pl f)) (hb_n (pl s)) (hb_n (pl j)) = 0) → ∀ n, wX_rankOf_63 post m (nI f) (nI s) cc bu cn mk kk fT fB a1 a2 a3 a4 a5 a6 a7 a8 a9 a10 a11 a12 a13 a14 a15 a16 a17 a18 a19 a20 a21 (n + 1) (-1)) := by
    intro s hfs hs bs cs hbt
    have done : (∀ j, s < j → j < 16 → bt m j = true → hb_det (hb_n (pl f)) (hb_n (pl s)) (hb_n (pl j)) = 0) → ∀ n, wX_rankOf_63 post m (nI f) (nI s) cc bu cn mk kk fT fB a1 a2 a3 a4 a5 a6 a7 a8 a9 a10 a11 a12 a13 a14 a15 a16 a17 a18 a19 a20 a21 (n + 1) (-1) := by
      intro all n
      refine br_t hb_neg1 ?_
      unfold wX_rankOf_93
      refine br_f (by decide) (H 2 (Or.inr (Or.inr (Or.inl ⟨rfl, pl f, pl s, ⟨f, ⟨hf, bf⟩, rfl⟩, ⟨s, ⟨hs, bs⟩, rfl⟩, cs, fun t ht => ?_⟩))))
      obtain ⟨j, ⟨hj, bj⟩, rfl⟩ := ht
      have zero : ∀ x : hb_V3, hb_crs (hb_n (pl f)) x = hb_z → hb_det (hb_n (pl f)) (hb_n (pl s)) x = 0 := by
        intro x hx
        have := hb_par_dot npf hx (hb_crs_l (hb_n (pl f)) (hb_n (pl s)))
        rw [hb_dot_comm] at this; exact this
      rcases Nat.lt_trichotomy j f with g | g | g
      · have := nf j (by omega) g
        rw [this] at bj; exact absurd bj (by decide)
      · rw [g]; exact zero _ (selfc _)
      · rcases Nat.lt_trichotomy j s with g' | g' | g'
        · exact zero _ (hbt j g g' bj)
        · rw [g']
          show hb_dot (hb_crs _ _) _ = 0
          rw [hb_dot_comm, hb_crs_r]
        · exact all j g' hj bj
    refine ⟨?_, done⟩
    intro n
    induction n with
    | zero => intro t h1 h2 h3; omega
    | succ n ih =>
      intro t h1 h2 h3 bt' hz
      refine br_f (nI_pos (by omega)) (hb_determinant hf hs h2 hpa ?_)
      have bd := hb_det384 hf hs h2 hpa
      have eq : hb_I (hb_det (hb_n (pl f)) (hb_n (pl s)) (hb_n (pl t))) = 0 ↔ hb_det (hb_n (pl f)) (hb_n (pl s)) (hb_n (pl t)) = 0 := by
        rw [hb_I0]; exact hb_I_eq (by unfold hb_R; omega) hb_R0
      refine ek_if eq (fun e => ?_) (fun e => ?_)
      · show wpX_nextPlane _ _ m (nI t + 1)
        rw [nI_1]
        refine hb_nextPlane (by omega) (fun p p1 p2 p3 p4 => ih p (by omega) p2 (by omega) p3 (fun j j1 j2 bj => ?_)) (fun no => ?_)
        · rcases Nat.lt_trichotomy j t with g | g | g
          · exact hz j j1 g bj
          · rw [g]; exact e
          · have := p4 j (by omega) j2
            rw [this] at bj; exact absurd bj (by decide)
        · obtain ⟨n', rfl⟩ : ∃ n', n = n' + 1 := ⟨n - 1, by omega⟩
          refine done (fun j j1 j2 bj => ?_) n'
          rcases Nat.lt_trichotomy j t with g | g | g
          · exact hz j j1 g bj
          · rw [g]; exact e
          · have := no j (by omega) j2
            rw [this] at bj; exact absurd bj (by decide)
      · unfold wX_rankOf_93
        exact br_t (nI_pos' (by omega)) (H 3 (Or.inr (Or.inr (Or.inr ⟨rfl, pl f, pl s, pl t, ⟨f, ⟨hf, bf⟩, rfl⟩, ⟨s, ⟨hs, bs⟩, rfl⟩, ⟨t, ⟨h2, bt'⟩, rfl⟩, e⟩))))
  -- the second plane
  have L22d : (∀ j, f < j → j < 16 → bt m j = true → hb_crs (hb_n (pl f)) (hb_n (pl j)) = hb_z) → ∀ n, wX_rankOf_22 post m (nI f) cc bu cn mk kk fT fB a1 a2 a3 a4 a5 a6 a7 a8 a9 a10 a11 a12 a13 a14 a15 a16 a17 a18 a19 a20 a21 (n + 1) (-1) := by
    intro all n
    refine br_t hb_neg1 ?_
    unfold wX_rankOf_47
    refine br_f (by decide) (H 1 (Or.inr (Or.inl ⟨rfl, pl f, ⟨f, ⟨hf, bf⟩, rfl⟩, fun q hq => ?_⟩)))
    obtain ⟨j, ⟨hj, bj⟩, rfl⟩ := hq
    rcases Nat.lt_trichotomy j f with g | g | g
    · have := nf j (by omega) g
      rw [this] at bj; exact absurd bj (by decide)
    · rw [g]; exact selfc _
    · exact all j g hj bj
  have L22 : ∀ n, ∀ s, f < s → s < 16 → 17 - s ≤ n → bt m s = true → (∀ j, f < j → j < s → bt m j = true → hb_crs (hb_n (pl f)) (hb_n (pl j)) = hb_z) → wX_rankOf_22 post m (nI f) cc bu cn mk kk fT fB a1 a2 a3 a4 a5 a6 a7 a8 a9 a10 a11 a12 a13 a14 a15 a16 a17 a18 a19 a20 a21 n (nI s) := by
    intro n
    induction n with
    | zero => intro s h1 h2 h3; omega
    | succ n ih =>
      intro s h1 h2 h3 bs hz
      refine br_f (nI_pos (by omega)) (hb_areParallel hf h2 hpa (fun e => br_f (by decide) ?_) (fun e => br_t rfl ?_))
      · show wpX_nextPlane _ _ m (nI s + 1)
        rw [nI_1]
        refine hb_nextPlane (by omega) (fun p p1 p2 p3 p4 => ih p (by omega) p2 (by omega) p3 (fun j j1 j2 bj => ?_)) (fun no => ?_)
        · rcases Nat.lt_trichotomy j s with g | g | g
          · exact hz j j1 g bj
          · rw [g]; exact e
          · have := p4 j (by omega) j2
            rw [this] at bj; exact absurd bj (by decide)
        · obtain ⟨n', rfl⟩ : ∃ n', n = n' + 1 := ⟨n - 1, by omega⟩
          refine L22d (fun j j1 j2 bj => ?_) n'
          rcases Nat.lt_trichotomy j s with g | g | g
          · exact hz j j1 g bj
          · rw [g]; exact e
          · have := no j (by omega) j2
            rw [this] at bj; exact absurd bj (by decide)
      · unfold wX_rankOf_47
        refine br_t (nI_pos' (by omega)) ?_
        rw [nI_1]
        obtain ⟨A, B⟩ := L63 s h1 h2 bs e hz
        refine hb_nextPlane (by omega) (fun p p1 p2 p3 p4 => ⟨17, A 17 p (by omega) p2 (by omega) p3 (fun j j1 j2 bj => ?_)⟩) (fun no => ⟨1, B (fun j j1 j2 bj => ?_) 0⟩)
        · have := p4 j (by omega) j2
          rw [this] at bj; exact absurd bj (by decide)
        · have := no j (by omega) j2
          rw [this] at bj; exact absurd bj (by decide)
  rw [nI_1]
  refine hb_nextPlane (by omega) (fun p p1 p2 p3 p4 => ⟨17, L22 17 p (by omega) p2 (by omega) p3 (fun j j1 j2 bj => ?_)⟩) (fun no => ⟨1, L22d (fun j j1 j2 bj => ?_) 0⟩)
  · have := p4 j (by omega) j2
    rw [this] at bj; exact absurd bj (by decide)
  · have := no j (by omega) j2
    rw [this] at bj; exact absurd bj (by decide)
end
theorem hb_rk_c {Q Q' : hb_V4 → Prop} (h : ∀ p, Q p ↔ Q' p) {r : Nat} (hr : hb_rk Q r) : hb_rk Q' r := by
  have : Q = Q' := funext (fun p => propext (h p))
  rw [← this]; exact hr
theorem hb_rk_3 {Q : hb_V4 → Prop} {r : Nat} (h : hb_rk Q r) : r ≤ 3 := by
  rcases h with ⟨e, _⟩ | ⟨e, _⟩ | ⟨e, _⟩ | ⟨e, _⟩ <;> omega
section
variable {cc bu cn mk kk : Int32} {fT fB : Int64} {a1 a2 a3 a4 a5 a6 a7 a8 a9 a10 a11 a12 a13 a14 : Nat → Int32} {a15 : Nat → Int64} {a16 a17 a18 a19 a20 a21 : Nat → Int32}
theorem hb_dimNow {post : Int32 → Prop} {cs : List hb_V4} (hP : hb_PV cs cc a1 a2 a3 a4) (hC : hb_CV cs cn a5 a6 a7 a8 a9) (H0 : hb_SL cs = [] → post (-1)) (H : ∀ r, hb_SL cs ≠ [] → hb_rk (hb_cq (hb_cbP ++ cs) (hb_SL cs)) r → post (nI (3 - r))) : wpX_dimensionNow post (cc, bu, cn, mk, kk, fT, fB, a1, a2, a3, a4, a5, a6, a7, a8, a9, a10, a11, a12, a13, a14, a15, a16, a17, a18, a19, a20, a21) := by
  obtain ⟨hcc, h8, hg, pl, hpa, hpl⟩ := hP
  have hl := hb_SL_len hg
  obtain ⟨hn, hc⟩ := hC
  unfold wpX_dimensionNow
  refine pk_eq (hb_SL cs).length 0 (fun e => H0 (List.length_eq_zero_iff.mp e)) (fun e => ?_) hn
  have hne : hb_SL cs ≠ [] := fun g => e (by rw [g]; rfl)
  refine pk_loop (σ := Int32) (fun n i s => wX_dimensionNow_13 post cc bu cn mk kk fT fB a1 a2 a3 a4 a5 a6 a7 a8 a9 a10 a11 a12 a13 a14 a15 a16 a17 a18 a19 a20 a21 n s (nI i)) (fun i s => ∀ q, q < 32 → (bt s q = true ↔ ∀ k, k < i → bt (a9 k) q = true)) (hb_SL cs).length 0 (-1) (by omega) (fun q hq => ⟨fun _ k hk => absurd hk (by omega), fun _ => b_m1 q hq⟩) ?_ ?_
  · intro n s h
    refine pk_le (hb_SL cs).length (hb_SL cs).length (fun _ => ?_) (fun z => absurd z (by omega)) hn
    have bits : ∀ q, q < 32 → (bt s q = true ↔ q < 6 + cs.length ∧ ∀ k ∈ hb_SL cs, hb_s (hb_at (hb_cbP ++ cs) q) k = 0) := by
      intro q hq
      rw [h q hq]
      constructor
      · intro g
        refine ⟨(((hc 0 (by omega)).2.2.2.2 q hq).mp (g 0 (by omega))).1, fun k hk => ?_⟩
        obtain ⟨i, hi, rfl⟩ := hb_mem_at hk
        exact (((hc i hi).2.2.2.2 q hq).mp (g i hi)).2
      · intro g k hk
        exact ((hc k hk).2.2.2.2 q hq).mpr ⟨g.1, g.2 _ (hb_at_mem hk)⟩
    refine hb_rankOf hpa (fun i hi bi => ?_) (fun r hr => ?_)
    · have := ((bits i (by omega)).mp bi).1
      rw [hpl i this]
      exact (hb_gp_all hg _ (hb_at_mem (by rw [List.length_append]; exact this))).2
    · have hr' : hb_rk (hb_cq (hb_cbP ++ cs) (hb_SL cs)) r := by
        refine hb_rk_c (fun p => ⟨fun g => ?_, fun g => ?_⟩) hr
        · obtain ⟨i, ⟨hi, bi⟩, rfl⟩ := g
          obtain ⟨g1, g2⟩ := (bits i (by omega)).mp bi
          rw [hpl i g1]
          exact ⟨hb_at_mem (by rw [List.length_append]; exact g1), g2⟩
        · obtain ⟨i, hi, rfl⟩ := hb_mem_at g.1
          rw [List.length_append] at hi
          have hi' : i < 6 + cs.length := hi
          exact ⟨i, ⟨by omega, (bits i (by omega)).mpr ⟨hi', g.2⟩⟩, hpl i hi'⟩
      have := H r hne hr'
      have le := hb_rk_3 hr
      rw [← pk_sub (a := 3) (b := r) le] at this
      exact this
  · intro n i s hi h hw
    refine pk_le (hb_SL cs).length i (fun z => absurd z (by omega)) (fun _ => ⟨pk_in i 64 (by omega), nm_r (by rw [nI_clamp (by omega)]) (nm_r (nI_1 i) (hw _ (fun q hq => ?_)))⟩) hn
    rw [b_and, Bool.and_eq_true, h q hq]
    constructor
    · intro g k hk
      by_cases e' : k = i
      · rw [e']; exact g.2
      · exact g.1 k (by omega)
    · intro g
      exact ⟨fun k hk => g k (by omega), g i (by omega)⟩
end
end
section
/-! edges and faces -/
section
variable {cc bu cn mk kk : Int32} {fT fB : Int64} {a1 a2 a3 a4 a5 a6 a7 a8 a9 a10 a11 a12 a13 a14 : Nat → Int32} {a15 : Nat → Int64} {a16 a17 a18 a19 a20 a21 : Nat → Int32}
theorem hb_dimension {post : Int32 → St1 → Prop} {cs : List hb_V4} (hP : hb_PV cs cc a1 a2 a3 a4) (hC : hb_CV cs cn a5 a6 a7 a8 a9) (H0 : hb_SL cs = [] → post (-1) (cc, 1, cn, mk, kk, fT, fB, a1, a2, a3, a4, a5, a6, a7, a8, a9, a10, a11, a12, a13, a14, a15, a16, a17, a18, a19, a20, a21)) (H : ∀ r, hb_SL cs ≠ [] → hb_rk (hb_cq (hb_cbP ++ cs) (hb_SL cs)) r → post (nI (3 - r)) (cc, 1, cn, mk, kk, fT, fB, a1, a2, a3, a4, a5, a6, a7, a8, a9, a10, a11, a12, a13, a14, a15, a16, a17, a18, a19, a20, a21)) : wpX_dimension post (cc, 1, cn, mk, kk, fT, fB, a1, a2, a3, a4, a5, a6, a7, a8, a9, a10, a11, a12, a13, a14, a15, a16, a17, a18, a19, a20, a21) := by
  unfold wpX_dimension
  unfold wpX_build
  exact br_f (by decide) (hb_dimNow hP hC H0 H)
theorem hb_hpsC (cs : List hb_V4) : ∀ q, q ∈ hb_cbP ++ cs ↔ ∃ i, i < 6 + cs.length ∧ hb_at (hb_cbP ++ cs) i = q := by
  intro q
  have len : (hb_cbP ++ cs).length = 6 + cs.length := by rw [List.length_append]; rfl
  constructor
  · intro h
    obtain ⟨i, hi, e⟩ := hb_mem_at h
    exact ⟨i, by omega, e⟩
  · intro h
    obtain ⟨i, hi, e⟩ := h
    rw [← e]; exact hb_at_mem (by omega)
theorem hb_injC (cs : List hb_V4) : ∀ i j, i < (hb_SL cs).length → j < (hb_SL cs).length → hb_at (hb_SL cs) i = hb_at (hb_SL cs) j → i = j := fun i j hi hj e => hb_at_inj (hb_SL_En cs) hi hj (by rw [e]; exact hb_par_refl _)
theorem hb_edges {post : Int32 → St1 → Prop} {cs : List hb_V4} (hP : hb_PV cs cc a1 a2 a3 a4) (hC : hb_CV cs cn a5 a6 a7 a8 a9) (H : post (nI (hb_E (hb_cbP ++ cs) (hb_SL cs))) (cc, 1, cn, mk, kk, fT, fB, a1, a2, a3, a4, a5, a6, a7, a8, a9, a10, a11, a12, a13, a14, a15, a16, a17, a18, a19, a20, a21)) : wpX_edges post (cc, 1, cn, mk, kk, fT, fB, a1, a2, a3, a4, a5, a6, a7, a8, a9, a10, a11, a12, a13, a14, a15, a16, a17, a18, a19, a20, a21) := by
  have hl := hb_SL_len hP.2.2.1
  have h8 := hP.2.1
  obtain ⟨hn, hc⟩ := hC
  unfold wpX_edges
  unfold wpX_build
  refine br_f (by decide) ?_
  refine pk_loop (σ := Unit) (fun n k _ => wX_edges_8 post cc 1 cn mk kk fT fB a1 a2 a3 a4 a5 a6 a7 a8 a9 a10 a11 a12 a13 a14 a15 a16 a17 a18 a19 a20 a21 n (nI (hb_sm k (fun k => hb_sm k (fun l => hb_i (hb_nb (hb_cbP ++ cs) (hb_SL cs) (hb_at (hb_SL cs) k) (hb_at (hb_SL cs) l)))))) (nI k)) (fun _ _ => True) (hb_SL cs).length 0 () (by omega) trivial ?_ ?_
  · intro n _ _
    exact pk_le (hb_SL cs).length (hb_SL cs).length (fun _ => H) (fun z => absurd z (by omega)) hn
  · intro n k _ hk _ hw
    refine pk_le (hb_SL cs).length k (fun z => absurd z (by omega)) (fun _ => ?_) hn
    refine pk_loop (σ := Unit) (fun n' l _ => wX_edges_18 post (wX_edges_8 post cc 1 cn mk kk fT fB a1 a2 a3 a4 a5 a6 a7 a8 a9 a10 a11 a12 a13 a14 a15 a16 a17 a18 a19 a20 a21 n) (nI k) cc 1 cn mk kk fT fB a1 a2 a3 a4 a5 a6 a7 a8 a9 a10 a11 a12 a13 a14 a15 a16 a17 a18 a19 a20 a21 n' (nI (hb_sm k (fun k => hb_sm k (fun l => hb_i (hb_nb (hb_cbP ++ cs) (hb_SL cs) (hb_at (hb_SL cs) k) (hb_at (hb_SL cs) l)))) + hb_sm l (fun l => hb_i (hb_nb (hb_cbP ++ cs) (hb_SL cs) (hb_at (hb_SL cs) k) (hb_at (hb_SL cs) l))))) (nI l)) (fun _ _ => True) k 0 () (by omega) trivial ?_ ?_
    · intro n' _ _
      exact pk_le k k (fun _ => nm_r (nI_1 k) (hw () trivial)) (fun z => absurd z (by omega))
    · intro n' l _ hlk _ hw'
      refine pk_le k l (fun z => absurd z (by omega)) (fun _ => ?_)
      have t := hw' () trivial
      refine hb_areNb hn (by omega) hk (by omega) hc (hb_hpsC cs) (fun i hi => by omega) (hb_injC cs) (fun nb => br_f (by decide) (nm_r (nI_1 _) (nm_r (nI_1 l) ?_))) (fun nb => br_t rfl (nm_r (nI_1 l) ?_))
      · have e : hb_sm (l + 1) (fun l => hb_i (hb_nb (hb_cbP ++ cs) (hb_SL cs) (hb_at (hb_SL cs) k) (hb_at (hb_SL cs) l))) = hb_sm l (fun l => hb_i (hb_nb (hb_cbP ++ cs) (hb_SL cs) (hb_at (hb_SL cs) k) (hb_at (hb_SL cs) l))) + 1 := by
          show hb_sm l _ + hb_i _ = _
          rw [hb_i_t nb]
        rw [e, ← Nat.add_assoc] at t
        exact t
      · have e : hb_sm (l + 1) (fun l => hb_i (hb_nb (hb_cbP ++ cs) (hb_SL cs) (hb_at (hb_SL cs) k) (hb_at (hb_SL cs) l))) = hb_sm l (fun l => hb_i (hb_nb (hb_cbP ++ cs) (hb_SL cs) (hb_at (hb_SL cs) k) (hb_at (hb_SL cs) l))) := by
          show hb_sm l _ + hb_i _ = _
          rw [hb_i_f nb]; rfl
        rw [e] at t
        exact t
theorem hb_liesOn {post : Int32 → Prop} {pl : Nat → hb_V4} {A : Nat → Prop} {k p : Nat} {v : hb_V4} (hk : k < 64) (hp : p < 32) (ap : A p) (hr : hb_rw pl A (a5 k) (a6 k) (a7 k) (a8 k) (a9 k) v) (H1 : hb_s (pl p) v = 0 → post 1) (H0 : hb_s (pl p) v ≠ 0 → post 0) : wpX_liesOn post (cc, bu, cn, mk, kk, fT, fB, a1, a2, a3, a4, a5, a6, a7, a8, a9, a10, a11, a12, a13, a14, a15, a16, a17, a18, a19, a20, a21) (nI k) (nI p) := by
  unfold wpX_liesOn
  refine ⟨pk_in k 64 hk, ?_⟩
  rw [nI_clamp (show k < 2 ^ 31 by omega)]
  have b := hr.2.2.2.2 p hp
  refine ek_if (hb_bit _ hp) (fun e => H0 (fun z => ?_)) (fun e => H1 ?_)
  · rw [b.mpr ⟨ap, z⟩] at e; exact absurd e (by decide)
  · exact (b.mp (by simpa using e)).2
theorem hb_isFace {post : Int32 → Prop} {cs : List hb_V4} {p : Nat} (hp : p < 6 + cs.length) (hP : hb_PV cs cc a1 a2 a3 a4) (hC : hb_CV cs cn a5 a6 a7 a8 a9) (H1 : hb_fac (hb_cbP ++ cs) (hb_SL cs) (hb_at (hb_cbP ++ cs) p) → post 1) (H0 : ¬ hb_fac (hb_cbP ++ cs) (hb_SL cs) (hb_at (hb_cbP ++ cs) p) → post 0) : wpX_isFace post (cc, bu, cn, mk, kk, fT, fB, a1, a2, a3, a4, a5, a6, a7, a8, a9, a10, a11, a12, a13, a14, a15, a16, a17, a18, a19, a20, a21) (nI p) := by
  obtain ⟨hcc, h8, hg, pl, hpa, hpl⟩ := hP
  have hl := hb_SL_len hg
  obtain ⟨hn, hc⟩ := hC
  have len : (hb_cbP ++ cs).length = 6 + cs.length := by rw [List.length_append]; rfl
  unfold wpX_isFace
  refine pk_loop (σ := Int32 × Nat) (fun n i s => wX_isFace_7 post (nI p) cc bu cn mk kk fT fB a1 a2 a3 a4 a5 a6 a7 a8 a9 a10 a11 a12 a13 a14 a15 a16 a17 a18 a19 a20 a21 n s.1 (nI s.2) (nI i)) (fun i s => s.2 ≤ i ∧ (s.2 = 0 ↔ ∀ k, k < i → hb_s (hb_at (hb_cbP ++ cs) p) (hb_at (hb_SL cs) k) ≠ 0) ∧ ∀ q, q < 32 → (bt s.1 q = true ↔ ∀ k, k < i → hb_s (hb_at (hb_cbP ++ cs) p) (hb_at (hb_SL cs) k) = 0 → bt (a9 k) q = true)) (hb_SL cs).length 0 (-1, 0) (by omega) ⟨Nat.le_refl _, ⟨fun _ k hk => absurd hk (by omega), fun _ => rfl⟩, fun q hq => ⟨fun _ k hk => absurd hk (by omega), fun _ => b_m1 q hq⟩⟩ ?_ ?_
  · intro n s h
    obtain ⟨h1, h2, h3⟩ := h
    refine pk_le (hb_SL cs).length (hb_SL cs).length (fun _ => ?_) (fun z => absurd z (by omega)) hn
    refine pk_le s.2 0 (fun z => H0 (fun hf => ?_)) (fun z => ?_)
    · obtain ⟨k, hk, e⟩ := hf.1
      obtain ⟨i, hi, rfl⟩ := hb_mem_at hk
      exact h2.mp (by omega) i hi e
    · have ex : ∃ k, k < (hb_SL cs).length ∧ hb_s (hb_at (hb_cbP ++ cs) p) (hb_at (hb_SL cs) k) = 0 := by
        refine Classical.byContradiction (fun hne => ?_)
        have := h2.mpr (fun k hk e => hne ⟨k, hk, e⟩)
        omega
      obtain ⟨k0, hk0, e0⟩ := ex
      have bits : ∀ q, q < 32 → (bt s.1 q = true ↔ q < 6 + cs.length ∧ hb_cl (hb_SL cs) (hb_at (hb_cbP ++ cs) p) (hb_at (hb_cbP ++ cs) q)) := by
        intro q hq
        rw [h3 q hq]
        constructor
        · intro g
          refine ⟨(((hc k0 hk0).2.2.2.2 q hq).mp (g k0 hk0 e0)).1, fun k hk e => ?_⟩
          obtain ⟨i, hi, rfl⟩ := hb_mem_at hk
          exact (((hc i hi).2.2.2.2 q hq).mp (g i hi e)).2
        · intro g k hk e
          exact ((hc k hk).2.2.2.2 q hq).mpr ⟨g.1, g.2 _ (hb_at_mem hk) e⟩
      have nzp : ∀ i, i < 6 + cs.length → hb_n (hb_at (hb_cbP ++ cs) i) ≠ hb_z := fun i hi => (hb_gp_all hg _ (hb_at_mem (by omega))).2
      refine hb_rankOf hpa (fun i hi bi => ?_) (fun r hr => ?_)
      · have := ((bits i (by omega)).mp bi).1
        rw [hpl i this]
        exact nzp i this
      · have mp : hb_at (hb_cbP ++ cs) p ∈ hb_cbP ++ cs := hb_at_mem (by omega)
        have hr' : hb_rk (fun q => q ∈ hb_cbP ++ cs ∧ hb_cl (hb_SL cs) (hb_at (hb_cbP ++ cs) p) q) r := by
          refine hb_rk_c (fun q => ⟨fun g => ?_, fun g => ?_⟩) hr
          · obtain ⟨i, ⟨hi, bi⟩, rfl⟩ := g
            obtain ⟨g1, g2⟩ := (bits i (by omega)).mp bi
            rw [hpl i g1]
            exact ⟨hb_at_mem (by omega), g2⟩
          · obtain ⟨g1, g2⟩ := g
            obtain ⟨i, hi, rfl⟩ := hb_mem_at g1
            exact ⟨i, ⟨by omega, (bits i (by omega)).mpr ⟨by omega, g2⟩⟩, hpl i (by omega)⟩
        have nzQ : ∀ q, (q ∈ hb_cbP ++ cs ∧ hb_cl (hb_SL cs) (hb_at (hb_cbP ++ cs) p) q) → hb_n q ≠ hb_z := fun q hq => (hb_gp_all hg q hq.1).2
        have r3 := hb_rk_3 hr
        refine pk_eq r 1 (fun e => H1 ⟨⟨_, hb_at_mem hk0, e0⟩, fun q hq hcl => ?_⟩) (fun e => H0 (fun hf => e ?_))
        · rw [e] at hr'
          rcases hr' with ⟨e', _⟩ | ⟨_, x, hx, all⟩ | ⟨e', _⟩ | ⟨e', _⟩
          · omega
          · exact hb_trans (nzQ x hx) (hb_crs_sw _ _ (all _ ⟨mp, fun _ _ e => e⟩)) (hb_crs_sw _ _ (all q ⟨hq, hcl⟩))
          · omega
          · omega
        · exact hb_rk_u nzQ hr' (Or.inr (Or.inl ⟨rfl, _, ⟨mp, fun _ _ e => e⟩, fun q hq => hf.2 q hq.1 hq.2⟩))
  · intro n i s hi h hw
    obtain ⟨h1, h2, h3⟩ := h
    refine pk_le (hb_SL cs).length i (fun z => absurd z (by omega)) (fun _ => ?_) hn
    refine hb_liesOn (by omega) (by omega) hp (hc i hi) (fun e => br_f (by decide) ⟨pk_in i 64 (by omega), nm_r (by rw [nI_clamp (by omega)]) (nm_r (nI_1 _) (nm_r (nI_1 i) (hw (s.1 &&& a9 i, s.2 + 1) ⟨by show s.2 + 1 ≤ i + 1; omega, ?_, fun q hq => ?_⟩)))⟩) (fun e => br_t rfl (nm_r (nI_1 i) (hw s ⟨by omega, ?_, fun q hq => ?_⟩)))
    · constructor
      · intro g; exact absurd g (by show s.2 + 1 ≠ 0; omega)
      · intro g; exact absurd e (g i (by omega))
    · show bt (s.1 &&& a9 i) q = true ↔ _
      rw [b_and, Bool.and_eq_true, h3 q hq]
      constructor
      · intro g k hk ek
        by_cases e' : k = i
        · rw [e']; exact g.2
        · exact g.1 k (by omega) ek
      · intro g
        exact ⟨fun k hk ek => g k (by omega) ek, g i (by omega) e⟩
    · rw [h2]
      constructor
      · intro g k hk
        by_cases e' : k = i
        · rw [e']; exact e
        · exact g k (by omega)
      · intro g k hk
        exact g k (by omega)
    · rw [h3 q hq]
      constructor
      · intro g k hk ek
        by_cases e' : k = i
        · rw [e'] at ek; exact absurd ek e
        · exact g k (by omega) ek
      · intro g k hk ek
        exact g k (by omega) ek
theorem hb_isKnown {post : Int32 → Prop} {cs : List hb_V4} {p : Nat} (hp : p < 6 + cs.length) (hP : hb_PV cs cc a1 a2 a3 a4) (hC : hb_CV cs cn a5 a6 a7 a8 a9) (H1 : ∀ j, j < p → hb_ss (hb_SL cs) (hb_at (hb_cbP ++ cs) p) (hb_at (hb_cbP ++ cs) j) → post 1) (H0 : (∀ j, j < p → ¬ hb_ss (hb_SL cs) (hb_at (hb_cbP ++ cs) p) (hb_at (hb_cbP ++ cs) j)) → post 0) : wpX_isKnownFace post (cc, bu, cn, mk, kk, fT, fB, a1, a2, a3, a4, a5, a6, a7, a8, a9, a10, a11, a12, a13, a14, a15, a16, a17, a18, a19, a20, a21) (nI p) := by
  obtain ⟨hcc, h8, hg, pl, hpa, hpl⟩ := hP
  have hl := hb_SL_len hg
  obtain ⟨hn, hc⟩ := hC
  unfold wpX_isKnownFace
  refine pk_loop (σ := Unit) (fun n j _ => wX_isKnownFace_2 post (nI p) cc bu cn mk kk fT fB a1 a2 a3 a4 a5 a6 a7 a8 a9 a10 a11 a12 a13 a14 a15 a16 a17 a18 a19 a20 a21 n (nI j)) (fun j _ => ∀ i, i < j → ¬ hb_ss (hb_SL cs) (hb_at (hb_cbP ++ cs) p) (hb_at (hb_cbP ++ cs) i)) p 0 () (by omega) (fun i hi => absurd hi (by omega)) ?_ ?_
  · intro n _ h
    exact pk_le p p (fun _ => H0 h) (fun z => absurd z (by omega))
  · intro n j _ hj h hw
    refine pk_le p j (fun z => absurd z (by omega)) (fun _ => ?_)
    have no : ¬ hb_ss (hb_SL cs) (hb_at (hb_cbP ++ cs) p) (hb_at (hb_cbP ++ cs) j) → wX_isKnownFace_2 post (nI p) cc bu cn mk kk fT fB a1 a2 a3 a4 a5 a6 a7 a8 a9 a10 a11 a12 a13 a14 a15 a16 a17 a18 a19 a20 a21 n (nI (j + 1)) := fun hns => hw () (fun i hi => by
      by_cases e : i = j
      · rw [e]; exact hns
      · exact h i (by omega))
    refine pk_loop (σ := Bool) (fun n' k s => wX_isKnownFace_12 post (wX_isKnownFace_2 post (nI p) cc bu cn mk kk fT fB a1 a2 a3 a4 a5 a6 a7 a8 a9 a10 a11 a12 a13 a14 a15 a16 a17 a18 a19 a20 a21 n) (nI p) (nI j) cc bu cn mk kk fT fB a1 a2 a3 a4 a5 a6 a7 a8 a9 a10 a11 a12 a13 a14 a15 a16 a17 a18 a19 a20 a21 n' (if s then 1 else 0) (nI k)) (fun k s => (s = true → ∀ i, i < k → (hb_s (hb_at (hb_cbP ++ cs) p) (hb_at (hb_SL cs) i) = 0 ↔ hb_s (hb_at (hb_cbP ++ cs) j) (hb_at (hb_SL cs) i) = 0)) ∧ (s = false → ¬ hb_ss (hb_SL cs) (hb_at (hb_cbP ++ cs) p) (hb_at (hb_cbP ++ cs) j))) (hb_SL cs).length 0 true (by omega) ⟨fun _ i hi => absurd hi (by omega), fun e => absurd e (by decide)⟩ ?_ ?_
    · intro n' s hs
      refine pk_le (hb_SL cs).length (hb_SL cs).length (fun _ => ?_) (fun z => absurd z (by omega)) hn
      unfold wX_isKnownFace_62
      cases s with
      | true =>
        refine br_f (by decide) (H1 j hj (fun k hk => ?_))
        obtain ⟨i, hi, rfl⟩ := hb_mem_at hk
        exact hs.1 rfl i hi
      | false => exact br_t rfl (nm_r (nI_1 j) (no (hs.2 rfl)))
    · intro n' k s hk hs hw'
      refine pk_le (hb_SL cs).length k (fun z => absurd z (by omega)) (fun _ => ?_) hn
      cases s with
      | false => exact br_t rfl (br_t rfl (nm_r (nI_1 j) (no (hs.2 rfl))))
      | true =>
        refine br_f (by decide) ?_
        have yes : (hb_s (hb_at (hb_cbP ++ cs) p) (hb_at (hb_SL cs) k) = 0 ↔ hb_s (hb_at (hb_cbP ++ cs) j) (hb_at (hb_SL cs) k) = 0) → wX_isKnownFace_12 post (wX_isKnownFace_2 post (nI p) cc bu cn mk kk fT fB a1 a2 a3 a4 a5 a6 a7 a8 a9 a10 a11 a12 a13 a14 a15 a16 a17 a18 a19 a20 a21 n) (nI p) (nI j) cc bu cn mk kk fT fB a1 a2 a3 a4 a5 a6 a7 a8 a9 a10 a11 a12 a13 a14 a15 a16 a17 a18 a19 a20 a21 n' 1 (nI (k + 1)) := fun e => hw' true ⟨fun _ i hi => by
          by_cases e' : i = k
          · rw [e']; exact e
          · exact hs.1 rfl i (by omega), fun e => absurd e (by decide)⟩
        have nope : ¬ (hb_s (hb_at (hb_cbP ++ cs) p) (hb_at (hb_SL cs) k) = 0 ↔ hb_s (hb_at (hb_cbP ++ cs) j) (hb_at (hb_SL cs) k) = 0) → wX_isKnownFace_12 post (wX_isKnownFace_2 post (nI p) cc bu cn mk kk fT fB a1 a2 a3 a4 a5 a6 a7 a8 a9 a10 a11 a12 a13 a14 a15 a16 a17 a18 a19 a20 a21 n) (nI p) (nI j) cc bu cn mk kk fT fB a1 a2 a3 a4 a5 a6 a7 a8 a9 a10 a11 a12 a13 a14 a15 a16 a17 a18 a19 a20 a21 n' 0 (nI (k + 1)) := fun e => hw' false ⟨fun e => absurd e (by decide), fun _ hh => e (hh _ (hb_at_mem hk))⟩
        refine hb_liesOn (by omega) (by omega) hp (hc k hk) (fun e1 => ?_) (fun e1 => ?_)
        · refine hb_liesOn (by omega) (by omega) (show j < 6 + cs.length by omega) (hc k hk) (fun e2 => ?_) (fun e2 => ?_)
          · exact br_t rfl (nm_r (nI_1 k) (yes ⟨fun _ => e2, fun _ => e1⟩))
          · exact br_f (by decide) (nm_r (nI_1 k) (nope (fun hh => e2 (hh.mp e1))))
        · refine hb_liesOn (by omega) (by omega) (show j < 6 + cs.length by omega) (hc k hk) (fun e2 => ?_) (fun e2 => ?_)
          · exact br_f (by decide) (nm_r (nI_1 k) (nope (fun hh => e1 (hh.mpr e2))))
          · exact br_t rfl (nm_r (nI_1 k) (yes ⟨fun g => absurd g e1, fun g => absurd g e2⟩))
theorem hb_faces {post : Int32 → St1 → Prop} {cs : List hb_V4} (hP : hb_PV cs cc a1 a2 a3 a4) (hC : hb_CV cs cn a5 a6 a7 a8 a9) (H0 : hb_SL cs = [] → post 0 (cc, 1, cn, mk, kk, fT, fB, a1, a2, a3, a4, a5, a6, a7, a8, a9, a10, a11, a12, a13, a14, a15, a16, a17, a18, a19, a20, a21)) (H : ∀ r, hb_SL cs ≠ [] → hb_rk (hb_cq (hb_cbP ++ cs) (hb_SL cs)) r → post (nI (if r = 0 then hb_F (hb_cbP ++ cs) (hb_SL cs) else if r = 1 then 1 else 0)) (cc, 1, cn, mk, kk, fT, fB, a1, a2, a3, a4, a5, a6, a7, a8, a9, a10, a11, a12, a13, a14, a15, a16, a17, a18, a19, a20, a21)) : wpX_faces post (cc, 1, cn, mk, kk, fT, fB, a1, a2, a3, a4, a5, a6, a7, a8, a9, a10, a11, a12, a13, a14, a15, a16, a17, a18, a19, a20, a21) := by
  have hl := hb_SL_len hP.2.2.1
  have h8 := hP.2.1
  have hcc := hP.1
  have len : (hb_cbP ++ cs).length = 6 + cs.length := by rw [List.length_append]; rfl
  unfold wpX_faces
  unfold wpX_build
  refine br_f (by decide) (hb_dimNow hP hC (fun e => br_f (by decide) (br_f (by decide) (H0 e))) (fun r hne hr => ?_))
  have hH := H r hne hr
  have r3 := hb_rk_3 hr
  refine pk_le 3 (3 - r) (fun z => ?_) (fun z => ?_)
  · have r0 : r = 0 := by omega
    rw [if_pos r0] at hH
    refine pk_loop (σ := Unit) (fun n i _ => wX_faces_29 post cc 1 cn mk kk fT fB a1 a2 a3 a4 a5 a6 a7 a8 a9 a10 a11 a12 a13 a14 a15 a16 a17 a18 a19 a20 a21 n (nI (hb_sm i (fun i => hb_i (hb_Fac (hb_cbP ++ cs) (hb_SL cs) i)))) (nI i)) (fun _ _ => True) (6 + cs.length) 0 () (by omega) trivial ?_ ?_
    · intro n _ _
      refine pk_le (6 + cs.length) (6 + cs.length) (fun _ => ?_) (fun z => absurd z (by omega)) (by rw [hcc]; exact nI_add 6 _)
      unfold hb_F at hH
      rw [len] at hH
      exact hH
    · intro n i _ hi _ hw
      refine pk_le (6 + cs.length) i (fun z => absurd z (by omega)) (fun _ => ?_) (by rw [hcc]; exact nI_add 6 _)
      have t := hw () trivial
      have e1 : hb_Fac (hb_cbP ++ cs) (hb_SL cs) i → hb_sm (i + 1) (fun i => hb_i (hb_Fac (hb_cbP ++ cs) (hb_SL cs) i)) = hb_sm i (fun i => hb_i (hb_Fac (hb_cbP ++ cs) (hb_SL cs) i)) + 1 := fun f => by
        show hb_sm i _ + hb_i _ = _
        rw [hb_i_t f]
      have e0 : ¬ hb_Fac (hb_cbP ++ cs) (hb_SL cs) i → hb_sm (i + 1) (fun i => hb_i (hb_Fac (hb_cbP ++ cs) (hb_SL cs) i)) = hb_sm i (fun i => hb_i (hb_Fac (hb_cbP ++ cs) (hb_SL cs) i)) := fun f => by
        show hb_sm i _ + hb_i _ = _
        rw [hb_i_f f]; rfl
      refine hb_isFace hi hP hC (fun f => br_f (by decide) ?_) (fun f => br_t rfl (nm_r (nI_1 i) ?_))
      · refine hb_isKnown hi hP hC (fun j hj hs => br_f (by decide) (nm_r (nI_1 i) ?_)) (fun no => br_t rfl (nm_r (nI_1 _) (nm_r (nI_1 i) ?_)))
        · rw [e0 (fun F => F.2 j hj hs)] at t; exact t
        · rw [e1 ⟨f, no⟩] at t; exact t
      · rw [e0 (fun F => f F.1)] at t; exact t
  · have r0 : r ≠ 0 := by omega
    rw [if_neg r0] at hH
    refine pk_eq (3 - r) 2 (fun e => ?_) (fun e => ?_)
    · rw [if_pos (by omega)] at hH; exact hH
    · rw [if_neg (by omega)] at hH; exact hH
end
end
section
/-! greatest values -/
/-- the normal with number m -/
def hb_nm (m : Nat) : hb_V3 := (((m % 9 : Nat) : Int) - 4, ((m / 9 % 9 : Nat) : Int) - 4, ((m / 81 : Nat) : Int) - 4)
theorem hb_nm_b {m : Nat} (hm : m ≤ 728) : (-4 ≤ (hb_nm m).1 ∧ (hb_nm m).1 ≤ 4) ∧ (-4 ≤ (hb_nm m).2.1 ∧ (hb_nm m).2.1 ≤ 4) ∧ (-4 ≤ (hb_nm m).2.2 ∧ (hb_nm m).2.2 ≤ 4) := by
  simp only [hb_nm]; omega
theorem hb_nm_e {m : Nat} (hm : m ≤ 728) : (nI m - nI m / 9 * 9) - 4 = hb_I (hb_nm m).1 ∧ ((nI m / 9) - (nI m / 9) / 9 * 9) - 4 = hb_I (hb_nm m).2.1 ∧ (nI m / 81) - 4 = hb_I (hb_nm m).2.2 := by
  have d9 : nI m / 9 = nI (m / 9) := pk_div (d := 9) (by omega) (by omega) (by omega)
  have d81 : nI m / 81 = nI (m / 81) := pk_div (d := 81) (by omega) (by omega) (by omega)
  have four : (4 : Int32) = hb_I 4 := by decide
  have r1 : nI m - nI m / 9 * 9 = nI (m % 9) := pk_rem (d := 9) (by omega) (by omega) (by omega)
  have r2 : nI (m / 9) - nI (m / 9) / 9 * 9 = nI (m / 9 % 9) := pk_rem (d := 9) (by omega) (by omega) (by omega)
  refine ⟨?_, ?_, ?_⟩
  · rw [r1, four, hb_I_n, hb_I_sub]; rfl
  · rw [d9, r2, four, hb_I_n, hb_I_sub]; rfl
  · rw [d81, four, hb_I_n, hb_I_sub]; rfl
def hb_mf (c : hb_V3) (s : Int × Int) (v : hb_V4) : Int × Int := if s.2 ≤ 0 then (hb_dot c (hb_n v), hb_w v) else if s.1 * hb_w v < hb_dot c (hb_n v) * s.2 then (hb_dot c (hb_n v), hb_w v) else s
def hb_mx (c : hb_V3) (L : List hb_V4) : Int × Int := L.foldl (hb_mf c) (0, 0)
theorem hb_mx_s (c : hb_V3) (L : List hb_V4) (v : hb_V4) : hb_mx c (L ++ [v]) = hb_mf c (hb_mx c L) v := by
  unfold hb_mx
  rw [List.foldl_append]; rfl
theorem hb_mx_ok (c : hb_V3) : ∀ L : List hb_V4, (∀ v ∈ L, 0 < hb_w v) → (L = [] ∧ hb_mx c L = (0, 0)) ∨ (0 < (hb_mx c L).2 ∧ (∃ v ∈ L, (hb_mx c L).1 = hb_dot c (hb_n v) ∧ (hb_mx c L).2 = hb_w v) ∧ ∀ v ∈ L, hb_dot c (hb_n v) * (hb_mx c L).2 ≤ (hb_mx c L).1 * hb_w v) := by
  refine hb_rev (fun _ => Or.inl ⟨rfl, rfl⟩) (fun L v ih hw => Or.inr ?_)
  have wv : 0 < hb_w v := hw v (by simp)
  have mv : v ∈ L ++ [v] := by simp
  have ih' := ih (fun x hx => hw x (List.mem_append_left _ hx))
  rw [hb_mx_s]
  have self : ∀ x ∈ L ++ [v], (∀ x ∈ L, hb_dot c (hb_n x) * hb_w v ≤ hb_dot c (hb_n v) * hb_w x) → hb_dot c (hb_n x) * hb_w v ≤ hb_dot c (hb_n v) * hb_w x := by
    intro x hx hL
    rcases List.mem_append.mp hx with g | g
    · exact hL x g
    · rw [List.mem_singleton.mp g]; exact Int.le_refl _
  rcases ih' with ⟨e, e'⟩ | ⟨h1, ⟨u, hu, hu1, hu2⟩, h3⟩
  · rw [e']
    have : hb_mf c (0, 0) v = (hb_dot c (hb_n v), hb_w v) := by unfold hb_mf; rw [if_pos (by decide)]
    rw [this]
    exact ⟨wv, ⟨v, mv, rfl, rfl⟩, fun x hx => self x hx (fun y hy => by rw [e] at hy; cases hy)⟩
  · by_cases hc : (hb_mx c L).1 * hb_w v < hb_dot c (hb_n v) * (hb_mx c L).2
    · have : hb_mf c (hb_mx c L) v = (hb_dot c (hb_n v), hb_w v) := by unfold hb_mf; rw [if_neg (by omega), if_pos hc]
      rw [this]
      exact ⟨wv, ⟨v, mv, rfl, rfl⟩, fun x hx => self x hx (fun y hy => hb_rat (hw y (List.mem_append_left _ hy)) h1 wv (h3 y hy) (Int.le_of_lt hc))⟩
    · have : hb_mf c (hb_mx c L) v = hb_mx c L := by unfold hb_mf; rw [if_neg (by omega), if_neg hc]
      rw [this]
      refine ⟨h1, ⟨u, List.mem_append_left _ hu, hu1, hu2⟩, fun x hx => ?_⟩
      rcases List.mem_append.mp hx with g | g
      · exact h3 x g
      · rw [List.mem_singleton.mp g]; omega
def hb_mg (c : hb_V3) (L : List hb_V4) : Int := (Int.gcd (hb_mx c L).1 (hb_mx c L).2 : Int)
def hb_mT (c : hb_V3) (L : List hb_V4) : Int := (hb_mx c L).1 / hb_mg c L
def hb_mB (c : hb_V3) (L : List hb_V4) : Int := (hb_mx c L).2 / hb_mg c L
theorem hb_dv {v : hb_V4} {c : hb_V3} (hv : hb_Bd v) (c1 : -4 ≤ c.1 ∧ c.1 ≤ 4) (c2 : -4 ≤ c.2.1 ∧ c.2.1 ≤ 4) (c3 : -4 ≤ c.2.2 ∧ c.2.2 ≤ 4) : -46080 ≤ hb_dot c (hb_n v) ∧ hb_dot c (hb_n v) ≤ 46080 := by
  obtain ⟨v1, v2, v3, _⟩ := hv
  have m1 := hb_mb (by omega) c1 v1
  have m2 := hb_mb (by omega) c2 v2
  have m3 := hb_mb (by omega) c3 v3
  simp only [hb_dot, hb_n]; omega
/-- what the law uses of the greatest value -/
theorem hb_m_ok {L : List hb_V4} {c : hb_V3} (hL : ∀ v ∈ L, hb_Bd v) (hne : L ≠ []) (c1 : -4 ≤ c.1 ∧ c.1 ≤ 4) (c2 : -4 ≤ c.2.1 ∧ c.2.1 ≤ 4) (c3 : -4 ≤ c.2.2 ∧ c.2.2 ≤ 4) :
    0 < hb_mg c L ∧ (hb_mx c L).1 = hb_mg c L * hb_mT c L ∧ (hb_mx c L).2 = hb_mg c L * hb_mB c L ∧ (-46080 ≤ hb_mT c L ∧ hb_mT c L ≤ 46080) ∧ (1 ≤ hb_mB c L ∧ hb_mB c L ≤ 384) ∧ (-46080 ≤ (hb_mx c L).1 ∧ (hb_mx c L).1 ≤ 46080) ∧ (1 ≤ (hb_mx c L).2 ∧ (hb_mx c L).2 ≤ 384) ∧
    (∀ v ∈ L, hb_dot c (hb_n v) * hb_mB c L ≤ hb_mT c L * hb_w v) ∧ (∃ v ∈ L, hb_dot c (hb_n v) * hb_mB c L = hb_mT c L * hb_w v) := by
  have hw : ∀ v ∈ L, 0 < hb_w v := fun v hv => by have := (hL v hv).2.2.2.1; simp only [hb_w]; omega
  rcases hb_mx_ok c L hw with ⟨e, _⟩ | ⟨h1, ⟨u, hu, hu1, hu2⟩, h3⟩
  · exact absurd e hne
  · have gd1 : hb_mg c L ∣ (hb_mx c L).1 := Int.gcd_dvd_left ..
    have gd2 : hb_mg c L ∣ (hb_mx c L).2 := Int.gcd_dvd_right ..
    have g0 : 0 < hb_mg c L := by
      have : 0 ≤ hb_mg c L := Int.natCast_nonneg _
      rcases Int.lt_or_eq_of_le this with g | g
      · exact g
      · rw [← g] at gd2
        have := Int.zero_dvd.mp gd2
        omega
    have e1 : (hb_mx c L).1 = hb_mg c L * hb_mT c L := (Int.mul_ediv_cancel' gd1).symm
    have e2 : (hb_mx c L).2 = hb_mg c L * hb_mB c L := (Int.mul_ediv_cancel' gd2).symm
    have b1 := hb_dv (hL u hu) c1 c2 c3
    have b2 := (hL u hu).2.2.2
    have bT := hb_tb (A := 46080) (x := hb_mT c L) (t := hb_mg c L) (by omega) e1 (by omega)
    have bB := hb_tb (A := 384) (x := hb_mB c L) (t := hb_mg c L) (by omega) e2 (by simp only [hb_w] at hu2; omega)
    have pB : 0 < hb_mB c L := by
      rcases Int.lt_or_le 0 (hb_mB c L) with g | g
      · exact g
      · have := Int.mul_nonpos_of_nonneg_of_nonpos (Int.le_of_lt g0) g
        omega
    have le : ∀ v ∈ L, hb_dot c (hb_n v) * hb_mB c L ≤ hb_mT c L * hb_w v := by
      intro v hv
      have := h3 v hv
      have t1 : hb_dot c (hb_n v) * (hb_mx c L).2 = hb_dot c (hb_n v) * hb_mB c L * hb_mg c L := by rw [e2]; grind
      have t2 : (hb_mx c L).1 * hb_w v = hb_mT c L * hb_w v * hb_mg c L := by rw [e1]; grind
      rw [t1, t2] at this
      exact Int.le_of_mul_le_mul_right this g0
    refine ⟨g0, e1, e2, bT, ⟨by omega, by omega⟩, by omega, by simp only [hb_w] at hu2; omega, le, u, hu, ?_⟩
    have t : hb_mg c L * (hb_dot c (hb_n u) * hb_mB c L) = hb_mg c L * (hb_mT c L * hb_w u) := by
      have t1 : hb_mg c L * (hb_dot c (hb_n u) * hb_mB c L) = hb_dot c (hb_n u) * (hb_mg c L * hb_mB c L) := by grind
      have t2 : hb_mg c L * (hb_mT c L * hb_w u) = hb_mg c L * hb_mT c L * hb_w u := by grind
      rw [t1, t2, ← e1, ← e2, hu1, hu2]
    exact Int.eq_of_mul_eq_mul_left (by omega) t
section
variable {cc bu cn mk kk : Int32} {fT fB : Int64} {a1 a2 a3 a4 a5 a6 a7 a8 a9 a10 a11 a12 a13 a14 : Nat → Int32} {a15 : Nat → Int64} {a16 a17 a18 a19 a20 a21 : Nat → Int32}
theorem hb_findMost {post : Int32 → St1 → Prop} {cs : List hb_V4} {m : Nat} (hm : m ≤ 728) (hP : hb_PV cs cc a1 a2 a3 a4) (hB : bu = 0 ∨ (bu = 1 ∧ hb_CV cs cn a5 a6 a7 a8 a9))
    (H0 : hb_SL cs = [] → ∀ cn mk fT fB a5 a6 a7 a8 a9 a10 a11 a12 a13 a14 a15, hb_CV cs cn a5 a6 a7 a8 a9 → post 0 (cc, 1, cn, mk, kk, fT, fB, a1, a2, a3, a4, a5, a6, a7, a8, a9, a10, a11, a12, a13, a14, a15, a16, a17, a18, a19, a20, a21))
    (H1 : hb_SL cs ≠ [] → ∀ cn mk a5 a6 a7 a8 a9 a10 a11 a12 a13 a14 a15, hb_CV cs cn a5 a6 a7 a8 a9 → post 1 (cc, 1, cn, mk, kk, hb_L (hb_mT (hb_nm m) (hb_SL cs)), hb_L (hb_mB (hb_nm m) (hb_SL cs)), a1, a2, a3, a4, a5, a6, a7, a8, a9, a10, a11, a12, a13, a14, a15, a16, a17, a18, a19, a20, a21)) : wpX_findMost post (cc, bu, cn, mk, kk, fT, fB, a1, a2, a3, a4, a5, a6, a7, a8, a9, a10, a11, a12, a13, a14, a15, a16, a17, a18, a19, a20, a21) (nI m) := by
  have hg := hP.2.2.1
  have hl := hb_SL_len hg
  have h8 := hP.2.1
  have hBd := hb_SL_Bd hg
  obtain ⟨c1, c2, c3⟩ := hb_nm_b hm
  obtain ⟨e1, e2, e3⟩ := hb_nm_e hm
  have hw : ∀ v ∈ hb_SL cs, 0 < hb_w v := fun v hv => by have := (hBd v hv).2.2.2.1; simp only [hb_w]; omega
  unfold wpX_findMost
  refine hb_build hP hB (fun cn mk a5 a6 a7 a8 a9 a10 a11 a12 a13 a14 a15 hC => ?_)
  obtain ⟨hn, hc⟩ := hC
  have n9 : ¬ (9 : Int32) = 0 := by decide
  have n81 : ¬ (81 : Int32) = 0 := by decide
  refine ⟨n9, nm_r e1 ⟨n9, n9, nm_r e2 ⟨n81, nm_r e3 ?_⟩⟩⟩
  have tk : ∀ i (hi : i < (hb_SL cs).length), (hb_SL cs).take (i + 1) = (hb_SL cs).take i ++ [hb_at (hb_SL cs) i] := fun i hi => by rw [hb_at_e hi]; exact (List.take_append_getElem hi).symm
  have R4 : ∀ x : Int, -4 ≤ x ∧ x ≤ 4 → hb_R x := by intro x h; unfold hb_R; omega
  refine pk_loop (σ := Int64) (fun n i s => wX_findMost_37 post (hb_I (hb_nm m).1) (hb_I (hb_nm m).2.1) (hb_I (hb_nm m).2.2) cc 1 cn mk kk a1 a2 a3 a4 a5 a6 a7 a8 a9 a10 a11 a12 a13 a14 a15 a16 a17 a18 a19 a20 a21 n (nI i) s (hb_L (hb_mx (hb_nm m) ((hb_SL cs).take i)).2)) (fun i s => 0 < i → s = hb_L (hb_mx (hb_nm m) ((hb_SL cs).take i)).1) (hb_SL cs).length 0 fT (by omega) (fun h => absurd h (by omega)) ?_ ?_
  · intro n s hs
    refine pk_le (hb_SL cs).length (hb_SL cs).length (fun _ => ?_) (fun z => absurd z (by omega)) hn
    rw [List.take_length] at hs ⊢
    by_cases hne : hb_SL cs = []
    · refine br_t (by rw [hne]; rfl) (H0 hne _ _ _ _ _ _ _ _ _ _ _ _ _ _ _ ⟨hn, hc⟩)
    · obtain ⟨g0, q1, q2, bT, bB, bx, by', _, _⟩ := hb_m_ok hBd hne c1 c2 c3
      have nz : ¬ hb_L (hb_mx (hb_nm m) (hb_SL cs)).2 = 0 := by
        rw [hb_L0, hb_L_eq (by unfold hb_RL; omega) hb_RL0]; omega
      rw [hs (List.length_pos_iff.mpr hne)]
      refine br_f nz (hb_gcd (by omega) (by omega) ?_)
      have gle : hb_mg (hb_nm m) (hb_SL cs) ≤ 384 := by
        have := Int.le_of_dvd (show 0 < (hb_mx (hb_nm m) (hb_SL cs)).2 by omega) ⟨_, q2⟩
        omega
      have ng : ¬ hb_L (hb_mg (hb_nm m) (hb_SL cs)) = 0 := by
        rw [hb_L0, hb_L_eq (by unfold hb_RL; omega) hb_RL0]; omega
      have quo : ∀ x y : Int, -46080 ≤ x ∧ x ≤ 46080 → x = hb_mg (hb_nm m) (hb_SL cs) * y → hb_L x / hb_L (hb_mg (hb_nm m) (hb_SL cs)) = hb_L (x / hb_mg (hb_nm m) (hb_SL cs)) := by
        intro x y hx e
        rw [hb_L_div (by unfold hb_RL; omega) (by unfold hb_RL; omega) (by omega), Int.tdiv_eq_ediv_of_dvd ⟨y, e⟩]
      exact ⟨ng, nm_r (quo _ _ bx q1) ⟨ng, nm_r (quo _ _ (by omega) q2) (H1 hne _ _ _ _ _ _ _ _ _ _ _ _ _ ⟨hn, hc⟩)⟩⟩
  · intro n i s hi hs hwp
    have ii : vp_in (nI i) 64 := pk_in i 64 (by omega)
    have ei := nI_clamp (show i < 2 ^ 31 by omega)
    obtain ⟨r1, r2, r3, r4, _⟩ := hc i hi
    have bv := hBd _ (hb_at_mem hi)
    have dv := hb_dv bv c1 c2 c3
    obtain ⟨b1, b2, b3, b4⟩ := bv
    have val : (hb_I (hb_nm m).1).toInt64 * (a5 i).toInt64 + (hb_I (hb_nm m).2.1).toInt64 * (a6 i).toInt64 + (hb_I (hb_nm m).2.2).toInt64 * (a7 i).toInt64 = hb_L (hb_dot (hb_nm m) (hb_n (hb_at (hb_SL cs) i))) := by
      rw [r1, r2, r3, hb_I_L (R4 _ c1), hb_I_L (R4 _ c2), hb_I_L (R4 _ c3), hb_I_L (hb_R_x b1), hb_I_L (hb_R_x b2), hb_I_L (hb_R_x b3), hb_L_mul, hb_L_mul, hb_L_mul, hb_L_add, hb_L_add]; rfl
    have wv : (a8 i).toInt64 = hb_L (hb_w (hb_at (hb_SL cs) i)) := by rw [r4, hb_I_L (hb_R_w b4)]; rfl
    have emx : hb_mx (hb_nm m) ((hb_SL cs).take (i + 1)) = hb_mf (hb_nm m) (hb_mx (hb_nm m) ((hb_SL cs).take i)) (hb_at (hb_SL cs) i) := by rw [tk i hi, hb_mx_s]
    have t := fun s' h => hwp s' h
    rw [emx] at t
    refine pk_le (hb_SL cs).length i (fun z => absurd z (by omega)) (fun _ => ⟨ii, ii, ii, nm_r (e' := hb_L (hb_dot (hb_nm m) (hb_n (hb_at (hb_SL cs) i)))) (by rw [ei]; exact val) ?_⟩) hn
    -- the new best
    have upd' : hb_mf (hb_nm m) (hb_mx (hb_nm m) ((hb_SL cs).take i)) (hb_at (hb_SL cs) i) = (hb_dot (hb_nm m) (hb_n (hb_at (hb_SL cs) i)), hb_w (hb_at (hb_SL cs) i)) → wX_findMost_120 post (wX_findMost_37 post (hb_I (hb_nm m).1) (hb_I (hb_nm m).2.1) (hb_I (hb_nm m).2.2) cc 1 cn mk kk a1 a2 a3 a4 a5 a6 a7 a8 a9 a10 a11 a12 a13 a14 a15 a16 a17 a18 a19 a20 a21 n) (hb_I (hb_nm m).1) (hb_I (hb_nm m).2.1) (hb_I (hb_nm m).2.2) (nI i) (hb_L (hb_dot (hb_nm m) (hb_n (hb_at (hb_SL cs) i)))) cc 1 cn mk kk s (hb_L (hb_mx (hb_nm m) ((hb_SL cs).take i)).2) a1 a2 a3 a4 a5 a6 a7 a8 a9 a10 a11 a12 a13 a14 a15 a16 a17 a18 a19 a20 a21 := by
      intro e
      unfold wX_findMost_120
      refine ⟨ii, nm_r (e' := hb_L (hb_w (hb_at (hb_SL cs) i))) (by rw [ei]; exact wv) (nm_r (nI_1 i) ?_)⟩
      rw [e] at t
      exact t _ (fun _ => rfl)
    rcases hb_mx_ok (hb_nm m) ((hb_SL cs).take i) (fun v hv => hw v (List.mem_of_mem_take hv)) with ⟨e, e'⟩ | ⟨h1, ⟨u, hu, hu1, hu2⟩, h3⟩
    · rw [e'] at upd' ⊢
      exact br_t (by decide) (upd' (by unfold hb_mf; rw [if_pos (by decide)]))
    · have bu' := hBd u (List.mem_of_mem_take hu)
      have du := hb_dv bu' c1 c2 c3
      have wu := bu'.2.2.2
      have hu2' : (hb_mx (hb_nm m) ((hb_SL cs).take i)).2 = u.2.2.2 := hu2
      have i0 : 0 < i := by
        rcases Nat.eq_zero_or_pos i with g | g
        · rw [g] at hu; cases hu
        · exact g
      have hs' := hs i0
      have p1 := hb_mb (A := 46080) (B := 384) (by omega) (x := (hb_mx (hb_nm m) ((hb_SL cs).take i)).1) (y := hb_w (hb_at (hb_SL cs) i)) (by omega) (by simp only [hb_w]; omega)
      have p2 := hb_mb (A := 46080) (B := 384) (by omega) (x := hb_dot (hb_nm m) (hb_n (hb_at (hb_SL cs) i))) (y := (hb_mx (hb_nm m) ((hb_SL cs).take i)).2) (by omega) (by omega)
      refine br_f (by rw [hb_L0, hb_L_le (by unfold hb_RL; omega) hb_RL0]; omega) ⟨ii, ?_⟩
      rw [ei, wv, hs', hb_L_mul, hb_L_mul]
      rw [hs'] at upd'
      refine ek_if (hb_L_lt (by unfold hb_RL; omega) (by unfold hb_RL; omega)) (fun z => upd' (by unfold hb_mf; rw [if_neg (by omega), if_pos z])) (fun z => nm_r (nI_1 i) ?_)
      have e : hb_mf (hb_nm m) (hb_mx (hb_nm m) ((hb_SL cs).take i)) (hb_at (hb_SL cs) i) = hb_mx (hb_nm m) ((hb_SL cs).take i) := by unfold hb_mf; rw [if_neg (by omega), if_neg z]
      rw [e] at t
      exact t _ (fun _ => rfl)
/-- top and bottom of the greatest value, as the class answers them -/
def hb_aT (m : Nat) (L : List hb_V4) : Int32 := if L = [] then -1000002 else hb_I (hb_mT (hb_nm m) L)
def hb_aB (m : Nat) (L : List hb_V4) : Int32 := if L = [] then -1000002 else hb_I (hb_mB (hb_nm m) L)
theorem hb_mostTop {post : Int32 → St1 → Prop} {cs : List hb_V4} {m : Nat} (hm : m ≤ 728) (hP : hb_PV cs cc a1 a2 a3 a4) (hB : bu = 0 ∨ (bu = 1 ∧ hb_CV cs cn a5 a6 a7 a8 a9))
    (H : ∀ cn mk fT fB a5 a6 a7 a8 a9 a10 a11 a12 a13 a14 a15, hb_CV cs cn a5 a6 a7 a8 a9 → post (hb_aT m (hb_SL cs)) (cc, 1, cn, mk, kk, fT, fB, a1, a2, a3, a4, a5, a6, a7, a8, a9, a10, a11, a12, a13, a14, a15, a16, a17, a18, a19, a20, a21)) : wpX_mostTop post (cc, bu, cn, mk, kk, fT, fB, a1, a2, a3, a4, a5, a6, a7, a8, a9, a10, a11, a12, a13, a14, a15, a16, a17, a18, a19, a20, a21) (nI m) := by
  unfold wpX_mostTop
  refine br_f (nI_pos (by omega)) (pk_le m 728 (fun _ => hb_findMost hm hP hB (fun e cn mk fT fB a5 a6 a7 a8 a9 a10 a11 a12 a13 a14 a15 hC => br_t rfl ?_) (fun e cn mk a5 a6 a7 a8 a9 a10 a11 a12 a13 a14 a15 hC => br_f (by decide) ?_)) (fun z => absurd z (by omega)))
  · have := H cn mk fT fB a5 a6 a7 a8 a9 a10 a11 a12 a13 a14 a15 hC
    unfold hb_aT at this
    rw [if_pos e] at this
    exact this
  · have := H cn mk (hb_L (hb_mT (hb_nm m) (hb_SL cs))) (hb_L (hb_mB (hb_nm m) (hb_SL cs))) a5 a6 a7 a8 a9 a10 a11 a12 a13 a14 a15 hC
    unfold hb_aT at this
    rw [if_neg e, ← hb_L_I] at this
    exact this
theorem hb_mostBottom {post : Int32 → St1 → Prop} {cs : List hb_V4} {m : Nat} (hm : m ≤ 728) (hP : hb_PV cs cc a1 a2 a3 a4) (hB : bu = 0 ∨ (bu = 1 ∧ hb_CV cs cn a5 a6 a7 a8 a9))
    (H : ∀ cn mk fT fB a5 a6 a7 a8 a9 a10 a11 a12 a13 a14 a15, hb_CV cs cn a5 a6 a7 a8 a9 → post (hb_aB m (hb_SL cs)) (cc, 1, cn, mk, kk, fT, fB, a1, a2, a3, a4, a5, a6, a7, a8, a9, a10, a11, a12, a13, a14, a15, a16, a17, a18, a19, a20, a21)) : wpX_mostBottom post (cc, bu, cn, mk, kk, fT, fB, a1, a2, a3, a4, a5, a6, a7, a8, a9, a10, a11, a12, a13, a14, a15, a16, a17, a18, a19, a20, a21) (nI m) := by
  unfold wpX_mostBottom
  refine br_f (nI_pos (by omega)) (pk_le m 728 (fun _ => hb_findMost hm hP hB (fun e cn mk fT fB a5 a6 a7 a8 a9 a10 a11 a12 a13 a14 a15 hC => br_t rfl ?_) (fun e cn mk a5 a6 a7 a8 a9 a10 a11 a12 a13 a14 a15 hC => br_f (by decide) ?_)) (fun z => absurd z (by omega)))
  · have := H cn mk fT fB a5 a6 a7 a8 a9 a10 a11 a12 a13 a14 a15 hC
    unfold hb_aB at this
    rw [if_pos e] at this
    exact this
  · have := H cn mk (hb_L (hb_mT (hb_nm m) (hb_SL cs))) (hb_L (hb_mB (hb_nm m) (hb_SL cs))) a5 a6 a7 a8 a9 a10 a11 a12 a13 a14 a15 hC
    unfold hb_aB at this
    rw [if_neg e, ← hb_L_I] at this
    exact this
end
end
section
/-! needless, drop, cut, the constructor -/
theorem hb_lext {L M : List hb_V4} (h : L.length = M.length) (he : ∀ k, k < L.length → hb_at L k = hb_at M k) : L = M := by
  refine List.ext_getElem h (fun k h1 h2 => ?_)
  have := he k h1
  rw [hb_at_e h1, hb_at_e h2] at this
  exact this
theorem hb_v4ext {a b : hb_V4} (h1 : a.1 = b.1) (h2 : a.2.1 = b.2.1) (h3 : a.2.2.1 = b.2.2.1) (h4 : a.2.2.2 = b.2.2.2) : a = b := Prod.ext h1 (Prod.ext h2 (Prod.ext h3 h4))
theorem hb_gp_er {cs : List hb_V4} (h : ∀ p ∈ cs, hb_gp p) (i : Nat) : ∀ p ∈ cs.eraseIdx i, hb_gp p := fun p hp => h p (List.mem_of_mem_eraseIdx hp)
theorem hb_at_er {cs : List hb_V4} {i t : Nat} (ht : t < cs.length - 1) (hi : i < cs.length) : hb_at (cs.eraseIdx i) t = if t < i then hb_at cs t else hb_at cs (t + 1) := by
  have l : (cs.eraseIdx i).length = cs.length - 1 := List.length_eraseIdx_of_lt hi
  rw [hb_at_e (by omega), List.getElem_eraseIdx]
  split
  · rw [hb_at_e (by omega)]
  · rw [hb_at_e (by omega)]
section
variable {cc bu cn mk kk : Int32} {fT fB : Int64} {a1 a2 a3 a4 a5 a6 a7 a8 a9 a10 a11 a12 a13 a14 : Nat → Int32} {a15 : Nat → Int64} {a16 a17 a18 a19 a20 a21 : Nat → Int32}
theorem hb_keep {post : St1 → Prop} {L : List hb_V4} (hl : L.length ≤ 64) (hn : cn = nI L.length) (H : ∀ a16 a17 a18 a19, (∀ k, k < L.length → a16 k = a5 k ∧ a17 k = a6 k ∧ a18 k = a7 k ∧ a19 k = a8 k) → post (cc, bu, cn, mk, cn, fT, fB, a1, a2, a3, a4, a5, a6, a7, a8, a9, a10, a11, a12, a13, a14, a15, a16, a17, a18, a19, a20, a21)) : wpX_keepCorners post (cc, bu, cn, mk, kk, fT, fB, a1, a2, a3, a4, a5, a6, a7, a8, a9, a10, a11, a12, a13, a14, a15, a16, a17, a18, a19, a20, a21) := by
  unfold wpX_keepCorners
  refine pk_loop (σ := (Nat → Int32) × (Nat → Int32) × (Nat → Int32) × (Nat → Int32)) (fun n i s => wX_keepCorners_10 post cc bu cn mk cn fT fB n (nI i) a1 a2 a3 a4 a5 a6 a7 a8 a9 a10 a11 a12 a13 a14 a15 s.1 s.2.1 s.2.2.1 s.2.2.2 a20 a21) (fun i s => ∀ j, j < i → s.1 j = a5 j ∧ s.2.1 j = a6 j ∧ s.2.2.1 j = a7 j ∧ s.2.2.2 j = a8 j) L.length 0 (a16, a17, a18, a19) (by omega) (fun j hj => absurd hj (by omega)) ?_ ?_
  · intro n s h
    exact pk_le L.length L.length (fun _ => H _ _ _ _ h) (fun z => absurd z (by omega)) hn
  · intro n i s hi h hw
    have ii : vp_in (nI i) 64 := pk_in i 64 (by omega)
    have ei := nI_clamp (show i < 2 ^ 31 by omega)
    refine pk_le L.length i (fun z => absurd z (by omega)) (fun _ => ?_) hn
    refine ⟨ii, ii, nm_r (by rw [ei]) ⟨ii, ii, nm_r (by rw [ei]) ⟨ii, ii, nm_r (by rw [ei]) ⟨ii, ii, nm_r (by rw [ei]) (nm_r (nI_1 i) (hw (_, _, _, _) (fun j hj => ?_)))⟩⟩⟩⟩
    by_cases e : j = i
    · subst e
      exact ⟨pk_us, pk_us, pk_us, pk_us⟩
    · have := h j (by omega)
      exact ⟨(pk_un e).trans this.1, (pk_un e).trans this.2.1, (pk_un e).trans this.2.2.1, (pk_un e).trans this.2.2.2⟩
theorem hb_needless_no {post : Int32 → St1 → Prop} {c i : Nat} (hc : cc = nI c) (hi : c ≤ i) (hb : i < 2 ^ 31) (H : post 0 (cc, bu, cn, mk, kk, fT, fB, a1, a2, a3, a4, a5, a6, a7, a8, a9, a10, a11, a12, a13, a14, a15, a16, a17, a18, a19, a20, a21)) : wpX_needless post (cc, bu, cn, mk, kk, fT, fB, a1, a2, a3, a4, a5, a6, a7, a8, a9, a10, a11, a12, a13, a14, a15, a16, a17, a18, a19, a20, a21) (nI i) := by
  unfold wpX_needless
  exact br_f (nI_pos hb) (pk_lt i c (fun z => absurd z (by omega)) (fun _ => H) rfl hc)
theorem hb_needless {post : Int32 → St1 → Prop} {cs : List hb_V4} {i : Nat} (hi : i < cs.length) (hP : hb_PV cs cc a1 a2 a3 a4) (hB : bu = 0 ∨ (bu = 1 ∧ hb_CV cs cn a5 a6 a7 a8 a9))
    (H0 : ∀ cn mk kk a5 a6 a7 a8 a9 a10 a11 a12 a13 a14 a15 a16 a17 a18 a19, post 0 (cc, 0, cn, mk, kk, fT, fB, a1, a2, a3, a4, a5, a6, a7, a8, a9, a10, a11, a12, a13, a14, a15, a16, a17, a18, a19, a20, a21))
    (H1 : hb_SL (cs.eraseIdx i) = hb_SL cs → ∀ cn mk kk a5 a6 a7 a8 a9 a10 a11 a12 a13 a14 a15 a16 a17 a18 a19, post 1 (cc, 0, cn, mk, kk, fT, fB, a1, a2, a3, a4, a5, a6, a7, a8, a9, a10, a11, a12, a13, a14, a15, a16, a17, a18, a19, a20, a21)) : wpX_needless post (cc, bu, cn, mk, kk, fT, fB, a1, a2, a3, a4, a5, a6, a7, a8, a9, a10, a11, a12, a13, a14, a15, a16, a17, a18, a19, a20, a21) (nI i) := by
  have hg := hP.2.2.1
  have h8 := hP.2.1
  have hl := hb_SL_len hg
  have hl' := hb_SL_len (hb_gp_er hg i)
  have el : (cs.eraseIdx i).length = cs.length - 1 := List.length_eraseIdx_of_lt hi
  unfold wpX_needless
  refine br_f (nI_pos (by omega)) (pk_lt i cs.length (fun _ => ?_) (fun z => absurd z (by omega)) rfl hP.1)
  refine hb_build hP hB (fun cn mk a5 a6 a7 a8 a9 a10 a11 a12 a13 a14 a15 hC => ?_)
  obtain ⟨hn, hc⟩ := hC
  refine hb_keep (by omega) hn (fun a16 a17 a18 a19 hk => ?_)
  obtain ⟨hcc, _, _, pl, hpa, hpl⟩ := hP
  have e6 : (6 : Int32) + nI i = nI (6 + i) := nI_add 6 i
  show wpX_buildWithout _ _ (6 + nI i)
  rw [e6]
  refine hb_buildW (lf := 6 + i) (fun j hj => nI_eq (by omega) (by omega)) (by omega) hcc h8 hg hpa hpl (fun mk b5 b6 b7 b8 b9 b10 b11 b12 b13 b14 b15 hc' => ?_)
  rw [hb_ta_erase hi] at hc' ⊢
  refine pk_eq (hb_SL (cs.eraseIdx i)).length (hb_SL cs).length (fun ee => ?_) (fun _ => H0 _ _ _ _ _ _ _ _ _ _ _ _ _ _ _ _ _ _) rfl hn
  refine pk_loop (σ := Unit) (fun n k _ => wX_needless_50 post cc 0 (nI (hb_SL (cs.eraseIdx i)).length) mk cn fT fB a1 a2 a3 a4 b5 b6 b7 b8 b9 b10 b11 b12 b13 b14 b15 a16 a17 a18 a19 a20 a21 n (nI k)) (fun k _ => ∀ j, j < k → hb_at (hb_SL (cs.eraseIdx i)) j = hb_at (hb_SL cs) j) (hb_SL cs).length 0 () (by omega) (fun j hj => absurd hj (by omega)) ?_ ?_
  · intro n _ h
    exact pk_le (hb_SL cs).length (hb_SL cs).length (fun _ => H1 (hb_lext ee (fun k hk => h k (by omega))) _ _ _ _ _ _ _ _ _ _ _ _ _ _ _ _ _ _) (fun z => absurd z (by omega)) hn
  · intro n k _ hk' h hw
    have ii : vp_in (nI k) 64 := pk_in k 64 (by omega)
    have ek := nI_clamp (show k < 2 ^ 31 by omega)
    obtain ⟨p1, p2, p3, p4, _⟩ := hc k hk'
    obtain ⟨q1, q2, q3, q4, _⟩ := hc' k (by omega)
    obtain ⟨k1, k2, k3, k4⟩ := hk k hk'
    obtain ⟨b1, b2, b3, b4⟩ := hb_SL_Bd hg _ (hb_at_mem hk')
    obtain ⟨c1, c2, c3, c4⟩ := hb_SL_Bd (hb_gp_er hg i) _ (hb_at_mem (show k < (hb_SL (cs.eraseIdx i)).length by omega))
    have no : wX_needless_122 post (wX_needless_50 post cc 0 (nI (hb_SL (cs.eraseIdx i)).length) mk cn fT fB a1 a2 a3 a4 b5 b6 b7 b8 b9 b10 b11 b12 b13 b14 b15 a16 a17 a18 a19 a20 a21 n) (nI k) cc 0 (nI (hb_SL (cs.eraseIdx i)).length) mk cn fT fB a1 a2 a3 a4 b5 b6 b7 b8 b9 b10 b11 b12 b13 b14 b15 a16 a17 a18 a19 a20 a21 := by
      unfold wX_needless_122 wX_needless_123
      exact br_t rfl (H0 _ _ _ _ _ _ _ _ _ _ _ _ _ _ _ _ _ _)
    refine pk_le (hb_SL cs).length k (fun z => absurd z (by omega)) (fun _ => ⟨ii, ii, ?_⟩) hn
    rw [ek, k1, p1, q1]
    refine ek_if (hb_I_eq (hb_R_x c1) (hb_R_x b1)) (fun e1 => ⟨ii, ii, ?_⟩) (fun _ => no)
    rw [k2, p2, q2]
    refine ek_if (hb_I_eq (hb_R_x c2) (hb_R_x b2)) (fun e2 => ⟨ii, ii, ?_⟩) (fun _ => no)
    rw [k3, p3, q3]
    refine ek_if (hb_I_eq (hb_R_x c3) (hb_R_x b3)) (fun e3 => ⟨ii, ii, ?_⟩) (fun _ => no)
    rw [k4, p4, q4]
    refine ek_if (hb_I_eq (hb_R_w c4) (hb_R_w b4)) (fun e4 => ?_) (fun _ => no)
    unfold wX_needless_123
    refine br_f (by decide) (nm_r (nI_1 k) (hw () (fun j hj => ?_)))
    by_cases e : j = k
    · rw [e]; exact hb_v4ext e1 e2 e3 e4
    · exact h j (by omega)
theorem hb_pb_byte {p : hb_V4} (h : hb_pb p) : (-128 ≤ p.1 ∧ p.1 ≤ 127) ∧ (-128 ≤ p.2.1 ∧ p.2.1 ≤ 127) ∧ (-128 ≤ p.2.2.1 ∧ p.2.2.1 ≤ 127) ∧ (-128 ≤ p.2.2.2 ∧ p.2.2.2 ≤ 127) := by
  obtain ⟨h1, h2, h3, h4⟩ := h
  omega
/-- a plane is put into its place -/
theorem hb_PA_put {pl pl' : Nat → hb_V4} {p : Nat} {v : hb_V4} (h : hb_PA a1 a2 a3 a4 pl) (hv : hb_pb v) (e1 : pl' p = v) (e2 : ∀ q, q ≠ p → pl' q = pl q) : hb_PA (upd a1 p (hb_I v.1)) (upd a2 p (hb_I v.2.1)) (upd a3 p (hb_I v.2.2.1)) (upd a4 p (hb_I v.2.2.2)) pl' := by
  intro i hi
  by_cases e : i = p
  · rw [e, pk_us, pk_us, pk_us, pk_us, e1]
    exact ⟨rfl, rfl, rfl, rfl, hv⟩
  · rw [pk_un e, pk_un e, pk_un e, pk_un e, e2 i e]
    exact h i hi
theorem hb_drop {post : Int32 → St1 → Prop} {cs : List hb_V4} {i : Nat} (hi : i < cs.length) (hP : hb_PV cs cc a1 a2 a3 a4) (H : ∀ cc a1 a2 a3 a4, hb_PV (cs.eraseIdx i) cc a1 a2 a3 a4 → post (nI (cs.length - 1)) (cc, 0, cn, mk, kk, fT, fB, a1, a2, a3, a4, a5, a6, a7, a8, a9, a10, a11, a12, a13, a14, a15, a16, a17, a18, a19, a20, a21)) : wpX_drop post (cc, bu, cn, mk, kk, fT, fB, a1, a2, a3, a4, a5, a6, a7, a8, a9, a10, a11, a12, a13, a14, a15, a16, a17, a18, a19, a20, a21) (nI i) := by
  obtain ⟨hcc, h8, hg, pl, hpa, hpl⟩ := hP
  have el : (cs.eraseIdx i).length = cs.length - 1 := List.length_eraseIdx_of_lt hi
  have m1 : nI cs.length - 1 = nI (cs.length - 1) := pk_sub (b := 1) (by omega)
  have six : ∀ m, (6 : Int32) + nI m = nI (6 + m) := fun m => nI_add 6 m
  unfold wpX_drop
  refine br_f (nI_pos (by omega)) (pk_lt i cs.length (fun _ => nm_r (e' := nI (cs.length - 1)) (by rw [hcc]; exact m1) (nm_r (six i) ?_)) (fun z => absurd z (by omega)) rfl hcc)
  refine pk_loop (σ := (Nat → Int32) × (Nat → Int32) × (Nat → Int32) × (Nat → Int32)) (fun n j s => wX_drop_30 post n (nI j) (nI (cs.length - 1)) bu cn mk kk fT fB s.1 s.2.1 s.2.2.1 s.2.2.2 a5 a6 a7 a8 a9 a10 a11 a12 a13 a14 a15 a16 a17 a18 a19 a20 a21) (fun j s => 6 + i ≤ j ∧ hb_PA s.1 s.2.1 s.2.2.1 s.2.2.2 (fun q => if q < 6 + i then pl q else if q < j then pl (q + 1) else pl q)) (6 + (cs.length - 1)) (6 + i) (a1, a2, a3, a4) (by omega) ⟨Nat.le_refl _, ?_⟩ ?_ ?_
  · have : (fun q => if q < 6 + i then pl q else if q < 6 + i then pl (q + 1) else pl q) = pl := by
      funext q
      split
      · rfl
      · rfl
    rw [this]; exact hpa
  · intro n s h
    refine pk_le (6 + (cs.length - 1)) (6 + (cs.length - 1)) (fun _ => ?_) (fun z => absurd z (by omega)) (six _)
    refine H _ _ _ _ _ ⟨by rw [el], by omega, hb_gp_er hg i, _, h.2, fun q hq => ?_⟩
    rw [el] at hq
    show (if q < 6 + i then pl q else if q < 6 + (cs.length - 1) then pl (q + 1) else pl q) = _
    have six' : hb_cbP.length = 6 := rfl
    rcases Nat.lt_or_ge q 6 with g | g
    · rw [if_pos (by omega), hpl q (by omega), hb_at_l (by omega), hb_at_l (by omega)]
    · obtain ⟨t, rfl⟩ : ∃ t, q = 6 + t := ⟨q - 6, by omega⟩
      rw [hb_at_cut, hb_at_er (by omega) hi]
      by_cases e : t < i
      · rw [if_pos (by omega), if_pos e, hpl _ (by omega), hb_at_cut]
      · rw [if_neg (by omega), if_pos (by omega), if_neg e, show 6 + t + 1 = 6 + (t + 1) by omega, hpl _ (by omega), hb_at_cut]
  · intro n j s hj h hw
    obtain ⟨h1, h2⟩ := h
    have ij : vp_in (nI j) 16 := pk_in j 16 (by omega)
    have ij1 : vp_in (nI j + 1) 16 := pk_in (j + 1) 16 (by omega) (nI_1 j)
    have ej := nI_clamp (show j < 2 ^ 31 by omega)
    have ej1 : (nI j + 1).toNatClampNeg = j + 1 := by rw [nI_1]; exact nI_clamp (by omega)
    have hh := h2 (j + 1) (by omega)
    have ep : (if j + 1 < 6 + i then pl (j + 1) else if j + 1 < j then pl (j + 1 + 1) else pl (j + 1)) = pl (j + 1) := by
      rw [if_neg (by omega), if_neg (by omega)]
    dsimp only at hh
    rw [ep] at hh
    obtain ⟨x1, x2, x3, x4, pb⟩ := hh
    obtain ⟨y1, y2, y3, y4⟩ := hb_pb_byte pb
    refine pk_le (6 + (cs.length - 1)) j (fun z => absurd z (by omega)) (fun _ => ⟨ij1, ij1, ij1, ?_⟩) (six _)
    rw [ej1, x1, x2, x3]
    refine hb_setPlane (by omega) y1 y2 y3 ⟨ij1, ij, nm_r (e' := upd s.2.2.2 j (hb_I (pl (j + 1)).2.2.2)) (by rw [ej, x4, vp_nar_byte, hb_byte y4]) (nm_r (nI_1 j) ?_)⟩
    refine hw (_, _, _, _) ⟨by omega, ?_⟩
    refine hb_PA_put h2 pb ?_ (fun q hq => ?_)
    · show (if j < 6 + i then pl j else if j < j + 1 then pl (j + 1) else pl j) = _
      rw [if_neg (by omega), if_pos (by omega)]
    · show (if q < 6 + i then pl q else if q < j + 1 then pl (q + 1) else pl q) = (if q < 6 + i then pl q else if q < j then pl (q + 1) else pl q)
      by_cases g : q < 6 + i
      · rw [if_pos g, if_pos g]
      · rw [if_neg g, if_neg g]
        by_cases g' : q < j
        · rw [if_pos g', if_pos (by omega)]
        · rw [if_neg g', if_neg (by omega)]
/-- the plane that the law cuts with -/
def hb_np4 (m : Nat) (d : Int) : hb_V4 := ((hb_nm m).1, (hb_nm m).2.1, (hb_nm m).2.2, d)
theorem hb_np4_gp {m : Nat} {d : Int} (hm : m ≤ 728) (h364 : m ≠ 364) (hd : -40 ≤ d ∧ d ≤ 40) : hb_gp (hb_np4 m d) := by
  obtain ⟨c1, c2, c3⟩ := hb_nm_b hm
  refine ⟨⟨c1, c2, c3, hd⟩, fun e => h364 ?_⟩
  have e1 := congrArg (fun t : hb_V3 => t.1) e
  have e2 := congrArg (fun t : hb_V3 => t.2.1) e
  have e3 := congrArg (fun t : hb_V3 => t.2.2) e
  simp only [hb_np4, hb_n, hb_nm, hb_z] at e1 e2 e3
  omega
theorem hb_cut {post : Int32 → St1 → Prop} {cs : List hb_V4} {m : Nat} {d : Int} (hm : m ≤ 728) (hd : -40 ≤ d ∧ d ≤ 40) (hP : hb_PV cs cc a1 a2 a3 a4)
    (H0 : ∀ r : Int32, r ≤ 0 → post r (cc, bu, cn, mk, kk, fT, fB, a1, a2, a3, a4, a5, a6, a7, a8, a9, a10, a11, a12, a13, a14, a15, a16, a17, a18, a19, a20, a21)) (H1 : cs.length < 8 → m ≠ 364 → ∀ cc a1 a2 a3 a4, hb_PV (cs ++ [hb_np4 m d]) cc a1 a2 a3 a4 → post (nI (cs.length + 1)) (cc, 0, cn, mk, kk, fT, fB, a1, a2, a3, a4, a5, a6, a7, a8, a9, a10, a11, a12, a13, a14, a15, a16, a17, a18, a19, a20, a21)) : wpX_cut post (cc, bu, cn, mk, kk, fT, fB, a1, a2, a3, a4, a5, a6, a7, a8, a9, a10, a11, a12, a13, a14, a15, a16, a17, a18, a19, a20, a21) (nI m) (hb_I d) := by
  obtain ⟨hcc, h8, hg, pl, hpa, hpl⟩ := hP
  unfold wpX_cut
  refine pk_lt cs.length 8 (fun hlt => ?_) (fun _ => H0 _ (by decide)) hcc
  refine br_f (nI_pos (by omega)) (br_f (show ¬ (728 : Int32) < nI m from nI_nlt (a := 728) (by omega) (by omega)) ?_)
  refine pk_eq m 364 (fun _ => H0 _ (by decide)) (fun h364 => ?_)
  have hR : hb_R d := by unfold hb_R; omega
  have m60 : (-60 : Int32) = hb_I (-60) := by decide
  have p60 : (60 : Int32) = hb_I 60 := by decide
  refine br_f (by rw [m60, hb_I_lt hR (by unfold hb_R; omega)]; omega) (br_t (by rw [p60, hb_I_le hR (by unfold hb_R; omega)]; omega) ?_)
  obtain ⟨e1, e2, e3⟩ := hb_nm_e hm
  obtain ⟨c1, c2, c3⟩ := hb_nm_b hm
  have n9 : ¬ (9 : Int32) = 0 := by decide
  have n81 : ¬ (81 : Int32) = 0 := by decide
  refine nm_r (e' := nI (6 + cs.length)) (by rw [hcc]; exact nI_add 6 _) ⟨n9, n9, n9, n81, ?_⟩
  rw [e1, e2, e3]
  refine hb_setPlane (by omega) (by omega) (by omega) (by omega) ⟨pk_in (6 + cs.length) 16 (by omega), nm_r (e' := upd a4 (6 + cs.length) (hb_I d)) (by rw [nI_clamp (by omega), hb_byte (by omega)]) (nm_r (e' := nI (cs.length + 1)) (by rw [hcc]; exact nI_1 _) ?_)⟩
  have gpn := hb_np4_gp hm h364 hd
  refine H1 hlt h364 _ _ _ _ _ ⟨by rw [List.length_append]; rfl, by rw [List.length_append]; show cs.length + 1 ≤ 8; omega, fun p hp => ?_, (fun q => if q = 6 + cs.length then hb_np4 m d else pl q), hb_PA_put (v := hb_np4 m d) hpa gpn.1 (if_pos rfl) (fun q hq => if_neg hq), fun q hq => ?_⟩
  · rcases List.mem_append.mp hp with g | g
    · exact hg p g
    · rw [List.mem_singleton.mp g]; exact gpn
  · rw [List.length_append] at hq
    have hq' : q < 6 + (cs.length + 1) := hq
    have len : (hb_cbP ++ cs).length = 6 + cs.length := by rw [List.length_append]; rfl
    rw [← List.append_assoc]
    by_cases e : q = 6 + cs.length
    · show (if q = 6 + cs.length then hb_np4 m d else pl q) = _
      rw [if_pos e, e, ← len, hb_at_m]
    · show (if q = 6 + cs.length then hb_np4 m d else pl q) = _
      rw [if_neg e, hb_at_l (by omega)]
      exact hpl q (by omega)
end
end
section
/-! whole points -/
noncomputable def hb_wi (cs : List hb_V4) (x y : Int) : Nat := hb_sm 17 (fun j => hb_i (∀ p ∈ cs, 0 ≤ hb_s p (x, y, (j : Int) - 8, 1)))
noncomputable def hb_wh (cs : List hb_V4) : Nat := hb_sm 17 (fun i => hb_sm 17 (fun j => hb_wi cs ((i : Int) - 8) ((j : Int) - 8)))
theorem hb_iv (a b : Nat) : ∀ n, hb_sm n (fun j => hb_i (a ≤ j ∧ j < b)) = min b n - a := by
  intro n
  induction n with
  | zero => show 0 = _; omega
  | succ n ih =>
    show hb_sm n _ + hb_i (a ≤ n ∧ n < b) = _
    rw [ih]
    by_cases h : a ≤ n ∧ n < b
    · rw [hb_i_t h]; omega
    · rw [hb_i_f h]; omega
/-- the count by the bounds -/
theorem hb_wi_iv {cs : List hb_V4} {x y lo hi : Int} (h1 : -8 ≤ lo) (h2 : hi ≤ 8) (h : ∀ z : Int, (lo ≤ z ∧ z ≤ hi) ↔ ((-8 ≤ z ∧ z ≤ 8) ∧ ∀ p ∈ cs, 0 ≤ hb_s p (x, y, z, 1))) : ((hb_wi cs x y : Nat) : Int) = if lo ≤ hi then hi - lo + 1 else 0 := by
  have e : hb_wi cs x y = hb_sm 17 (fun j => hb_i ((lo + 8).toNat ≤ j ∧ j < (hi + 9).toNat)) := by
    unfold hb_wi
    refine hb_sm_c (fun j hj => hb_i_c ?_)
    have := h ((j : Int) - 8)
    constructor
    · intro g
      have := this.mpr ⟨by omega, g⟩
      omega
    · intro g
      exact (this.mp (by omega)).2
  rw [e, hb_iv]
  split <;> omega
theorem hb_wi_0 {cs : List hb_V4} {x y : Int} (h : ∀ z : Int, -8 ≤ z → z ≤ 8 → ¬ ∀ p ∈ cs, 0 ≤ hb_s p (x, y, z, 1)) : hb_wi cs x y = 0 := by
  unfold hb_wi
  exact hb_sm_0 (fun j hj => hb_i_f (h _ (by omega) (by omega)))
section
variable {cc bu cn mk kk : Int32} {fT fB : Int64} {a1 a2 a3 a4 a5 a6 a7 a8 a9 a10 a11 a12 a13 a14 : Nat → Int32} {a15 : Nat → Int64} {a16 a17 a18 a19 a20 a21 : Nat → Int32}
theorem hb_rd {post : Int32 → Prop} {x b : Int} (hx : -200 ≤ x ∧ x ≤ 200) (hb : 1 ≤ b ∧ b ≤ 4) (H : post (hb_I (x / b))) : wpX_roundedDown post (cc, bu, cn, mk, kk, fT, fB, a1, a2, a3, a4, a5, a6, a7, a8, a9, a10, a11, a12, a13, a14, a15, a16, a17, a18, a19, a20, a21) (hb_I x) (hb_I b) := by
  have Rx : hb_R x := by unfold hb_R; omega
  have Rb : hb_R b := by unfold hb_R; omega
  have nz : ¬ hb_I b = 0 := by rw [hb_I0, hb_I_eq Rb hb_R0]; omega
  have one : (1 : Int32) = hb_I 1 := by decide
  unfold wpX_roundedDown
  dsimp only
  rw [hb_I0]
  refine ek_if (hb_I_lt Rx hb_R0) (fun z => ⟨by rw [← hb_I0]; exact nz, ?_⟩) (fun z => ⟨by rw [← hb_I0]; exact nz, ?_⟩)
  · rw [one, hb_I_sub, hb_I_sub, hb_I_div (by unfold hb_R; omega) Rb, hb_I_neg, Int.tdiv_eq_ediv_of_nonneg (by omega)]
    have e : -((b - 1 - x) / b) = x / b := by
      have : b = 1 ∨ b = 2 ∨ b = 3 ∨ b = 4 := by omega
      rcases this with rfl | rfl | rfl | rfl <;> omega
    rw [e]; exact H
  · rw [hb_I_div Rx Rb, Int.tdiv_eq_ediv_of_nonneg (by omega)]
    exact H
theorem hb_wholeIn {post : Int32 → Prop} {cs : List hb_V4} {x y : Int} (hx : -8 ≤ x ∧ x ≤ 8) (hy : -8 ≤ y ∧ y ≤ 8) (hP : hb_PV cs cc a1 a2 a3 a4) (H : post (nI (hb_wi cs x y))) : wpX_wholeIn post (cc, bu, cn, mk, kk, fT, fB, a1, a2, a3, a4, a5, a6, a7, a8, a9, a10, a11, a12, a13, a14, a15, a16, a17, a18, a19, a20, a21) (hb_I x) (hb_I y) := by
  obtain ⟨hcc, h8, hg, pl, hpa, hpl⟩ := hP
  have six : ∀ m, (6 : Int32) + nI m = nI (6 + m) := fun m => nI_add 6 m
  unfold wpX_wholeIn
  have R : ∀ x : Int, -300 ≤ x ∧ x ≤ 300 → hb_R x := by intro x h; unfold hb_R; omega
  have start : (6 : Int32) = nI (6 + 0) := rfl
  rw [start, show (-8 : Int32) = hb_I (-8) by decide, show (8 : Int32) = hb_I 8 by decide]
  refine pk_loop (σ := Int × Int) (fun n j s => wX_wholeIn_11 post (hb_I x) (hb_I y) cc bu cn mk kk fT fB a1 a2 a3 a4 a5 a6 a7 a8 a9 a10 a11 a12 a13 a14 a15 a16 a17 a18 a19 a20 a21 n (hb_I s.1) (hb_I s.2) (nI (6 + j))) (fun j s => (-8 ≤ s.1 ∧ s.1 ≤ 200) ∧ (-200 ≤ s.2 ∧ s.2 ≤ 8) ∧ ∀ z : Int, (s.1 ≤ z ∧ z ≤ s.2) ↔ ((-8 ≤ z ∧ z ≤ 8) ∧ ∀ p ∈ cs.take j, 0 ≤ hb_s p (x, y, z, 1))) cs.length 0 (-8, 8) (by omega) ⟨by decide, by decide, fun z => ⟨fun h => ⟨h, fun p hp => by rw [List.take_zero] at hp; cases hp⟩, fun h => h.1⟩⟩ ?_ ?_
  · intro n s h
    obtain ⟨h1, h2, h3⟩ := h
    rw [List.take_length] at h3
    refine pk_le (6 + cs.length) (6 + cs.length) (fun _ => ?_) (fun z => absurd z (by omega)) (by rw [hcc, six])
    have e := hb_wi_iv h1.1 h2.2 h3
    refine ek_if (hb_I_le (R _ (by omega)) (R _ (by omega))) (fun z => ?_) (fun z => ?_)
    · rw [if_pos z] at e
      rw [hb_I_n, e] at H
      rw [hb_I_sub, show (1 : Int32) = hb_I 1 by decide, hb_I_add]
      exact H
    · rw [if_neg z] at e
      rw [hb_I_n, e] at H
      rw [hb_I0]; exact H
  · intro n j s hj h hw
    obtain ⟨h1, h2, h3⟩ := h
    have i5 : vp_in (nI (6 + j)) 16 := pk_in (6 + j) 16 (by omega)
    have e5 := nI_clamp (show 6 + j < 2 ^ 31 by omega)
    obtain ⟨q1, q2, q3, q4, b1, b2, b3, b4⟩ := hpa (6 + j) (by omega)
    have epl : pl (6 + j) = hb_at cs j := by rw [hpl _ (by omega), hb_at_cut]
    rw [epl] at q1 q2 q3 q4 b1 b2 b3 b4
    have tk : cs.take (j + 1) = cs.take j ++ [hb_at cs j] := by rw [hb_at_e hj]; exact (List.take_append_getElem hj).symm
    have m1 := hb_mb (A := 4) (B := 8) (by omega) b1 hx
    have m2 := hb_mb (A := 4) (B := 8) (by omega) b2 hy
    have sv : ∀ z : Int, hb_s (hb_at cs j) (x, y, z, 1) = ((hb_at cs j).2.2.2 - (hb_at cs j).1 * x - (hb_at cs j).2.1 * y) - (hb_at cs j).2.2.1 * z := by
      intro z; simp only [hb_s, hb_w, hb_n, hb_dot]; grind
    have al : ∀ z : Int, (∀ p ∈ cs.take (j + 1), 0 ≤ hb_s p (x, y, z, 1)) ↔ ((∀ p ∈ cs.take j, 0 ≤ hb_s p (x, y, z, 1)) ∧ (hb_at cs j).2.2.1 * z ≤ (hb_at cs j).2.2.2 - (hb_at cs j).1 * x - (hb_at cs j).2.1 * y) := by
      intro z
      rw [tk]
      constructor
      · intro g
        refine ⟨fun p hp => g p (List.mem_append_left _ hp), ?_⟩
        have := g (hb_at cs j) (List.mem_append_right _ (List.mem_singleton.mpr rfl))
        rw [sv] at this; omega
      · intro g p hp
        rcases List.mem_append.mp hp with h | h
        · exact g.1 p h
        · rw [List.mem_singleton.mp h, sv]; omega
    generalize hleft : (hb_at cs j).2.2.2 - (hb_at cs j).1 * x - (hb_at cs j).2.1 * y = left at al
    generalize hcz : (hb_at cs j).2.2.1 = cz at al q3 b3
    have bl : -104 ≤ left ∧ left ≤ 104 := by omega
    have next : ∀ lo hi : Int, (-8 ≤ lo ∧ lo ≤ 200) → (-200 ≤ hi ∧ hi ≤ 8) → (∀ z : Int, (lo ≤ z ∧ z ≤ hi) ↔ ((s.1 ≤ z ∧ z ≤ s.2) ∧ cz * z ≤ left)) → wX_wholeIn_11 post (hb_I x) (hb_I y) cc bu cn mk kk fT fB a1 a2 a3 a4 a5 a6 a7 a8 a9 a10 a11 a12 a13 a14 a15 a16 a17 a18 a19 a20 a21 n (hb_I lo) (hb_I hi) (nI (6 + j + 1)) := by
      intro lo hi hlo hhi hz
      refine hw (lo, hi) ⟨hlo, hhi, fun z => ?_⟩
      show (lo ≤ z ∧ z ≤ hi) ↔ _
      rw [hz z, h3 z, al z]
      constructor
      · intro g; exact ⟨g.1.1, g.1.2, g.2⟩
      · intro g; exact ⟨⟨g.1, g.2.1⟩, g.2.2⟩
    refine pk_le (6 + cs.length) (6 + j) (fun z => absurd z (by omega)) (fun _ => ?_) (by rw [hcc, six])
    have lv : a4 (6 + j) - a1 (6 + j) * hb_I x - a2 (6 + j) * hb_I y = hb_I left := by
      rw [q1, q2, q4, hb_I_mul, hb_I_mul, hb_I_sub, hb_I_sub, hleft]
    refine ⟨i5, nm_r (e' := hb_I cz) (by rw [e5]; exact q3) ⟨i5, i5, i5, nm_r (e' := hb_I left) (by rw [e5]; exact lv) ?_⟩⟩
    -- below and above
    have w99 : ∀ hi : Int, (-200 ≤ hi ∧ hi ≤ 8) → (0 ≤ cz → ∀ z : Int, (s.1 ≤ z ∧ z ≤ hi) ↔ ((s.1 ≤ z ∧ z ≤ s.2) ∧ cz * z ≤ left)) → (cz < 0 → hi = s.2) → wX_wholeIn_99 post (wX_wholeIn_11 post (hb_I x) (hb_I y) cc bu cn mk kk fT fB a1 a2 a3 a4 a5 a6 a7 a8 a9 a10 a11 a12 a13 a14 a15 a16 a17 a18 a19 a20 a21 n) (hb_I x) (hb_I y) (hb_I s.1) (hb_I hi) (nI (6 + j)) (hb_I cz) (hb_I left) cc bu cn mk kk fT fB a1 a2 a3 a4 a5 a6 a7 a8 a9 a10 a11 a12 a13 a14 a15 a16 a17 a18 a19 a20 a21 := by
      intro hi hhi hpos hneg
      unfold wX_wholeIn_99
      rw [hb_I0]
      refine ek_if (hb_I_le hb_R0 (R _ (by omega))) (fun z => nm_r (nI_1 _) (next s.1 hi h1 hhi (hpos z))) (fun z => ?_)
      rw [hb_I_neg]
      refine hb_rd (by omega) (by omega) (nm_r (hb_I_neg _) ?_)
      have hi2 := hneg (by omega)
      have db : -105 ≤ left / (-cz) ∧ left / (-cz) ≤ 105 := by
        have : -cz = 1 ∨ -cz = 2 ∨ -cz = 3 ∨ -cz = 4 := by omega
        rcases this with e | e | e | e <;> rw [e] <;> omega
      have iff : ∀ t : Int, cz * t ≤ left ↔ -(left / (-cz)) ≤ t := by
        intro t
        have e1 : cz * t = (-t) * (-cz) := by grind
        rw [e1, ← Int.le_ediv_iff_mul_le (show 0 < -cz by omega)]
        omega
      refine ek_if (hb_I_le (R _ (by omega)) (R _ (by omega))) (fun g => nm_r (nI_1 _) (next s.1 hi h1 hhi (fun t => ?_))) (fun g => nm_r (nI_1 _) (next _ hi (by omega) hhi (fun t => ?_)))
      · rw [iff t, hi2]; omega
      · rw [iff t, hi2]; omega
    have w73 : (cz = 0 → 0 ≤ left) → wX_wholeIn_73 post (wX_wholeIn_11 post (hb_I x) (hb_I y) cc bu cn mk kk fT fB a1 a2 a3 a4 a5 a6 a7 a8 a9 a10 a11 a12 a13 a14 a15 a16 a17 a18 a19 a20 a21 n) (hb_I x) (hb_I y) (hb_I s.1) (hb_I s.2) (nI (6 + j)) (hb_I cz) (hb_I left) cc bu cn mk kk fT fB a1 a2 a3 a4 a5 a6 a7 a8 a9 a10 a11 a12 a13 a14 a15 a16 a17 a18 a19 a20 a21 := by
      intro h0
      unfold wX_wholeIn_73
      rw [hb_I0]
      refine ek_if (hb_I_le (R _ (by omega)) hb_R0) (fun z => ?_) (fun z => ?_)
      · refine w99 s.2 h2 (fun g t => ?_) (fun _ => rfl)
        have c0 : cz = 0 := by omega
        have := h0 c0
        rw [c0, Int.zero_mul]; omega
      · refine hb_rd (by omega) (by omega) ?_
        have db : -105 ≤ left / cz ∧ left / cz ≤ 105 := by
          have : cz = 1 ∨ cz = 2 ∨ cz = 3 ∨ cz = 4 := by omega
          rcases this with e | e | e | e <;> rw [e] <;> omega
        have iff : ∀ t : Int, cz * t ≤ left ↔ t ≤ left / cz := by
          intro t
          rw [Int.mul_comm, ← Int.le_ediv_iff_mul_le (show 0 < cz by omega)]
        refine ek_if (hb_I_le (R _ (by omega)) (R _ (by omega))) (fun g => w99 s.2 h2 (fun _ t => ?_) (fun g' => absurd g' (by omega))) (fun g => w99 _ (by omega) (fun _ t => ?_) (fun g' => absurd g' (by omega)))
        · rw [iff t]; omega
        · rw [iff t]; omega
    have z0 : (0 : Int32) = hb_I 0 := hb_I0
    rw [z0]
    refine ek_if (hb_I_eq (R _ (by omega)) hb_R0) (fun c0 => ek_if (hb_I_le hb_R0 (R _ (by omega))) (fun g => w73 (fun _ => g)) (fun g => ?_)) (fun c0 => w73 (fun e => absurd e c0))
    have e0 : hb_wi cs x y = 0 := hb_wi_0 (fun z z1 z2 hh => by
      have := (al z).mp (fun p hp => hh p (List.mem_of_mem_take hp))
      rw [c0, Int.zero_mul] at this
      omega)
    rw [e0] at H
    rw [← hb_I0]; exact H
theorem hb_whole {post : Int32 → Prop} {cs : List hb_V4} (hP : hb_PV cs cc a1 a2 a3 a4) (H : post (nI (hb_wh cs))) : wpX_whole post (cc, bu, cn, mk, kk, fT, fB, a1, a2, a3, a4, a5, a6, a7, a8, a9, a10, a11, a12, a13, a14, a15, a16, a17, a18, a19, a20, a21) := by
  unfold wpX_whole
  have R : ∀ x : Int, -300 ≤ x ∧ x ≤ 300 → hb_R x := by intro x h; unfold hb_R; omega
  have e8 : (8 : Int32) = hb_I 8 := by decide
  have step : ∀ i : Nat, hb_I ((i : Int) - 8) + 1 = hb_I (((i + 1 : Nat) : Int) - 8) := fun i => by
    rw [show (1 : Int32) = hb_I 1 by decide, hb_I_add]; congr 1; omega
  refine pk_loop (σ := Unit) (fun n i _ => wX_whole_5 post cc bu cn mk kk fT fB a1 a2 a3 a4 a5 a6 a7 a8 a9 a10 a11 a12 a13 a14 a15 a16 a17 a18 a19 a20 a21 n (nI (hb_sm i (fun i => hb_sm 17 (fun j => hb_wi cs ((i : Int) - 8) ((j : Int) - 8))))) (hb_I ((i : Int) - 8))) (fun _ _ => True) 17 0 () (by omega) trivial ?_ ?_
  · intro n _ _
    exact br_t (by rw [e8, hb_I_lt (R _ (by omega)) (R _ (by omega))]; omega) H
  · intro n i _ hi _ hw
    refine br_f (by rw [e8, hb_I_lt (R _ (by omega)) (R _ (by omega))]; omega) ?_
    refine pk_loop (σ := Unit) (fun n' j _ => wX_whole_14 post (wX_whole_5 post cc bu cn mk kk fT fB a1 a2 a3 a4 a5 a6 a7 a8 a9 a10 a11 a12 a13 a14 a15 a16 a17 a18 a19 a20 a21 n) (hb_I ((i : Int) - 8)) cc bu cn mk kk fT fB a1 a2 a3 a4 a5 a6 a7 a8 a9 a10 a11 a12 a13 a14 a15 a16 a17 a18 a19 a20 a21 n' (nI (hb_sm i (fun i => hb_sm 17 (fun j => hb_wi cs ((i : Int) - 8) ((j : Int) - 8))) + hb_sm j (fun j => hb_wi cs ((i : Int) - 8) ((j : Int) - 8)))) (hb_I ((j : Int) - 8))) (fun _ _ => True) 17 0 () (by omega) trivial ?_ ?_
    · intro n' _ _
      exact br_t (by rw [e8, hb_I_lt (R _ (by omega)) (R _ (by omega))]; omega) (nm_r (step i) (hw () trivial))
    · intro n' j _ hj _ hw'
      refine br_f (by rw [e8, hb_I_lt (R _ (by omega)) (R _ (by omega))]; omega) ?_
      refine hb_wholeIn (by omega) (by omega) hP (nm_r (nI_add _ _) (nm_r (step j) ?_))
      have := hw' () trivial
      rw [Nat.add_assoc]
      exact this
end
/-- the whole points stay when a plane that isn't needed goes -/
theorem hb_mem_er {cs : List hb_V4} {k : Nat} (hk : k < cs.length) (p : hb_V4) : p ∈ cs ↔ p ∈ cs.eraseIdx k ∨ p = hb_at cs k := by
  constructor
  · intro h
    obtain ⟨i, hi, e⟩ := hb_mem_at h
    by_cases ek : i = k
    · right; rw [← e, ek]
    · left
      have l : (cs.eraseIdx k).length = cs.length - 1 := List.length_eraseIdx_of_lt hk
      rcases Nat.lt_or_ge i k with g | g
      · have t := hb_at_er (cs := cs) (i := k) (t := i) (by omega) hk
        rw [if_pos g, e] at t
        rw [← t]; exact hb_at_mem (by omega)
      · have t := hb_at_er (cs := cs) (i := k) (t := i - 1) (by omega) hk
        rw [if_neg (by omega), show i - 1 + 1 = i by omega, e] at t
        rw [← t]; exact hb_at_mem (by omega)
  · intro h
    rcases h with h | h
    · exact List.mem_of_mem_eraseIdx h
    · rw [h]; exact hb_at_mem hk
theorem hb_wh_same {cs : List hb_V4} {k : Nat} (hk : k < cs.length) (he : hb_SL (cs.eraseIdx k) = hb_SL cs) : hb_wh cs = hb_wh (cs.eraseIdx k) := by
  have hq : ∀ v ∈ hb_SL (cs.eraseIdx k), 0 ≤ hb_s (hb_at cs k) v := fun v hv => by
    rw [he] at hv
    exact ((hb_SL_En cs).1 v hv).1.2 _ (List.mem_append_right _ (hb_at_mem hk))
  unfold hb_wh hb_wi
  refine hb_sm_c (fun i hi => hb_sm_c (fun j hj => hb_sm_c (fun z hz => hb_i_c ⟨fun h p hp => h p (List.mem_of_mem_eraseIdx hp), fun h p hp => ?_⟩)))
  rcases (hb_mem_er hk p).mp hp with g | g
  · exact h p g
  · rw [g]
    refine hb_sub (hb_bnd_cs _) (hb_SL_En _) hq ⟨by show (0 : Int) < 1; decide, fun q hq => ?_⟩
    rcases List.mem_append.mp hq with g | g
    · simp only [hb_cbP, List.mem_cons, List.not_mem_nil, or_false] at g
      rcases g with rfl | rfl | rfl | rfl | rfl | rfl <;> simp only [hb_s, hb_w, hb_n, hb_dot] <;> omega
    · exact h q g
end
section
/-! sections -/
def hb_sg (x : Nat) (sg k : Int) : hb_V4 := (if x = 0 then sg else 0, if x = 1 then sg else 0, if x = 2 then sg else 0, sg * k)
theorem hb_sg_gp {x : Nat} {sg k : Int} (hx : x ≤ 2) (hs : sg = 1 ∨ sg = -1) (hk : -8 ≤ k ∧ k ≤ 8) : hb_gp (hb_sg x sg k) := by
  have : x = 0 ∨ x = 1 ∨ x = 2 := by omega
  refine ⟨?_, fun e => ?_⟩
  · rcases this with rfl | rfl | rfl <;> rcases hs with rfl | rfl <;> simp [hb_pb, hb_sg] <;> omega
  · have e1 := congrArg (fun t : hb_V3 => t.1) e
    have e2 := congrArg (fun t : hb_V3 => t.2.1) e
    have e3 := congrArg (fun t : hb_V3 => t.2.2) e
    rcases this with rfl | rfl | rfl <;> rcases hs with rfl | rfl <;> simp [hb_sg, hb_n, hb_z] at e1 e2 e3
def hb_pu (pl : Nat → hb_V4) (p : Nat) (v : hb_V4) : Nat → hb_V4 := fun q => if q = p then v else pl q
theorem hb_pu_s {pl : Nat → hb_V4} {p : Nat} {v : hb_V4} : hb_pu pl p v p = v := if_pos rfl
theorem hb_pu_n {pl : Nat → hb_V4} {p q : Nat} {v : hb_V4} (h : q ≠ p) : hb_pu pl p v q = pl q := if_neg h
section
variable {cc bu cn mk kk : Int32} {fT fB : Int64} {a1 a2 a3 a4 a5 a6 a7 a8 a9 a10 a11 a12 a13 a14 : Nat → Int32} {a15 : Nat → Int64} {a16 a17 a18 a19 a20 a21 : Nat → Int32}
/-- one plane more, at the next place -/
theorem hb_applyC {post : St1 → Prop} {pl : Nat → hb_V4} {cs : List hb_V4} (h9 : cs.length ≤ 9) (hg : ∀ p ∈ cs, hb_gp p) (hgn : hb_gp (pl (6 + cs.length))) (hpa : hb_PA a1 a2 a3 a4 pl) (hpl : ∀ i, i < 6 + cs.length → pl i = hb_at (hb_cbP ++ cs) i) (hn : cn = nI (hb_cs cs).length) (hc : hb_CM pl (fun i => i < 6 + cs.length) a5 a6 a7 a8 a9 (hb_cs cs))
    (H : ∀ a5 a6 a7 a8 a9 a10 a11 a12 a13 a14 a15, hb_CM pl (fun i => i < 6 + cs.length + 1) a5 a6 a7 a8 a9 (hb_cs (cs ++ [pl (6 + cs.length)])) → post (cc, bu, nI (hb_cs (cs ++ [pl (6 + cs.length)])).length, nI (hb_cs (cs ++ [pl (6 + cs.length)])).length, kk, fT, fB, a1, a2, a3, a4, a5, a6, a7, a8, a9, a10, a11, a12, a13, a14, a15, a16, a17, a18, a19, a20, a21)) : wpX_applyPlane post (cc, bu, cn, mk, kk, fT, fB, a1, a2, a3, a4, a5, a6, a7, a8, a9, a10, a11, a12, a13, a14, a15, a16, a17, a18, a19, a20, a21) (nI (6 + cs.length)) := by
  have ecs : hb_app (hb_cbP ++ cs) (hb_cs cs) (pl (6 + cs.length)) = hb_cs (cs ++ [pl (6 + cs.length)]) := (hb_cs_s _ _).symm
  have hl := hb_cs_len hg
  have hg' : ∀ p ∈ cs ++ [pl (6 + cs.length)], hb_gp p := fun p hp => by
    rcases List.mem_append.mp hp with g | g
    · exact hg p g
    · rw [List.mem_singleton.mp g]; exact hgn
  have hl' := hb_cs_len hg'
  rw [List.length_append, List.length_singleton] at hl'
  refine hb_apply (by omega) hpa hn (by omega) hc (fun i hi => by omega) (fun q => ?_) (hb_cs_En _).1 (hb_cs_Bd hg) (by rw [ecs]; omega) (fun c5 c6 c7 c8 c9 c10 c11 c12 c13 c14 c15 h => ?_)
  · rw [hb_hpsC cs q]
    constructor
    · intro h
      obtain ⟨i, hi, e⟩ := h
      exact ⟨i, hi, by rw [hpl i hi, e]⟩
    · intro h
      obtain ⟨i, hi, e⟩ := h
      exact ⟨i, hi, by rw [← hpl i hi, e]⟩
  · rw [ecs] at h ⊢
    exact H _ _ _ _ _ _ _ _ _ _ _ (hb_CM_c (fun i => by omega) h)
theorem hb_sec55 {post : Int32 → St1 → Prop} {J : Int32 → Int32 → Int32 → Int32 → Int32 → Int32 → Int64 → Int64 → (Nat → Int32) → (Nat → Int32) → (Nat → Int32) → (Nat → Int32) → (Nat → Int32) → (Nat → Int32) → (Nat → Int32) → (Nat → Int32) → (Nat → Int32) → (Nat → Int32) → (Nat → Int32) → (Nat → Int32) → (Nat → Int32) → (Nat → Int32) → (Nat → Int64) → (Nat → Int32) → (Nat → Int32) → (Nat → Int32) → (Nat → Int32) → (Nat → Int32) → (Nat → Int32) → Prop}
    {pl : Nat → hb_V4} {cs : List hb_V4} {x s : Nat} {sg k : Int} (hx : x ≤ 2) (hsg : sg = 1 ∨ sg = -1) (hk : -8 ≤ k ∧ k ≤ 8) (h9 : cs.length ≤ 9) (hg : ∀ p ∈ cs, hb_gp p) (hpa : hb_PA a1 a2 a3 a4 pl) (hpl : ∀ i, i < 6 + cs.length → pl i = hb_at (hb_cbP ++ cs) i) (hn : cn = nI (hb_cs cs).length) (hc : hb_CM pl (fun i => i < 6 + cs.length) a5 a6 a7 a8 a9 (hb_cs cs))
    (H : ∀ pl' mk a1 a2 a3 a4 a5 a6 a7 a8 a9 a10 a11 a12 a13 a14 a15, hb_PA a1 a2 a3 a4 pl' → (∀ i, i < 6 + cs.length + 1 → pl' i = hb_at (hb_cbP ++ (cs ++ [hb_sg x sg k])) i) → hb_CM pl' (fun i => i < 6 + cs.length + 1) a5 a6 a7 a8 a9 (hb_cs (cs ++ [hb_sg x sg k])) → J (nI (s + 1)) cc bu (nI (hb_cs (cs ++ [hb_sg x sg k])).length) mk kk fT fB a1 a2 a3 a4 a5 a6 a7 a8 a9 a10 a11 a12 a13 a14 a15 a16 a17 a18 a19 a20 a21) :
    wX_section_80 post J (nI x) (hb_I k) (nI s) (nI (6 + cs.length)) (hb_I sg) cc bu cn mk kk fT fB a1 a2 a3 a4 a5 a6 a7 a8 a9 a10 a11 a12 a13 a14 a15 a16 a17 a18 a19 a20 a21 := by
  have gpn := hb_sg_gp hx hsg hk
  have bsg : -1 ≤ sg ∧ sg ≤ 1 := by omega
  have bk : -128 ≤ sg * k ∧ sg * k ≤ 127 := by rcases hsg with rfl | rfl <;> omega
  have len : (hb_cbP ++ cs).length = 6 + cs.length := by rw [List.length_append]; rfl
  have hpl0 : ∀ i, i < 6 + cs.length → hb_pu pl (6 + cs.length) (hb_sg x sg k) i = pl i := fun i hi => hb_pu_n (by omega)
  have main : ∀ u v w : Int, u = (hb_sg x sg k).1 → v = (hb_sg x sg k).2.1 → w = (hb_sg x sg k).2.2.1 → wX_section_117 post J (nI x) (hb_I k) (nI s) (nI (6 + cs.length)) (hb_I sg) (hb_I w) (hb_I v) (hb_I u) (nI (6 + cs.length)) cc bu cn mk kk fT fB a1 a2 a3 a4 a5 a6 a7 a8 a9 a10 a11 a12 a13 a14 a15 a16 a17 a18 a19 a20 a21 := by
    intro u v w hu hv hw
    obtain ⟨y1, y2, y3, y4⟩ := hb_pb_byte gpn.1
    unfold wX_section_117
    rw [hu, hv, hw]
    refine hb_setPlane (by omega) y1 y2 y3 ⟨pk_in (6 + cs.length) 16 (by omega), nm_r (e' := upd a4 (6 + cs.length) (hb_I (hb_sg x sg k).2.2.2)) (by rw [nI_clamp (by omega), hb_I_mul, hb_byte bk]; rfl) ?_⟩
    have hpa' := hb_PA_put (pl' := hb_pu pl (6 + cs.length) (hb_sg x sg k)) (v := hb_sg x sg k) hpa gpn.1 hb_pu_s (fun q hq => hb_pu_n hq)
    have epl : hb_pu pl (6 + cs.length) (hb_sg x sg k) (6 + cs.length) = hb_sg x sg k := hb_pu_s
    refine hb_applyC h9 hg (by rw [epl]; exact gpn) hpa' (fun i hi => by rw [hpl0 i hi]; exact hpl i hi) hn (hb_CM_pl (fun i => Iff.rfl) (fun i hi => (hpl0 i hi).symm) hc) (fun c5 c6 c7 c8 c9 c10 c11 c12 c13 c14 c15 h => nm_r (nI_1 s) ?_)
    rw [epl] at h ⊢
    refine H _ _ _ _ _ _ _ _ _ _ _ _ _ _ _ _ _ hpa' (fun i hi => ?_) h
    rw [← List.append_assoc]
    by_cases e : i = 6 + cs.length
    · rw [e, epl, ← len, hb_at_m]
    · rw [hpl0 i (by omega), hb_at_l (by omega)]
      exact hpl i (by omega)
  have z0 : (0 : Int32) = hb_I 0 := hb_I0
  unfold wX_section_80
  refine pk_eq x 0 (fun e0 => ?_) (fun e0 => ?_)
  · unfold wX_section_95
    refine pk_eq x 1 (fun e1 => absurd e1 (by omega)) (fun e1 => ?_)
    unfold wX_section_106
    refine pk_eq x 2 (fun e2 => absurd e2 (by omega)) (fun e2 => ?_)
    rw [z0]
    exact main sg 0 0 (by simp [hb_sg, e0]) (by simp [hb_sg, e0]) (by simp [hb_sg, e0])
  · unfold wX_section_95
    refine pk_eq x 1 (fun e1 => ?_) (fun e1 => ?_)
    · unfold wX_section_106
      refine pk_eq x 2 (fun e2 => absurd e2 (by omega)) (fun e2 => ?_)
      rw [z0]
      exact main 0 sg 0 (by simp [hb_sg, e1]) (by simp [hb_sg, e1]) (by simp [hb_sg, e1])
    · unfold wX_section_106
      refine pk_eq x 2 (fun e2 => ?_) (fun e2 => absurd e2 (by omega))
      rw [z0]
      exact main 0 0 sg (by simp [hb_sg, e2]) (by simp [hb_sg, e2]) (by simp [hb_sg, e2])
/-- the number of corners of a section -/
noncomputable def hb_sn (cs : List hb_V4) (x : Nat) (k : Int) : Nat := (hb_cs (cs ++ [hb_sg x 1 k] ++ [hb_sg x (-1) k])).length
theorem hb_section {post : Int32 → St1 → Prop} {cs : List hb_V4} {x : Nat} {k : Int} (hx : x ≤ 2) (hk : -8 ≤ k ∧ k ≤ 8) (hP : hb_PV cs cc a1 a2 a3 a4)
    (H : ∀ cn mk a1 a2 a3 a4 a5 a6 a7 a8 a9 a10 a11 a12 a13 a14 a15, hb_PV cs cc a1 a2 a3 a4 → post (nI (hb_sn cs x k)) (cc, 0, cn, mk, kk, fT, fB, a1, a2, a3, a4, a5, a6, a7, a8, a9, a10, a11, a12, a13, a14, a15, a16, a17, a18, a19, a20, a21)) : wpX_section post (cc, bu, cn, mk, kk, fT, fB, a1, a2, a3, a4, a5, a6, a7, a8, a9, a10, a11, a12, a13, a14, a15, a16, a17, a18, a19, a20, a21) (nI x) (hb_I k) := by
  obtain ⟨hcc, h8, hg, pl, hpa, hpl⟩ := hP
  have six : ∀ m, (6 : Int32) + nI m = nI (6 + m) := fun m => nI_add 6 m
  have Rk : hb_R k := by unfold hb_R; omega
  have m8 : (-8 : Int32) = hb_I (-8) := by decide
  have p8 : (8 : Int32) = hb_I 8 := by decide
  unfold wpX_section
  refine br_f (nI_pos (by omega)) (br_f (show ¬ (2 : Int32) < nI x from nI_nlt (a := 2) (by omega) (by omega)) (br_f (by rw [m8, hb_I_lt Rk (by unfold hb_R; omega)]; omega) (br_t (by rw [p8, hb_I_le Rk (by unfold hb_R; omega)]; omega) ?_)))
  refine hb_startCube (pl := pl) (fun q hq => by rw [hpl q (by omega)]; exact hb_at_l hq) (fun b5 b6 b7 b8 b9 hc0 => ?_)
  refine pk_loop (σ := Int32 × hb_F5 × hb_F5 × (Nat → Int64)) (fun n j s => wX_section_31 post (nI x) (hb_I k) n (nI (6 + j)) cc bu (nI (hb_cs (cs.take j)).length) s.1 kk fT fB a1 a2 a3 a4 s.2.1.1 s.2.1.2.1 s.2.1.2.2.1 s.2.1.2.2.2.1 s.2.1.2.2.2.2 s.2.2.1.1 s.2.2.1.2.1 s.2.2.1.2.2.1 s.2.2.1.2.2.2.1 s.2.2.1.2.2.2.2 s.2.2.2 a16 a17 a18 a19 a20 a21)
    (fun j s => hb_CM pl (fun i => i < 6 + j) s.2.1.1 s.2.1.2.1 s.2.1.2.2.1 s.2.1.2.2.2.1 s.2.1.2.2.2.2 (hb_cs (cs.take j))) cs.length 0 (mk, (b5, b6, b7, b8, b9), (a10, a11, a12, a13, a14), a15) (by omega) hc0 ?_ ?_
  · intro n s h
    refine pk_le (6 + cs.length) (6 + cs.length) (fun _ => ?_) (fun z => absurd z (by omega)) (by rw [hcc, six])
    rw [List.take_length] at h ⊢
    -- the two planes of the section
    refine ⟨3, br_f (by decide) (nm_r (e' := nI (6 + cs.length)) (by rw [hcc, six]; exact nI_add _ 0) (br_t rfl ?_))⟩
    have one : (1 : Int32) = hb_I 1 := by decide
    have mone : (-1 : Int32) = hb_I (-1) := by decide
    rw [one]
    refine hb_sec55 (s := 0) hx (Or.inl rfl) hk (by omega) hg hpa hpl rfl h (fun pl1 mk1 d1 d2 d3 d4 d5 d6 d7 d8 d9 d10 d11 d12 d13 d14 d15 hpa1 hpl1 hc1 => ?_)
    have len1 : (cs ++ [hb_sg x 1 k]).length = cs.length + 1 := by rw [List.length_append]; rfl
    have hg1 : ∀ p ∈ cs ++ [hb_sg x 1 k], hb_gp p := fun p hp => by
      rcases List.mem_append.mp hp with g | g
      · exact hg p g
      · rw [List.mem_singleton.mp g]; exact hb_sg_gp hx (Or.inl rfl) hk
    refine br_f (by decide) (nm_r (e' := nI (6 + (cs ++ [hb_sg x 1 k]).length)) (by rw [hcc, six, len1]; exact nI_1 _) (br_f (by decide) ?_))
    rw [mone]
    refine hb_sec55 (s := 1) hx (Or.inr rfl) hk (by omega) hg1 hpa1 (fun i hi => hpl1 i (by omega)) rfl (hb_CM_c (fun i => by rw [len1]; omega) hc1) (fun pl2 mk2 f1 f2 f3 f4 f5 f6 f7 f8 f9 f10 f11 f12 f13 f14 f15 hpa2 hpl2 hc2 => ?_)
    refine br_t (by decide) (H _ _ _ _ _ _ _ _ _ _ _ _ _ _ _ _ _ ⟨hcc, h8, hg, pl2, hpa2, fun i hi => ?_⟩)
    have len0 : (hb_cbP ++ cs).length = 6 + cs.length := by rw [List.length_append]; rfl
    rw [hpl2 i (by omega), ← List.append_assoc, ← List.append_assoc, hb_at_l (by rw [List.length_append]; omega), hb_at_l (by omega)]
  · intro n j s hj h hw
    refine pk_le (6 + cs.length) (6 + j) (fun z => absurd z (by omega)) (fun _ => ?_) (by rw [hcc, six])
    have lt : (cs.take j).length = j := by rw [List.length_take]; omega
    have epl : pl (6 + j) = hb_at cs j := by rw [hpl _ (by omega), hb_at_cut]
    have tk : cs.take (j + 1) = cs.take j ++ [hb_at cs j] := by rw [hb_at_e hj]; exact (List.take_append_getElem hj).symm
    have hgt : ∀ p ∈ cs.take j, hb_gp p := fun p hp => hg p (List.mem_of_mem_take hp)
    have key := @hb_applyC cc bu (nI (hb_cs (cs.take j)).length) s.1 kk fT fB a1 a2 a3 a4 s.2.1.1 s.2.1.2.1 s.2.1.2.2.1 s.2.1.2.2.2.1 s.2.1.2.2.2.2 s.2.2.1.1 s.2.2.1.2.1 s.2.2.1.2.2.1 s.2.2.1.2.2.2.1 s.2.2.1.2.2.2.2 s.2.2.2 a16 a17 a18 a19 a20 a21 (fun u => match u with | (cc, bu, cn, mk, kk, fT, fB, a1, a2, a3, a4, a5, a6, a7, a8, a9, a10, a11, a12, a13, a14, a15, a16, a17, a18, a19, a20, a21) => (∀ x3_299 : Int32, x3_299 = nI (6 + j) + 1 → (wX_section_31 post (nI x) (hb_I k) n x3_299 cc bu cn mk kk fT fB a1 a2 a3 a4 a5 a6 a7 a8 a9 a10 a11 a12 a13 a14 a15 a16 a17 a18 a19 a20 a21))) pl (cs.take j) (by omega) hgt (by rw [lt, epl]; exact hg _ (hb_at_mem hj)) hpa (fun i hi => by
      rw [lt] at hi
      rw [hpl i (by omega)]
      have c6 : hb_cbP.length = 6 := rfl
      rcases Nat.lt_or_ge i 6 with g | g
      · rw [hb_at_l (by omega), hb_at_l (by omega)]
      · obtain ⟨t, rfl⟩ : ∃ t, i = 6 + t := ⟨i - 6, by omega⟩
        rw [hb_at_cut, hb_at_cut, hb_at_e (by omega), hb_at_e (by omega), List.getElem_take]) rfl (hb_CM_c (fun i => by rw [lt]) h) (fun c5 c6 c7 c8 c9 c10 c11 c12 c13 c14 c15 hc => nm_r (nI_1 _) (by
      rw [lt, epl] at hc ⊢
      rw [← tk] at hc ⊢
      exact hw (_, (c5, c6, c7, c8, c9), (c10, c11, c12, c13, c14), c15) hc))
    rw [lt] at key
    exact key
end
theorem hb_sn_same {cs : List hb_V4} {k : Nat} (hk : k < cs.length) (he : hb_SL (cs.eraseIdx k) = hb_SL cs) (x : Nat) (d : Int) : hb_sn cs x d = hb_sn (cs.eraseIdx k) x d := by
  have hq : ∀ v ∈ hb_SL (cs.eraseIdx k), 0 ≤ hb_s (hb_at cs k) v := fun v hv => by
    rw [he] at hv
    exact ((hb_SL_En cs).1 v hv).1.2 _ (List.mem_append_right _ (hb_at_mem hk))
  have hm : ∀ p, p ∈ hb_cbP ++ cs ↔ p ∈ hb_cbP ++ cs.eraseIdx k ∨ p = hb_at cs k := fun p => by
    rw [List.mem_append, List.mem_append, hb_mem_er hk p]
    constructor
    · intro h
      rcases h with h | h | h
      · exact Or.inl (Or.inl h)
      · exact Or.inl (Or.inr h)
      · exact Or.inr h
    · intro h
      rcases h with (h | h) | h
      · exact Or.inl h
      · exact Or.inr (Or.inl h)
      · exact Or.inr (Or.inr h)
  unfold hb_sn
  have e1 := (hb_cs_En (cs ++ [hb_sg x 1 d] ++ [hb_sg x (-1) d])).1
  have e2 := (hb_cs_En (cs.eraseIdx k ++ [hb_sg x 1 d] ++ [hb_sg x (-1) d])).1
  have as : ∀ c : List hb_V4, hb_cbP ++ (c ++ [hb_sg x 1 d] ++ [hb_sg x (-1) d]) = hb_cbP ++ c ++ [hb_sg x 1 d, hb_sg x (-1) d] := fun c => by simp
  rw [as] at e1 e2
  exact hb_same_len hm (hb_bnd_cs _) (hb_SL_En _) hq e1 e2
end
section
/-! shadows: what they answer is a function of the corners -/
def hb_ac (ax : Nat) (v : hb_V4) : Int := if ax = 0 then v.2.1 else v.1
def hb_uw (ax : Nat) (v : hb_V4) : Int := if ax = 2 then v.2.1 else v.2.2.1
def hb_cp (ax : Nat) (k l : hb_V4) : Int := if hb_ac ax k * hb_w l - hb_ac ax l * hb_w k = 0 then hb_uw ax k * hb_w l - hb_uw ax l * hb_w k else hb_ac ax k * hb_w l - hb_ac ax l * hb_w k
def hb_sgn (z : Int) : Int32 := if 0 ≤ z then (if z ≤ 0 then 0 else 1) else -1
def hb_tn (ax : Nat) (k l m : hb_V4) : Int := hb_ac ax k * (hb_uw ax l * hb_w m - hb_uw ax m * hb_w l) - hb_uw ax k * (hb_ac ax l * hb_w m - hb_ac ax m * hb_w l) + hb_w k * (hb_ac ax l * hb_uw ax m - hb_ac ax m * hb_uw ax l)
def hb_o : Option Nat → Int32
  | none => -1
  | some k => nI k
noncomputable def hb_sa (L : List hb_V4) (ax : Nat) (last : Option Nat) : Nat → Option Nat
  | 0 => none
  | i + 1 => if hb_b ((∀ l, last = some l → 0 < hb_cp ax (hb_at L i) (hb_at L l)) ∧ (∀ b, hb_sa L ax last i = some b → hb_cp ax (hb_at L i) (hb_at L b) < 0)) then some i else hb_sa L ax last i
theorem hb_sa_lt {L : List hb_V4} {ax : Nat} {last : Option Nat} : ∀ i b, hb_sa L ax last i = some b → b < i ∧ ∀ l, last = some l → 0 < hb_cp ax (hb_at L b) (hb_at L l) := by
  intro i
  induction i with
  | zero => intro b h; cases h
  | succ i ih =>
    intro b h
    unfold hb_sa at h
    split at h
    · rename_i hc
      have := hb_b_t.mp hc
      cases h
      exact ⟨by omega, this.1⟩
    · have := ih b h
      exact ⟨by omega, this.2⟩
theorem hb_cp_tr {ax : Nat} {k l m : hb_V4} (wk : 0 < hb_w k) (wl : 0 < hb_w l) (wm : 0 < hb_w m) (h1 : 0 < hb_cp ax k l) (h2 : 0 < hb_cp ax l m) : 0 < hb_cp ax k m := by
  have U : hb_w l * (hb_ac ax k * hb_w m - hb_ac ax m * hb_w k) = hb_w m * (hb_ac ax k * hb_w l - hb_ac ax l * hb_w k) + hb_w k * (hb_ac ax l * hb_w m - hb_ac ax m * hb_w l) := by grind
  have V : hb_w l * (hb_uw ax k * hb_w m - hb_uw ax m * hb_w k) = hb_w m * (hb_uw ax k * hb_w l - hb_uw ax l * hb_w k) + hb_w k * (hb_uw ax l * hb_w m - hb_uw ax m * hb_w l) := by grind
  unfold hb_cp at *
  generalize hb_ac ax k * hb_w l - hb_ac ax l * hb_w k = u1 at *
  generalize hb_ac ax l * hb_w m - hb_ac ax m * hb_w l = u2 at *
  generalize hb_ac ax k * hb_w m - hb_ac ax m * hb_w k = u3 at *
  generalize hb_uw ax k * hb_w l - hb_uw ax l * hb_w k = v1 at *
  generalize hb_uw ax l * hb_w m - hb_uw ax m * hb_w l = v2 at *
  generalize hb_uw ax k * hb_w m - hb_uw ax m * hb_w k = v3 at *
  have pos : ∀ x : Int, 0 < hb_w l * x → 0 < x := fun x h => by
    rcases Int.lt_or_le 0 x with g | g
    · exact g
    · have := Int.mul_nonpos_of_nonneg_of_nonpos (Int.le_of_lt wl) g; omega
  have u1n : 0 ≤ u1 := by split at h1 <;> omega
  have u2n : 0 ≤ u2 := by split at h2 <;> omega
  have a1 := Int.mul_nonneg (Int.le_of_lt wm) u1n
  have a2 := Int.mul_nonneg (Int.le_of_lt wk) u2n
  by_cases e1 : u1 = 0
  · rw [if_pos e1] at h1
    by_cases e2 : u2 = 0
    · rw [if_pos e2] at h2
      rw [e1, e2, Int.mul_zero, Int.mul_zero] at U
      have e3 : u3 = 0 := by
        rcases Int.mul_eq_zero.mp (show hb_w l * u3 = 0 by omega) with g | g
        · omega
        · exact g
      rw [if_pos e3]
      have b1 := Int.mul_pos wm h1
      have b2 := Int.mul_pos wk h2
      exact pos v3 (by omega)
    · have b2 := Int.mul_pos wk (show 0 < u2 by omega)
      have p3 := pos u3 (by omega)
      rw [if_neg (by omega)]; exact p3
  · have b1 := Int.mul_pos wm (show 0 < u1 by omega)
    have p3 := pos u3 (by omega)
    rw [if_neg (by omega)]; exact p3
theorem hb_cp_self (ax : Nat) (k : hb_V4) : hb_cp ax k k = 0 := by
  unfold hb_cp
  split <;> omega
theorem hb_sm_lt {n : Nat} {f g : Nat → Nat} (h : ∀ i, i < n → f i ≤ g i) (hx : ∃ i, i < n ∧ f i < g i) : hb_sm n f < hb_sm n g := by
  induction n with
  | zero => obtain ⟨i, hi, _⟩ := hx; omega
  | succ n ih =>
    show hb_sm n f + f n < hb_sm n g + g n
    obtain ⟨i, hi, hlt⟩ := hx
    have le := hb_sm_le (n := n) (f := f) (g := g) (fun i hi => h i (by omega))
    have hn := h n (by omega)
    by_cases e : i = n
    · rw [e] at hlt; omega
    · have := ih (fun i hi => h i (by omega)) ⟨i, by omega, hlt⟩
      omega
/-- how many corners come behind one -/
noncomputable def hb_me (L : List hb_V4) (ax : Nat) : Option Nat → Nat
  | none => 0
  | some k => 1 + hb_sm L.length (fun j => hb_i (0 < hb_cp ax (hb_at L j) (hb_at L k)))
theorem hb_me_n {L : List hb_V4} {ax : Nat} {o : Option Nat} (h : ∀ k, o = some k → k < L.length) : hb_me L ax o ≤ L.length := by
  cases o with
  | none => exact Nat.zero_le _
  | some k =>
    have hk := h k rfl
    have : hb_sm L.length (fun j => hb_i (0 < hb_cp ax (hb_at L j) (hb_at L k))) < hb_sm L.length (fun _ => 1) := by
      refine hb_sm_lt (fun i hi => ?_) ⟨k, hk, ?_⟩
      · by_cases c : 0 < hb_cp ax (hb_at L i) (hb_at L k)
        · rw [hb_i_t c]; exact Nat.le_refl _
        · rw [hb_i_f c]; exact Nat.zero_le _
      · rw [hb_cp_self, hb_i_f (by decide)]; decide
    rw [hb_sm_k] at this
    show 1 + _ ≤ _
    omega
theorem hb_me_s {L : List hb_V4} {ax k : Nat} (hw : ∀ v ∈ L, 0 < hb_w v) (hk : k < L.length) : hb_me L ax (hb_sa L ax (some k) L.length) < hb_me L ax (some k) := by
  cases e : hb_sa L ax (some k) L.length with
  | none => show 0 < 1 + _; omega
  | some b =>
    obtain ⟨hb, hc⟩ := hb_sa_lt _ _ e
    have hc' := hc k rfl
    show 1 + _ < 1 + _
    refine Nat.add_lt_add_left (hb_sm_lt (fun j hj => ?_) ⟨b, hb, ?_⟩) 1
    · by_cases c : 0 < hb_cp ax (hb_at L j) (hb_at L b)
      · rw [hb_i_t c, hb_i_t (hb_cp_tr (hw _ (hb_at_mem hj)) (hw _ (hb_at_mem hb)) (hw _ (hb_at_mem hk)) c hc')]; exact Nat.le_refl _
      · rw [hb_i_f c]; exact Nat.zero_le _
    · rw [hb_cp_self, hb_i_f (by decide), hb_i_t hc']; decide
def hb_pop (L : List hb_V4) (ax : Nat) (sd : Int64) (nx : Nat) : List Nat → List Nat
  | [] => []
  | [b] => [b]
  | b :: a :: t => if 0 < hb_L (hb_tn ax (hb_at L a) (hb_at L b) (hb_at L nx)) * sd then b :: a :: t else hb_pop L ax sd nx (a :: t)
noncomputable def hb_ho (L : List hb_V4) (ax : Nat) (sd : Int64) : Nat → Option Nat → List Nat → Nat
  | 0, _, _ => 0
  | _ + 1, none, l => l.length
  | f + 1, some k, l => hb_ho L ax sd f (hb_sa L ax (some k) L.length) (k :: hb_pop L ax sd k l)
/-- the chain, its last one ahead -/
def hb_ch (a : Nat → Int32) : List Nat → Prop
  | [] => True
  | b :: t => a t.length = nI b ∧ hb_ch a t
theorem hb_ch_u {a : Nat → Int32} {p : Nat} {x : Int32} : ∀ l, l.length ≤ p → hb_ch a l → hb_ch (upd a p x) l := by
  intro l
  induction l with
  | nil => intro _ _; trivial
  | cons b t ih =>
    intro hl h
    have hl' : t.length + 1 ≤ p := hl
    exact ⟨(pk_un (by omega)).trans h.1, ih (by omega) h.2⟩
section
variable {cc bu cn mk kk : Int32} {fT fB : Int64} {a1 a2 a3 a4 a5 a6 a7 a8 a9 a10 a11 a12 a13 a14 : Nat → Int32} {a15 : Nat → Int64} {a16 a17 a18 a19 a20 a21 : Nat → Int32}
theorem hb_across {post : Int32 → Prop} {cs : List hb_V4} {k ax : Nat} (hk : k < (hb_SL cs).length) (h64 : (hb_SL cs).length ≤ 64) (hax : ax ≤ 2) (hC : hb_CV cs cn a5 a6 a7 a8 a9) (H : post (hb_I (hb_ac ax (hb_at (hb_SL cs) k)))) : wpX_across post (cc, bu, cn, mk, kk, fT, fB, a1, a2, a3, a4, a5, a6, a7, a8, a9, a10, a11, a12, a13, a14, a15, a16, a17, a18, a19, a20, a21) (nI k) (nI ax) := by
  obtain ⟨r1, r2, r3, r4, _⟩ := hC.2 k hk
  have ek := nI_clamp (show k < 2 ^ 31 by omega)
  unfold wpX_across
  unfold hb_ac at H
  refine pk_eq ax 0 (fun e => ⟨pk_in k 64 (by omega), ?_⟩) (fun e => ⟨pk_in k 64 (by omega), ?_⟩)
  · rw [if_pos e] at H
    rw [ek, r2]; exact H
  · rw [if_neg e] at H
    rw [ek, r1]; exact H
theorem hb_upward {post : Int32 → Prop} {cs : List hb_V4} {k ax : Nat} (hk : k < (hb_SL cs).length) (h64 : (hb_SL cs).length ≤ 64) (hax : ax ≤ 2) (hC : hb_CV cs cn a5 a6 a7 a8 a9) (H : post (hb_I (hb_uw ax (hb_at (hb_SL cs) k)))) : wpX_upward post (cc, bu, cn, mk, kk, fT, fB, a1, a2, a3, a4, a5, a6, a7, a8, a9, a10, a11, a12, a13, a14, a15, a16, a17, a18, a19, a20, a21) (nI k) (nI ax) := by
  obtain ⟨r1, r2, r3, r4, _⟩ := hC.2 k hk
  have ek := nI_clamp (show k < 2 ^ 31 by omega)
  unfold wpX_upward
  unfold hb_uw at H
  refine pk_eq ax 2 (fun e => ⟨pk_in k 64 (by omega), ?_⟩) (fun e => ⟨pk_in k 64 (by omega), ?_⟩)
  · rw [if_pos e] at H
    rw [ek, r2]; exact H
  · rw [if_neg e] at H
    rw [ek, r3]; exact H
theorem hb_acB {v : hb_V4} (h : hb_Bd v) (ax : Nat) : (-3840 ≤ hb_ac ax v ∧ hb_ac ax v ≤ 3840) ∧ (-3840 ≤ hb_uw ax v ∧ hb_uw ax v ≤ 3840) ∧ (1 ≤ hb_w v ∧ hb_w v ≤ 384) := by
  obtain ⟨h1, h2, h3, h4⟩ := h
  refine ⟨?_, ?_, h4⟩
  · unfold hb_ac; split <;> omega
  · unfold hb_uw; split <;> omega
theorem hb_compare {post : Int32 → Prop} {cs : List hb_V4} {k l ax : Nat} (hg : ∀ p ∈ cs, hb_gp p) (hk : k < (hb_SL cs).length) (hl : l < (hb_SL cs).length) (h64 : (hb_SL cs).length ≤ 64) (hax : ax ≤ 2) (hC : hb_CV cs cn a5 a6 a7 a8 a9) (H : post (hb_sgn (hb_cp ax (hb_at (hb_SL cs) k) (hb_at (hb_SL cs) l)))) : wpX_compare post (cc, bu, cn, mk, kk, fT, fB, a1, a2, a3, a4, a5, a6, a7, a8, a9, a10, a11, a12, a13, a14, a15, a16, a17, a18, a19, a20, a21) (nI k) (nI l) (nI ax) := by
  have ik : vp_in (nI k) 64 := pk_in k 64 (by omega)
  have il : vp_in (nI l) 64 := pk_in l 64 (by omega)
  have ek := nI_clamp (show k < 2 ^ 31 by omega)
  have el := nI_clamp (show l < 2 ^ 31 by omega)
  obtain ⟨_, _, _, r4, _⟩ := hC.2 k hk
  obtain ⟨_, _, _, s4, _⟩ := hC.2 l hl
  obtain ⟨b1, b2, b3⟩ := hb_acB (hb_SL_Bd hg _ (hb_at_mem hk)) ax
  obtain ⟨c1, c2, c3⟩ := hb_acB (hb_SL_Bd hg _ (hb_at_mem hl)) ax
  have e1 := hb_b38 b1 c3
  have e2 := hb_b38 c1 b3
  have f1 := hb_b38 b2 c3
  have f2 := hb_b38 c2 b3
  have RL : ∀ x : Int, -2949120 ≤ x ∧ x ≤ 2949120 → hb_RL x := by intro x h; unfold hb_RL; omega
  have wk : (a8 k).toInt64 = hb_L (hb_w (hb_at (hb_SL cs) k)) := by rw [r4]; exact hb_I_L (hb_R_w b3)
  have wl : (a8 l).toInt64 = hb_L (hb_w (hb_at (hb_SL cs) l)) := by rw [s4]; exact hb_I_L (hb_R_w c3)
  have w73 : ∀ z : Int, (-2949120 ≤ z ∧ z ≤ 2949120) → post (hb_sgn z) → wX_compare_73 post (hb_L z) cc bu cn mk kk fT fB a1 a2 a3 a4 a5 a6 a7 a8 a9 a10 a11 a12 a13 a14 a15 a16 a17 a18 a19 a20 a21 := by
    intro z hz hp
    unfold wX_compare_73
    unfold hb_sgn at hp
    rw [hb_L0]
    refine ek_if (hb_L_le hb_RL0 (RL _ hz)) (fun g => ?_) (fun g => ?_)
    · rw [if_pos g] at hp
      refine ek_if (hb_L_le (RL _ hz) hb_RL0) (fun g' => ?_) (fun g' => ?_)
      · rw [if_pos g'] at hp; exact hp
      · rw [if_neg g'] at hp; exact hp
    · rw [if_neg g] at hp; exact hp
  unfold wpX_compare
  refine hb_across hk h64 hax hC ⟨il, ?_⟩
  refine hb_across hl h64 hax hC ⟨ik, nm_r (e' := hb_L (hb_ac ax (hb_at (hb_SL cs) k) * hb_w (hb_at (hb_SL cs) l) - hb_ac ax (hb_at (hb_SL cs) l) * hb_w (hb_at (hb_SL cs) k))) (by rw [ek, el, wk, wl, hb_I_L (hb_R_x b1), hb_I_L (hb_R_x c1), hb_L_mul, hb_L_mul, hb_L_sub]) ?_⟩
  unfold hb_cp at H
  rw [hb_L0]
  refine ek_if (hb_L_eq (RL _ (by omega)) hb_RL0) (fun z => ?_) (fun z => ?_)
  · rw [if_pos z] at H
    refine hb_upward hk h64 hax hC ⟨il, ?_⟩
    refine hb_upward hl h64 hax hC ⟨ik, nm_r (e' := hb_L (hb_uw ax (hb_at (hb_SL cs) k) * hb_w (hb_at (hb_SL cs) l) - hb_uw ax (hb_at (hb_SL cs) l) * hb_w (hb_at (hb_SL cs) k))) (by rw [ek, el, wk, wl, hb_I_L (hb_R_x b2), hb_I_L (hb_R_x c2), hb_L_mul, hb_L_mul, hb_L_sub]) ?_⟩
    exact w73 _ (by omega) H
  · rw [if_neg z] at H
    exact w73 _ (by omega) H
theorem hb_sgn_le (z : Int) : (0 ≤ hb_sgn z ↔ 0 ≤ z) ∧ (0 < hb_sgn z ↔ 0 < z) := by
  unfold hb_sgn
  by_cases g : 0 ≤ z
  · rw [if_pos g]
    by_cases g' : z ≤ 0
    · rw [if_pos g']
      exact ⟨⟨fun _ => g, fun _ => by decide⟩, ⟨fun h => absurd h (by decide), fun h => by omega⟩⟩
    · rw [if_neg g']
      exact ⟨⟨fun _ => g, fun _ => by decide⟩, ⟨fun _ => by omega, fun _ => by decide⟩⟩
  · rw [if_neg g]
    exact ⟨⟨fun h => absurd h (by decide), fun h => absurd h g⟩, ⟨fun h => absurd h (by decide), fun h => by omega⟩⟩
theorem hb_smallest {post : Int32 → Prop} {cs : List hb_V4} {ax : Nat} {last : Option Nat} (hg : ∀ p ∈ cs, hb_gp p) (hlast : ∀ l, last = some l → l < (hb_SL cs).length) (h64 : (hb_SL cs).length ≤ 64) (hax : ax ≤ 2) (hC : hb_CV cs cn a5 a6 a7 a8 a9) (H : post (hb_o (hb_sa (hb_SL cs) ax last (hb_SL cs).length))) : wpX_smallestAfter post (cc, bu, cn, mk, kk, fT, fB, a1, a2, a3, a4, a5, a6, a7, a8, a9, a10, a11, a12, a13, a14, a15, a16, a17, a18, a19, a20, a21) (hb_o last) (nI ax) := by
  have hn := hC.1
  unfold wpX_smallestAfter
  refine pk_loop (σ := Unit) (fun n i _ => wX_smallestAfter_5 post (hb_o last) (nI ax) cc bu cn mk kk fT fB a1 a2 a3 a4 a5 a6 a7 a8 a9 a10 a11 a12 a13 a14 a15 a16 a17 a18 a19 a20 a21 n (hb_o (hb_sa (hb_SL cs) ax last i)) (nI i)) (fun _ _ => True) (hb_SL cs).length 0 () (by omega) trivial ?_ ?_
  · intro n _ _
    exact pk_le (hb_SL cs).length (hb_SL cs).length (fun _ => H) (fun z => absurd z (by omega)) hn
  · intro n i _ hi _ hw
    have t := hw () trivial
    have yes : ((∀ l, last = some l → 0 < hb_cp ax (hb_at (hb_SL cs) i) (hb_at (hb_SL cs) l)) ∧ (∀ b, hb_sa (hb_SL cs) ax last i = some b → hb_cp ax (hb_at (hb_SL cs) i) (hb_at (hb_SL cs) b) < 0)) → wX_smallestAfter_5 post (hb_o last) (nI ax) cc bu cn mk kk fT fB a1 a2 a3 a4 a5 a6 a7 a8 a9 a10 a11 a12 a13 a14 a15 a16 a17 a18 a19 a20 a21 n (nI i) (nI (i + 1)) := by
      intro hc
      have e : hb_sa (hb_SL cs) ax last (i + 1) = some i := by
        show (if hb_b _ then _ else _) = _
        rw [if_pos (hb_b_t.mpr hc)]
      rw [e] at t
      exact t
    have no : ¬ ((∀ l, last = some l → 0 < hb_cp ax (hb_at (hb_SL cs) i) (hb_at (hb_SL cs) l)) ∧ (∀ b, hb_sa (hb_SL cs) ax last i = some b → hb_cp ax (hb_at (hb_SL cs) i) (hb_at (hb_SL cs) b) < 0)) → wX_smallestAfter_5 post (hb_o last) (nI ax) cc bu cn mk kk fT fB a1 a2 a3 a4 a5 a6 a7 a8 a9 a10 a11 a12 a13 a14 a15 a16 a17 a18 a19 a20 a21 n (hb_o (hb_sa (hb_SL cs) ax last i)) (nI (i + 1)) := by
      intro hc
      have e : hb_sa (hb_SL cs) ax last (i + 1) = hb_sa (hb_SL cs) ax last i := by
        show (if hb_b _ then _ else _) = _
        rw [if_neg (fun h => hc (hb_b_t.mp h))]
      rw [e] at t
      exact t
    have w32 : (∀ l, last = some l → 0 < hb_cp ax (hb_at (hb_SL cs) i) (hb_at (hb_SL cs) l)) → wX_smallestAfter_32 post (wX_smallestAfter_5 post (hb_o last) (nI ax) cc bu cn mk kk fT fB a1 a2 a3 a4 a5 a6 a7 a8 a9 a10 a11 a12 a13 a14 a15 a16 a17 a18 a19 a20 a21 n) (hb_o last) (nI ax) (hb_o (hb_sa (hb_SL cs) ax last i)) (nI i) cc bu cn mk kk fT fB a1 a2 a3 a4 a5 a6 a7 a8 a9 a10 a11 a12 a13 a14 a15 a16 a17 a18 a19 a20 a21 := by
      intro hL
      unfold wX_smallestAfter_32
      cases e : hb_sa (hb_SL cs) ax last i with
      | none => exact br_t (by decide) (nm_r (nI_1 i) (yes ⟨hL, fun b hb => by rw [e] at hb; cases hb⟩))
      | some b =>
        have hb := (hb_sa_lt _ _ e).1
        rw [e] at no
        refine br_f (nI_pos (by omega)) (hb_compare hg hi (by omega) h64 hax hC (ek_if (hb_sgn_le _).1 (fun g => nm_r (nI_1 i) (no (fun hh => ?_))) (fun g => nm_r (nI_1 i) (yes ⟨hL, fun b' hb' => ?_⟩))))
        · have := hh.2 b rfl
          omega
        · rw [e] at hb'
          cases hb'
          omega
    refine pk_le (hb_SL cs).length i (fun z => absurd z (by omega)) (fun _ => ?_) hn
    cases el : last with
    | none =>
      rw [el] at w32
      exact br_t (by decide) (w32 (fun l hl => by cases hl))
    | some l =>
      have hl := hlast l el
      rw [el] at w32 no
      refine br_f (nI_pos (by omega)) (hb_compare hg hi hl h64 hax hC (ek_if (hb_sgn_le _).2 (fun g => w32 (fun l' hl' => by cases hl'; exact g)) (fun g => nm_r (nI_1 i) (no (fun hh => g (hh.1 l rfl))))))
theorem hb_turn {post : Int64 → Prop} {cs : List hb_V4} {k l m ax : Nat} (hg : ∀ p ∈ cs, hb_gp p) (hk : k < (hb_SL cs).length) (hl : l < (hb_SL cs).length) (hm : m < (hb_SL cs).length) (h64 : (hb_SL cs).length ≤ 64) (hax : ax ≤ 2) (hC : hb_CV cs cn a5 a6 a7 a8 a9) (H : post (hb_L (hb_tn ax (hb_at (hb_SL cs) k) (hb_at (hb_SL cs) l) (hb_at (hb_SL cs) m)))) : wpX_turn post (cc, bu, cn, mk, kk, fT, fB, a1, a2, a3, a4, a5, a6, a7, a8, a9, a10, a11, a12, a13, a14, a15, a16, a17, a18, a19, a20, a21) (nI k) (nI l) (nI m) (nI ax) := by
  have il : vp_in (nI l) 64 := pk_in l 64 (by omega)
  have im : vp_in (nI m) 64 := pk_in m 64 (by omega)
  have ek := nI_clamp (show k < 2 ^ 31 by omega)
  have el := nI_clamp (show l < 2 ^ 31 by omega)
  have em := nI_clamp (show m < 2 ^ 31 by omega)
  obtain ⟨_, _, _, r4, _⟩ := hC.2 k hk
  obtain ⟨_, _, _, s4, _⟩ := hC.2 l hl
  obtain ⟨_, _, _, t4, _⟩ := hC.2 m hm
  obtain ⟨b1, b2, b3⟩ := hb_acB (hb_SL_Bd hg _ (hb_at_mem hk)) ax
  obtain ⟨c1, c2, c3⟩ := hb_acB (hb_SL_Bd hg _ (hb_at_mem hl)) ax
  obtain ⟨d1, d2, d3⟩ := hb_acB (hb_SL_Bd hg _ (hb_at_mem hm)) ax
  have wk : (a8 k).toInt64 = hb_L (hb_w (hb_at (hb_SL cs) k)) := by rw [r4]; exact hb_I_L (hb_R_w b3)
  have wl : (a8 l).toInt64 = hb_L (hb_w (hb_at (hb_SL cs) l)) := by rw [s4]; exact hb_I_L (hb_R_w c3)
  have wm : (a8 m).toInt64 = hb_L (hb_w (hb_at (hb_SL cs) m)) := by rw [t4]; exact hb_I_L (hb_R_w d3)
  unfold wpX_turn
  refine hb_across hk h64 hax hC (hb_upward hk h64 hax hC ⟨pk_in k 64 (by omega), nm_r (e' := hb_L (hb_w (hb_at (hb_SL cs) k))) (by rw [ek]; exact wk) (hb_across hl h64 hax hC (hb_upward hl h64 hax hC (hb_across hm h64 hax hC (hb_upward hm h64 hax hC ⟨im, il, im, il, ?_⟩))))⟩)
  rw [el, em, wl, wm, hb_I_L (hb_R_x b1), hb_I_L (hb_R_x b2), hb_I_L (hb_R_x c1), hb_I_L (hb_R_x c2), hb_I_L (hb_R_x d1), hb_I_L (hb_R_x d2)]
  simp only [hb_L_mul, hb_L_sub, hb_L_add]
  exact H
theorem hb_pop_ok {L : List hb_V4} {ax : Nat} {sd : Int64} {nx : Nat} : ∀ l : List Nat, (∀ a : Nat → Int32, hb_ch a l → hb_ch a (hb_pop L ax sd nx l)) ∧ (∀ b ∈ hb_pop L ax sd nx l, b ∈ l) ∧ (hb_pop L ax sd nx l).length ≤ l.length
  | [] => ⟨fun _ h => h, fun _ h => h, Nat.le_refl _⟩
  | [b] => ⟨fun _ h => h, fun _ h => h, Nat.le_refl _⟩
  | b :: a :: t => by
    have ih := hb_pop_ok (L := L) (ax := ax) (sd := sd) (nx := nx) (a :: t)
    unfold hb_pop
    split
    · exact ⟨fun _ h => h, fun _ h => h, Nat.le_refl _⟩
    · exact ⟨fun x h => ih.1 x h.2, fun x h => List.mem_cons_of_mem _ (ih.2.1 x h), Nat.le_succ_of_le ih.2.2⟩
theorem hb_half20 {post : Int32 → St1 → Prop} {J : Int32 → Int32 → (Nat → Int32) → (Nat → Int32) → (Nat → Int32) → (Nat → Int32) → (Nat → Int32) → (Nat → Int32) → (Nat → Int32) → (Nat → Int32) → (Nat → Int32) → (Nat → Int32) → (Nat → Int32) → (Nat → Int32) → (Nat → Int32) → (Nat → Int32) → (Nat → Int64) → (Nat → Int32) → (Nat → Int32) → (Nat → Int32) → (Nat → Int32) → (Nat → Int32) → (Nat → Int32) → Prop}
    {cs : List hb_V4} {nx ax : Nat} {sd : Int64} (hg : ∀ p ∈ cs, hb_gp p) (hnx : nx < (hb_SL cs).length) (h64 : (hb_SL cs).length ≤ 64) (hax : ax ≤ 2) (hC : hb_CV cs cn a5 a6 a7 a8 a9) : ∀ l : List Nat, (∀ b ∈ l, b < (hb_SL cs).length) → l.length ≤ 64 → hb_ch a20 l → wX_halfOutline_64 post J (nI ax) sd (nI (hb_pop (hb_SL cs) ax sd nx l).length) (nI nx) cc bu cn mk kk fT fB a1 a2 a3 a4 a5 a6 a7 a8 a9 a10 a11 a12 a13 a14 a15 a16 a17 a18 a19 a20 a21 → ∃ n, wX_halfOutline_20 post J (nI ax) sd (nI nx) cc bu cn mk kk fT fB a1 a2 a3 a4 a5 a6 a7 a8 a9 a10 a11 a12 a13 a14 a15 a16 a17 a18 a19 a20 a21 n (nI l.length)
  | [], _, _, _, H => ⟨1, pk_le 0 1 (fun _ => H) (fun z => absurd z (by omega))⟩
  | [b], _, _, _, H => ⟨1, pk_le 1 1 (fun _ => H) (fun z => absurd z (by omega))⟩
  | b :: a :: t, hb, hl, hc, H => by
    have hl' : t.length + 1 + 1 ≤ 64 := hl
    have ba := hb b List.mem_cons_self
    have aa := hb a (List.mem_cons_of_mem _ List.mem_cons_self)
    have e2 : nI (t.length + 1 + 1) - 2 = nI t.length := by
      have := pk_sub (a := t.length + 1 + 1) (b := 2) (by omega)
      rw [show t.length + 1 + 1 - 2 = t.length by omega] at this
      exact this
    have e1 : nI (t.length + 1 + 1) - 1 = nI (t.length + 1) := nI_pred _
    have c1 : a20 (t.length + 1) = nI b := hc.1
    have c2 : a20 t.length = nI a := hc.2.1
    unfold hb_pop at H
    by_cases hp : 0 < hb_L (hb_tn ax (hb_at (hb_SL cs) a) (hb_at (hb_SL cs) b) (hb_at (hb_SL cs) nx)) * sd
    · rw [if_pos hp] at H
      refine ⟨1, pk_le (t.length + 1 + 1) 1 (fun z => absurd z (by omega)) (fun _ => ⟨pk_in t.length 64 (by omega) e2, pk_in (t.length + 1) 64 (by omega) e1, ?_⟩)⟩
      show wpX_turn _ _ (a20 (nI (t.length + 1 + 1) - 2).toNatClampNeg) (a20 (nI (t.length + 1 + 1) - 1).toNatClampNeg) (nI nx) (nI ax)
      rw [e1, e2, nI_clamp (show t.length < 2 ^ 31 by omega), nI_clamp (show t.length + 1 < 2 ^ 31 by omega), c1, c2]
      exact hb_turn hg aa ba hnx h64 hax hC (br_t hp H)
    · rw [if_neg hp] at H
      obtain ⟨n, hn⟩ := hb_half20 hg hnx h64 hax hC (a :: t) (fun x hx => hb x (List.mem_cons_of_mem _ hx)) (by show t.length + 1 ≤ 64; omega) hc.2 H
      refine ⟨n + 1, pk_le (t.length + 1 + 1) 1 (fun z => absurd z (by omega)) (fun _ => ⟨pk_in t.length 64 (by omega) e2, pk_in (t.length + 1) 64 (by omega) e1, ?_⟩)⟩
      show wpX_turn _ _ (a20 (nI (t.length + 1 + 1) - 2).toNatClampNeg) (a20 (nI (t.length + 1 + 1) - 1).toNatClampNeg) (nI nx) (nI ax)
      rw [e1, e2, nI_clamp (show t.length < 2 ^ 31 by omega), nI_clamp (show t.length + 1 < 2 ^ 31 by omega), c1, c2]
      exact hb_turn hg aa ba hnx h64 hax hC (br_f hp (nm_r (pk_m1 _) hn))
theorem hb_nbyte {k : Nat} (h : k < 64) : (nI k).toInt8.toInt32 = nI k := by
  rw [hb_I_n]; exact hb_byte (by omega)
theorem hb_half15 {post : Int32 → St1 → Prop} {cs : List hb_V4} {ax : Nat} {sd : Int64} (hg : ∀ p ∈ cs, hb_gp p) (h64 : (hb_SL cs).length ≤ 64) (hax : ax ≤ 2) (hC : hb_CV cs cn a5 a6 a7 a8 a9) : ∀ (f : Nat) (o : Option Nat) (l : List Nat) (a20 : Nat → Int32), (∀ k, o = some k → k < (hb_SL cs).length) → (∀ b ∈ l, b < (hb_SL cs).length) → hb_ch a20 l → hb_me (hb_SL cs) ax o < f → l.length + hb_me (hb_SL cs) ax o ≤ (hb_SL cs).length →
    (∀ a20, post (nI (hb_ho (hb_SL cs) ax sd f o l)) (cc, bu, cn, mk, kk, fT, fB, a1, a2, a3, a4, a5, a6, a7, a8, a9, a10, a11, a12, a13, a14, a15, a16, a17, a18, a19, a20, a21)) → wX_halfOutline_15 post (nI ax) sd cc bu cn mk kk fT fB f (nI l.length) (hb_o o) a1 a2 a3 a4 a5 a6 a7 a8 a9 a10 a11 a12 a13 a14 a15 a16 a17 a18 a19 a20 a21 := by
  have hw : ∀ v ∈ hb_SL cs, 0 < hb_w v := fun v hv => ((hb_SL_En cs).1 v hv).1.1
  intro f
  induction f with
  | zero => intro o l a20 _ _ _ h; omega
  | succ f ih =>
    intro o l a20 ho hl hc hf hm H
    cases o with
    | none => exact br_t (by decide) (H a20)
    | some k =>
      have hk := ho k rfl
      have ms := hb_me_s (ax := ax) hw hk
      have m1 : 1 ≤ hb_me (hb_SL cs) ax (some k) := by show 1 ≤ 1 + _; omega
      obtain ⟨p1, p2, p3⟩ := hb_pop_ok (L := hb_SL cs) (ax := ax) (sd := sd) (nx := k) l
      refine br_f (nI_pos (by omega)) (hb_half20 hg hk h64 hax hC l hl (by omega) hc ?_)
      unfold wX_halfOutline_64
      refine ⟨pk_in (hb_pop (hb_SL cs) ax sd k l).length 64 (by omega), nm_r (e' := upd a20 (hb_pop (hb_SL cs) ax sd k l).length (nI k)) (by rw [nI_clamp (by omega), hb_nbyte (by omega)]) (nm_r (nI_1 _) ?_)⟩
      refine hb_smallest (last := some k) hg (fun l' h' => by cases h'; exact hk) h64 hax hC ?_
      refine ih _ (k :: hb_pop (hb_SL cs) ax sd k l) _ (fun k' h' => (hb_sa_lt _ _ h').1) (fun b hb => ?_) ⟨pk_us, hb_ch_u _ (Nat.le_refl _) (p1 a20 hc)⟩ (by omega) (by show (hb_pop (hb_SL cs) ax sd k l).length + 1 + _ ≤ _; omega) H
      rcases List.mem_cons.mp hb with e | e
      · rw [e]; exact hk
      · exact hl b (p2 b e)
/-- half an outline -/
noncomputable def hb_hf (L : List hb_V4) (ax : Nat) (sd : Int64) : Nat := hb_ho L ax sd (L.length + 1) (hb_sa L ax none L.length) []
theorem hb_half {post : Int32 → St1 → Prop} {cs : List hb_V4} {ax : Nat} {sd : Int64} (hg : ∀ p ∈ cs, hb_gp p) (h64 : (hb_SL cs).length ≤ 64) (hax : ax ≤ 2) (hC : hb_CV cs cn a5 a6 a7 a8 a9) (H : ∀ a20, post (nI (hb_hf (hb_SL cs) ax sd)) (cc, bu, cn, mk, kk, fT, fB, a1, a2, a3, a4, a5, a6, a7, a8, a9, a10, a11, a12, a13, a14, a15, a16, a17, a18, a19, a20, a21)) : wpX_halfOutline post (cc, bu, cn, mk, kk, fT, fB, a1, a2, a3, a4, a5, a6, a7, a8, a9, a10, a11, a12, a13, a14, a15, a16, a17, a18, a19, a20, a21) (nI ax) sd := by
  unfold wpX_halfOutline
  have me := hb_me_n (L := hb_SL cs) (ax := ax) (o := hb_sa (hb_SL cs) ax none (hb_SL cs).length) (fun k h => (hb_sa_lt _ _ h).1)
  refine hb_smallest (last := none) hg (fun l h => by cases h) h64 hax hC ⟨(hb_SL cs).length + 1, ?_⟩
  exact hb_half15 hg h64 hax hC _ _ [] _ (fun k h => (hb_sa_lt _ _ h).1) (fun b hb => by cases hb) trivial (by omega) (by show 0 + _ ≤ _; omega) H
/-- the corners of a shadow -/
noncomputable def hb_sh (L : List hb_V4) (ax : Nat) : Int32 := if L.length = 0 then 0 else @ite Int32 (nI (hb_hf L ax 1) = 1) (Classical.propDecidable _) 1 ((nI (hb_hf L ax 1) + nI (hb_hf L ax (-1))) - 2)
theorem hb_shadow {post : Int32 → St1 → Prop} {cs : List hb_V4} {ax : Nat} (hax : ax ≤ 2) (hP : hb_PV cs cc a1 a2 a3 a4) (hB : bu = 0 ∨ (bu = 1 ∧ hb_CV cs cn a5 a6 a7 a8 a9)) (H : ∀ cn mk a5 a6 a7 a8 a9 a10 a11 a12 a13 a14 a15 a20, hb_CV cs cn a5 a6 a7 a8 a9 → post (hb_sh (hb_SL cs) ax) (cc, 1, cn, mk, kk, fT, fB, a1, a2, a3, a4, a5, a6, a7, a8, a9, a10, a11, a12, a13, a14, a15, a16, a17, a18, a19, a20, a21)) : wpX_shadow post (cc, bu, cn, mk, kk, fT, fB, a1, a2, a3, a4, a5, a6, a7, a8, a9, a10, a11, a12, a13, a14, a15, a16, a17, a18, a19, a20, a21) (nI ax) := by
  have hg := hP.2.2.1
  have hl := hb_SL_len hg
  have h8 := hP.2.1
  unfold wpX_shadow
  refine br_f (nI_pos (by omega)) (pk_le ax 2 (fun _ => ?_) (fun z => absurd z (by omega)))
  refine hb_build hP hB (fun cn mk a5 a6 a7 a8 a9 a10 a11 a12 a13 a14 a15 hC => ?_)
  have hH := fun a20 => H cn mk a5 a6 a7 a8 a9 a10 a11 a12 a13 a14 a15 a20 hC
  unfold hb_sh at hH
  unfold wpX_outline
  refine pk_eq (hb_SL cs).length 0 (fun e => ?_) (fun e => ?_) hC.1
  · rw [if_pos e] at hH; exact hH _
  · rw [if_neg e] at hH
    refine hb_half hg (by omega) hax hC (fun a20 => br_c (fun e1 => ?_) (fun e1 => ?_))
    · rw [if_pos e1] at hH; exact hH _
    · rw [if_neg e1] at hH
      exact hb_half hg (by omega) hax hC (fun a20 => hH _)
end
end
section
/-! the law's sum -/
def hb_s1 (L : List hb_V4) (h : Int32) : Nat → Int32
  | 0 => h
  | k + 1 => ((((31 * hb_s1 L h k) + hb_I (hb_co (hb_at L k) 0)) + (3 * hb_I (hb_co (hb_at L k) 1))) + (5 * hb_I (hb_co (hb_at L k) 2))) + (7 * hb_I (hb_w (hb_at L k)))
noncomputable def hb_s2 (cs : List hb_V4) (h : Int32) : Nat → Int32
  | 0 => h
  | a + 1 => ((31 * hb_s2 cs h a) + hb_sh (hb_SL cs) a) + (5 * nI (hb_sn cs a (2 * (a : Int) - 1)))
noncomputable def hb_dA (cs : List hb_V4) (r : Nat) : Int32 := @ite Int32 (hb_SL cs = []) (Classical.propDecidable _) (-1) (nI (3 - r))
noncomputable def hb_fA (cs : List hb_V4) (r : Nat) : Int32 := @ite Int32 (hb_SL cs = []) (Classical.propDecidable _) 0 (nI (if r = 0 then hb_F (hb_cbP ++ cs) (hb_SL cs) else if r = 1 then 1 else 0))
noncomputable def hb_s0 (cs : List hb_V4) (r : Nat) : Int32 := (((hb_dA cs r + (3 * nI (hb_SL cs).length)) + (7 * nI (hb_E (hb_cbP ++ cs) (hb_SL cs)))) + (11 * hb_fA cs r)) + (13 * nI (hb_wh cs))
noncomputable def hb_sv (cs : List hb_V4) (r : Nat) : Int32 := ((31 * hb_s2 cs (hb_s1 (hb_SL cs) (hb_s0 cs r) (hb_SL cs).length) 3) + hb_aT 250 (hb_SL cs)) + (3 * hb_aB 250 (hb_SL cs))
/-- r is the rank of the common planes, where there are corners -/
def hb_rr (cs : List hb_V4) (r : Nat) : Prop := hb_SL cs ≠ [] → hb_rk (hb_cq (hb_cbP ++ cs) (hb_SL cs)) r
theorem hb_rr_u {cs : List hb_V4} (hg : ∀ p ∈ cs, hb_gp p) {r r' : Nat} (hne : hb_SL cs ≠ []) (h : hb_rr cs r) (h' : hb_rk (hb_cq (hb_cbP ++ cs) (hb_SL cs)) r') : r = r' := hb_rk_u (fun p hp => (hb_gp_all hg p hp.1).2) (h hne) h'
abbrev hb_Z : Type := (Int32 × Int32 × Int32) × ((Nat → Int32) × (Nat → Int32) × (Nat → Int32) × (Nat → Int32)) × hb_F5 × hb_F5 × (Nat → Int64) × (Nat → Int32)
section
variable {cc bu cn mk kk : Int32} {fT fB : Int64} {a1 a2 a3 a4 a5 a6 a7 a8 a9 a10 a11 a12 a13 a14 : Nat → Int32} {a15 : Nat → Int64} {a16 a17 a18 a19 a20 a21 : Nat → Int32}
theorem hb_sum92 {post : Int32 → St1 → Prop} {cs : List hb_V4} {h : Int32} (hP : hb_PV cs cc a1 a2 a3 a4) (hB : bu = 0 ∨ (bu = 1 ∧ hb_CV cs cn a5 a6 a7 a8 a9))
    (H : ∀ cn mk fT fB a1 a2 a3 a4 a5 a6 a7 a8 a9 a10 a11 a12 a13 a14 a15 a20, hb_PV cs cc a1 a2 a3 a4 → hb_CV cs cn a5 a6 a7 a8 a9 → post (((31 * hb_s2 cs h 3) + hb_aT 250 (hb_SL cs)) + (3 * hb_aB 250 (hb_SL cs))) (cc, 1, cn, mk, kk, fT, fB, a1, a2, a3, a4, a5, a6, a7, a8, a9, a10, a11, a12, a13, a14, a15, a16, a17, a18, a19, a20, a21)) : ∃ n, wL_sum_92 post n h 0 cc bu cn mk kk fT fB a1 a2 a3 a4 a5 a6 a7 a8 a9 a10 a11 a12 a13 a14 a15 a16 a17 a18 a19 a20 a21 := by
  refine pk_loop (σ := hb_Z) (fun n a s => wL_sum_92 post n (hb_s2 cs h a) (nI a) cc s.1.1 s.1.2.1 s.1.2.2 kk fT fB s.2.1.1 s.2.1.2.1 s.2.1.2.2.1 s.2.1.2.2.2 s.2.2.1.1 s.2.2.1.2.1 s.2.2.1.2.2.1 s.2.2.1.2.2.2.1 s.2.2.1.2.2.2.2 s.2.2.2.1.1 s.2.2.2.1.2.1 s.2.2.2.1.2.2.1 s.2.2.2.1.2.2.2.1 s.2.2.2.1.2.2.2.2 s.2.2.2.2.1 a16 a17 a18 a19 s.2.2.2.2.2 a21)
    (fun _ s => hb_PV cs cc s.2.1.1 s.2.1.2.1 s.2.1.2.2.1 s.2.1.2.2.2 ∧ (s.1.1 = 0 ∨ (s.1.1 = 1 ∧ hb_CV cs s.1.2.1 s.2.2.1.1 s.2.2.1.2.1 s.2.2.1.2.2.1 s.2.2.1.2.2.2.1 s.2.2.1.2.2.2.2))) 3 0 ((bu, cn, mk), (a1, a2, a3, a4), (a5, a6, a7, a8, a9), (a10, a11, a12, a13, a14), a15, a20) (by omega) ⟨hP, hB⟩ ?_ ?_
  · intro n s hs
    refine pk_le 3 3 (fun _ => ?_) (fun z => absurd z (by omega))
    refine hb_mostTop (m := 250) (by omega) hs.1 hs.2 (fun cn mk fT fB a5 a6 a7 a8 a9 a10 a11 a12 a13 a14 a15 hC => ?_)
    refine hb_mostBottom (m := 250) (by omega) hs.1 (Or.inr ⟨rfl, hC⟩) (fun cn mk fT fB a5 a6 a7 a8 a9 a10 a11 a12 a13 a14 a15 hC => ?_)
    exact H _ _ _ _ _ _ _ _ _ _ _ _ _ _ _ _ _ _ _ _ hs.1 hC
  · intro n a s ha hs hw
    refine pk_le 3 a (fun z => absurd z (by omega)) (fun _ => ?_)
    refine hb_shadow (by omega) hs.1 hs.2 (fun cn mk a5 a6 a7 a8 a9 a10 a11 a12 a13 a14 a15 a20 hC => ?_)
    have ek : (2 * nI a) - 1 = hb_I (2 * (a : Int) - 1) := by
      rw [show (2 : Int32) = hb_I 2 by decide, show (1 : Int32) = hb_I 1 by decide, hb_I_n, hb_I_mul, hb_I_sub]
    show wpX_section _ _ (nI a) ((2 * nI a) - 1)
    rw [ek]
    refine hb_section (by omega) (by omega) hs.1 (fun cn mk a1 a2 a3 a4 a5 a6 a7 a8 a9 a10 a11 a12 a13 a14 a15 hP' => nm_e (nm_r (nI_1 a) ?_))
    exact hw ((0, cn, mk), (a1, a2, a3, a4), (a5, a6, a7, a8, a9), (a10, a11, a12, a13, a14), a15, a20) ⟨hP', Or.inl rfl⟩
theorem hb_sum {post : Int32 → St1 → Prop} {cs : List hb_V4} (hP : hb_PV cs cc a1 a2 a3 a4) (hB : bu = 0 ∨ (bu = 1 ∧ hb_CV cs cn a5 a6 a7 a8 a9))
    (H : ∀ r, hb_rr cs r → ∀ cn mk fT fB a1 a2 a3 a4 a5 a6 a7 a8 a9 a10 a11 a12 a13 a14 a15 a20, hb_PV cs cc a1 a2 a3 a4 → hb_CV cs cn a5 a6 a7 a8 a9 → post (hb_sv cs r) (cc, 1, cn, mk, kk, fT, fB, a1, a2, a3, a4, a5, a6, a7, a8, a9, a10, a11, a12, a13, a14, a15, a16, a17, a18, a19, a20, a21)) : wpL_sum post (cc, bu, cn, mk, kk, fT, fB, a1, a2, a3, a4, a5, a6, a7, a8, a9, a10, a11, a12, a13, a14, a15, a16, a17, a18, a19, a20, a21) := by
  have hg := hP.2.2.1
  have hl := hb_SL_len hg
  have h8 := hP.2.1
  unfold wpL_sum
  refine hb_corners hP hB (fun cn mk a5 a6 a7 a8 a9 a10 a11 a12 a13 a14 a15 hC => ?_)
  -- behind dimension and faces
  have rest : ∀ r, hb_rr cs r → wpX_whole (fun r_285 => ∀ x2 : Int32, x2 = (((hb_dA cs r + (3 * nI (hb_SL cs).length)) + (7 * nI (hb_E (hb_cbP ++ cs) (hb_SL cs)))) + (11 * hb_fA cs r)) + (13 * r_285) → ∃ n, wL_sum_40 post (nI (hb_SL cs).length) n x2 0 cc 1 cn mk kk fT fB a1 a2 a3 a4 a5 a6 a7 a8 a9 a10 a11 a12 a13 a14 a15 a16 a17 a18 a19 a20 a21) (cc, 1, cn, mk, kk, fT, fB, a1, a2, a3, a4, a5, a6, a7, a8, a9, a10, a11, a12, a13, a14, a15, a16, a17, a18, a19, a20, a21) := by
    intro r hr
    refine hb_whole hP (nm_r (e' := hb_s0 cs r) rfl ?_)
    refine pk_loop (σ := Unit) (fun n k _ => wL_sum_40 post (nI (hb_SL cs).length) n (hb_s1 (hb_SL cs) (hb_s0 cs r) k) (nI k) cc 1 cn mk kk fT fB a1 a2 a3 a4 a5 a6 a7 a8 a9 a10 a11 a12 a13 a14 a15 a16 a17 a18 a19 a20 a21) (fun _ _ => True) (hb_SL cs).length 0 () (by omega) trivial ?_ ?_
    · intro n _ _
      refine pk_le (hb_SL cs).length (hb_SL cs).length (fun _ => ?_) (fun z => absurd z (by omega))
      exact hb_sum92 hP (Or.inr ⟨rfl, hC⟩) (fun cn mk fT fB a1 a2 a3 a4 a5 a6 a7 a8 a9 a10 a11 a12 a13 a14 a15 a20 hP' hC' => H r hr _ _ _ _ _ _ _ _ _ _ _ _ _ _ _ _ _ _ _ _ hP' hC')
    · intro n k _ hk _ hw
      refine pk_le (hb_SL cs).length k (fun z => absurd z (by omega)) (fun _ => ?_)
      exact hb_top (x := 0) hk (by omega) hP hC (hb_top (x := 1) hk (by omega) hP hC (hb_top (x := 2) hk (by omega) hP hC (hb_bottom hk hP hC (nm_e (nm_r (nI_1 k) (hw () trivial))))))
  refine hb_dimension hP hC (fun e0 => ?_) (fun r hne hr => ?_)
  · have hr : hb_rr cs 0 := fun hne => absurd e0 hne
    have dA : hb_dA cs 0 = -1 := by unfold hb_dA; rw [if_pos e0]
    have fA : hb_fA cs 0 = 0 := by unfold hb_fA; rw [if_pos e0]
    refine hb_edges hP hC (hb_faces hP hC (fun _ => ?_) (fun r hne _ => absurd e0 hne))
    have := rest 0 hr
    rw [dA, fA] at this
    exact this
  · have hr' : hb_rr cs r := fun _ => hr
    have dA : hb_dA cs r = nI (3 - r) := by unfold hb_dA; rw [if_neg hne]
    refine hb_edges hP hC (hb_faces hP hC (fun e0 => absurd e0 hne) (fun r2 _ hr2 => ?_))
    have e : r = r2 := hb_rr_u hg hne hr' hr2
    have fA : hb_fA cs r = nI (if r = 0 then hb_F (hb_cbP ++ cs) (hb_SL cs) else if r = 1 then 1 else 0) := by unfold hb_fA; rw [if_neg hne]
    have := rest r hr'
    rw [dA, fA] at this
    rw [← e]
    exact this
end
/-- the sum stays when a plane that isn't needed goes -/
theorem hb_sv_same {cs : List hb_V4} {k : Nat} (hg : ∀ p ∈ cs, hb_gp p) (hk : k < cs.length) (he : hb_SL (cs.eraseIdx k) = hb_SL cs) {r r' : Nat} (hr : hb_rr cs r) (hr' : hb_rr (cs.eraseIdx k) r') : hb_sv (cs.eraseIdx k) r' = hb_sv cs r := by
  have hq : ∀ v ∈ hb_SL (cs.eraseIdx k), 0 ≤ hb_s (hb_at cs k) v := fun v hv => by
    rw [he] at hv
    exact ((hb_SL_En cs).1 v hv).1.2 _ (List.mem_append_right _ (hb_at_mem hk))
  have hm : ∀ p, p ∈ hb_cbP ++ cs ↔ p ∈ hb_cbP ++ cs.eraseIdx k ∨ p = hb_at cs k := fun p => by
    rw [List.mem_append, List.mem_append, hb_mem_er hk p]
    constructor
    · intro h
      rcases h with h | h | h
      · exact Or.inl (Or.inl h)
      · exact Or.inl (Or.inr h)
      · exact Or.inr h
    · intro h
      rcases h with (h | h) | h
      · exact Or.inl h
      · exact Or.inr (Or.inl h)
      · exact Or.inr (Or.inr h)
  have hg' := hb_gp_er hg k
  have En := hb_SL_En cs
  have En' := hb_SL_En (cs.eraseIdx k)
  rw [he] at En' hq
  have eE : hb_E (hb_cbP ++ cs) (hb_SL cs) = hb_E (hb_cbP ++ cs.eraseIdx k) (hb_SL cs) := hb_same_E hm (hb_bnd_cs _) En' hq
  have nz : ∀ p ∈ hb_cbP ++ cs, hb_n p ≠ hb_z := fun p hp => (hb_gp_all hg p hp).2
  have nz' : ∀ p ∈ hb_cbP ++ cs.eraseIdx k, hb_n p ≠ hb_z := fun p hp => (hb_gp_all hg' p hp).2
  have c0 : hb_c ≠ hb_z := by decide
  have gen := hb_cs_gen (hb_SL_Bd hg)
  have dA : hb_dA (cs.eraseIdx k) r' = hb_dA cs r := by
    unfold hb_dA
    rw [he]
    by_cases e0 : hb_SL cs = []
    · rw [if_pos e0, if_pos e0]
    · rw [if_neg e0, if_neg e0]
      have h1 := hr e0
      have h2 := hr' (by rw [he]; exact e0)
      rw [he] at h2
      rw [hb_same_rk hm (hb_bnd_cs _) (hb_bnd_cs _) En En' nz e0 h1 h2]
  have fA : hb_fA (cs.eraseIdx k) r' = hb_fA cs r := by
    unfold hb_fA
    rw [he]
    by_cases e0 : hb_SL cs = []
    · rw [if_pos e0, if_pos e0]
    · rw [if_neg e0, if_neg e0]
      have h1 := hr e0
      have h2 := hr' (by rw [he]; exact e0)
      rw [he] at h2
      have er := hb_same_rk hm (hb_bnd_cs _) (hb_bnd_cs _) En En' nz e0 h1 h2
      rw [← er]
      rw [← er] at h2
      by_cases z : r = 0
      · rw [if_pos z, if_pos z]
        have q1 := (hb_law_dim (hb_bnd_cs _) En nz e0 c0 gen h1).1 z
        have q2 := (hb_law_dim (hb_bnd_cs _) En' nz' e0 c0 gen h2).1 z
        congr 1
        omega
      · rw [if_neg z, if_neg z]
  have s0 : hb_s0 (cs.eraseIdx k) r' = hb_s0 cs r := by
    unfold hb_s0
    rw [dA, fA, he, ← eE, hb_wh_same hk he]
  have s2 : ∀ h a, hb_s2 (cs.eraseIdx k) h a = hb_s2 cs h a := by
    intro h a
    induction a with
    | zero => rfl
    | succ a ih =>
      show ((31 * hb_s2 (cs.eraseIdx k) h a) + hb_sh (hb_SL (cs.eraseIdx k)) a) + (5 * nI (hb_sn (cs.eraseIdx k) a (2 * (a : Int) - 1))) = ((31 * hb_s2 cs h a) + hb_sh (hb_SL cs) a) + (5 * nI (hb_sn cs a (2 * (a : Int) - 1)))
      rw [ih, he, hb_sn_same hk he]
  unfold hb_sv
  rw [s2, s0, he]
end
section
/-! the law's holds -/
section
variable {cc bu cn mk kk : Int32} {fT fB : Int64} {a1 a2 a3 a4 a5 a6 a7 a8 a9 a10 a11 a12 a13 a14 : Nat → Int32} {a15 : Nat → Int64} {a16 a17 a18 a19 a20 a21 : Nat → Int32}
theorem hb_hl256 {post : Int32 → St1 → Prop} {cs : List hb_V4} (hP : hb_PV cs cc a1 a2 a3 a4) (H : post 1 (cc, 1, cn, mk, kk, fT, fB, a1, a2, a3, a4, a5, a6, a7, a8, a9, a10, a11, a12, a13, a14, a15, a16, a17, a18, a19, a20, a21)) : wL_holds_256 post (nI cs.length) cc 1 cn mk kk fT fB a1 a2 a3 a4 a5 a6 a7 a8 a9 a10 a11 a12 a13 a14 a15 a16 a17 a18 a19 a20 a21 := by
  have h8 := hP.2.1
  unfold wL_holds_256
  exact hb_needless_no hP.1 (Nat.le_refl _) (by omega) (br_t rfl H)
theorem hb_hl127 {post : Int32 → St1 → Prop} {cs : List hb_V4} {m : Nat} (hm : m ≤ 728) (hP : hb_PV cs cc a1 a2 a3 a4) (hC : hb_CV cs cn a5 a6 a7 a8 a9) (H : post 1 (cc, 1, cn, mk, kk, fT, fB, a1, a2, a3, a4, a5, a6, a7, a8, a9, a10, a11, a12, a13, a14, a15, a16, a17, a18, a19, a20, a21)) :
    ∃ n, wL_holds_127 post (nI m) (nI cs.length) (nI (hb_SL cs).length) (hb_aT m (hb_SL cs)) (hb_aB m (hb_SL cs)) n (if (hb_SL cs).length = 0 then 1 else 0) 0 cc 1 cn mk kk fT fB a1 a2 a3 a4 a5 a6 a7 a8 a9 a10 a11 a12 a13 a14 a15 a16 a17 a18 a19 a20 a21 := by
  have hg := hP.2.2.1
  have hl := hb_SL_len hg
  have h8 := hP.2.1
  have hBd := hb_SL_Bd hg
  have w256 := hb_hl256 (cn := cn) (mk := mk) (kk := kk) (fT := fT) (fB := fB) (a5 := a5) (a6 := a6) (a7 := a7) (a8 := a8) (a9 := a9) (a10 := a10) (a11 := a11) (a12 := a12) (a13 := a13) (a14 := a14) (a15 := a15) (a16 := a16) (a17 := a17) (a18 := a18) (a19 := a19) (a20 := a20) (a21 := a21) hP H
  by_cases e0 : (hb_SL cs).length = 0
  · rw [if_pos e0]
    have eL : hb_SL cs = [] := List.length_eq_zero_iff.mp e0
    have aT : hb_aT m (hb_SL cs) = -1000002 := by unfold hb_aT; rw [if_pos eL]
    refine ⟨1, pk_le (hb_SL cs).length 0 (fun _ => br_f (by decide) (pk_lt 0 (hb_SL cs).length (fun z => absurd z (by omega)) (fun _ => br_t aT w256))) (fun z => absurd z (by omega))⟩
  · rw [if_neg e0]
    have hne : hb_SL cs ≠ [] := fun g => e0 (by rw [g]; rfl)
    obtain ⟨c1, c2, c3⟩ := hb_nm_b hm
    obtain ⟨e1, e2, e3⟩ := hb_nm_e hm
    obtain ⟨_, _, _, bT, bB, _, _, le, ⟨u, hu, heq⟩⟩ := hb_m_ok hBd hne c1 c2 c3
    have aT : hb_aT m (hb_SL cs) = hb_I (hb_mT (hb_nm m) (hb_SL cs)) := by unfold hb_aT; rw [if_neg hne]
    have aB : hb_aB m (hb_SL cs) = hb_I (hb_mB (hb_nm m) (hb_SL cs)) := by unfold hb_aB; rw [if_neg hne]
    rw [aT, aB]
    have n9 : ¬ (9 : Int32) = 0 := by decide
    have n81 : ¬ (81 : Int32) = 0 := by decide
    have R4 : ∀ x : Int, -4 ≤ x ∧ x ≤ 4 → hb_R x := by intro x h; unfold hb_R; omega
    refine pk_loop (σ := Bool) (fun n k s => wL_holds_127 post (nI m) (nI cs.length) (nI (hb_SL cs).length) (hb_I (hb_mT (hb_nm m) (hb_SL cs))) (hb_I (hb_mB (hb_nm m) (hb_SL cs))) n (if s then 1 else 0) (nI k) cc 1 cn mk kk fT fB a1 a2 a3 a4 a5 a6 a7 a8 a9 a10 a11 a12 a13 a14 a15 a16 a17 a18 a19 a20 a21) (fun k s => s = true ∨ ∀ j, j < k → hb_dot (hb_nm m) (hb_n (hb_at (hb_SL cs) j)) * hb_mB (hb_nm m) (hb_SL cs) ≠ hb_mT (hb_nm m) (hb_SL cs) * hb_w (hb_at (hb_SL cs) j)) (hb_SL cs).length 0 false (by omega) (Or.inr (fun j hj => absurd hj (by omega))) ?_ ?_
    · intro n s hs
      have st : s = true := by
        rcases hs with g | g
        · exact g
        · obtain ⟨i, hi, rfl⟩ := hb_mem_at hu
          exact absurd heq (g i hi)
      rw [st]
      exact pk_le (hb_SL cs).length (hb_SL cs).length (fun _ => br_f (by decide) (pk_lt 0 (hb_SL cs).length (fun _ => w256) (fun z => absurd z (by omega)))) (fun z => absurd z (by omega))
    · intro n k s hk hs hw
      have bv := hBd _ (hb_at_mem hk)
      have dv := hb_dv bv c1 c2 c3
      have lek := le _ (hb_at_mem hk)
      obtain ⟨b1, b2, b3, b4⟩ := bv
      have p1 := hb_mb (A := 46080) (B := 384) (by omega) dv (y := hb_mB (hb_nm m) (hb_SL cs)) (by omega)
      have p2 := hb_mb (A := 46080) (B := 384) (by omega) bT (y := hb_w (hb_at (hb_SL cs) k)) (by simp only [hb_w]; omega)
      refine pk_le (hb_SL cs).length k (fun z => absurd z (by omega)) (fun _ => ⟨n9, ?_⟩)
      refine hb_top (x := 0) hk (by omega) hP hC ⟨n9, n9, hb_top (x := 1) hk (by omega) hP hC ⟨n81, hb_top (x := 2) hk (by omega) hP hC (nm_r (e' := hb_L (hb_dot (hb_nm m) (hb_n (hb_at (hb_SL cs) k)))) ?_ (hb_bottom hk hP hC ?_))⟩⟩
      · rw [e1, e2, e3, hb_I_L (R4 _ c1), hb_I_L (R4 _ c2), hb_I_L (R4 _ c3)]
        show hb_L _ * (hb_I (hb_at (hb_SL cs) k).1).toInt64 + hb_L _ * (hb_I (hb_at (hb_SL cs) k).2.1).toInt64 + hb_L _ * (hb_I (hb_at (hb_SL cs) k).2.2.1).toInt64 = _
        rw [hb_I_L (hb_R_x b1), hb_I_L (hb_R_x b2), hb_I_L (hb_R_x b3), hb_L_mul, hb_L_mul, hb_L_mul, hb_L_add, hb_L_add]; rfl
      · rw [hb_I_L (show hb_R (hb_mT (hb_nm m) (hb_SL cs)) by unfold hb_R; omega), hb_I_L (show hb_R (hb_mB (hb_nm m) (hb_SL cs)) by unfold hb_R; omega), hb_I_L (show hb_R (hb_w (hb_at (hb_SL cs) k)) from hb_R_w b4), hb_L_mul, hb_L_mul]
        refine br_t ((hb_L_le (by unfold hb_RL; omega) (by unfold hb_RL; omega)).mpr lek) ?_
        refine ek_if (hb_L_eq (by unfold hb_RL; omega) (by unfold hb_RL; omega)) (fun z => nm_r (nI_1 k) (hw true (Or.inl rfl))) (fun z => nm_r (nI_1 k) (hw s ?_))
        rcases hs with g | g
        · exact Or.inl g
        · refine Or.inr (fun j hj => ?_)
          by_cases e : j = k
          · rw [e]; exact z
          · exact g j (by omega)
theorem hb_hl94 {post : Int32 → St1 → Prop} {cs : List hb_V4} {m : Nat} {z : Int32} (hm : m ≤ 728) (hP : hb_PV cs cc a1 a2 a3 a4) (hC : hb_CV cs cn a5 a6 a7 a8 a9)
    (H : ∀ cn mk fT fB a5 a6 a7 a8 a9 a10 a11 a12 a13 a14 a15, hb_CV cs cn a5 a6 a7 a8 a9 → post 1 (cc, 1, cn, mk, kk, fT, fB, a1, a2, a3, a4, a5, a6, a7, a8, a9, a10, a11, a12, a13, a14, a15, a16, a17, a18, a19, a20, a21)) : wL_holds_94 post (nI m) (nI cs.length) (nI (hb_SL cs).length) z z cc 1 cn mk kk fT fB a1 a2 a3 a4 a5 a6 a7 a8 a9 a10 a11 a12 a13 a14 a15 a16 a17 a18 a19 a20 a21 := by
  have hl := hb_SL_len hP.2.2.1
  have h8 := hP.2.1
  unfold wL_holds_94
  refine br_t rfl (hb_mostTop hm hP (Or.inr ⟨rfl, hC⟩) (fun cn mk fT fB a5 a6 a7 a8 a9 a10 a11 a12 a13 a14 a15 hC => ?_))
  refine hb_mostBottom hm hP (Or.inr ⟨rfl, hC⟩) (fun cn mk fT fB a5 a6 a7 a8 a9 a10 a11 a12 a13 a14 a15 hC => ?_)
  have t := hb_hl127 (post := post) (mk := mk) (kk := kk) (fT := fT) (fB := fB) (a10 := a10) (a11 := a11) (a12 := a12) (a13 := a13) (a14 := a14) (a15 := a15) (a16 := a16) (a17 := a17) (a18 := a18) (a19 := a19) (a20 := a20) (a21 := a21) hm hP hC (H _ _ _ _ _ _ _ _ _ _ _ _ _ _ _ hC)
  refine pk_eq (hb_SL cs).length 0 (fun e => ?_) (fun e => ?_)
  · rw [if_pos e] at t; exact t
  · rw [if_neg e] at t; exact t
theorem hb_hl75 {post : Int32 → St1 → Prop} {cs : List hb_V4} {m d : Nat} (hm : m ≤ 728) (hd : d ≤ 3) (hne : hb_SL cs ≠ []) (hP : hb_PV cs cc a1 a2 a3 a4) (hC : hb_CV cs cn a5 a6 a7 a8 a9)
    (H : ∀ cn mk fT fB a5 a6 a7 a8 a9 a10 a11 a12 a13 a14 a15, hb_CV cs cn a5 a6 a7 a8 a9 → post 1 (cc, 1, cn, mk, kk, fT, fB, a1, a2, a3, a4, a5, a6, a7, a8, a9, a10, a11, a12, a13, a14, a15, a16, a17, a18, a19, a20, a21)) : wL_holds_75 post (nI m) (nI cs.length) (nI (hb_SL cs).length) (nI d) cc 1 cn mk kk fT fB a1 a2 a3 a4 a5 a6 a7 a8 a9 a10 a11 a12 a13 a14 a15 a16 a17 a18 a19 a20 a21 := by
  have hl := hb_SL_len hP.2.2.1
  have h8 := hP.2.1
  have pos : 0 < (hb_SL cs).length := List.length_pos_iff.mpr hne
  unfold wL_holds_75
  refine br_t (nI_pos' (by omega)) ?_
  unfold wL_holds_85
  exact pk_eq (hb_SL cs).length 0 (fun e => absurd e (by omega)) (fun _ => hb_hl94 hm hP hC H)
theorem hb_E_le (ps L : List hb_V4) : hb_E ps L ≤ L.length * L.length := by
  unfold hb_E
  rw [← hb_sm_k]
  refine hb_sm_le (fun k hk => ?_)
  have : hb_sm k (fun l => hb_i (hb_nb ps L (hb_at L k) (hb_at L l))) ≤ hb_sm k (fun _ => 1) := hb_sm_le (fun l _ => by
    by_cases c : hb_nb ps L (hb_at L k) (hb_at L l)
    · rw [hb_i_t c]; exact Nat.le_refl _
    · rw [hb_i_f c]; exact Nat.zero_le _)
  rw [hb_sm_k] at this
  omega
theorem hb_holds {post : Int32 → St1 → Prop} {cs : List hb_V4} {m : Nat} (hm : m ≤ 728) (hP : hb_PV cs cc a1 a2 a3 a4) (hB : bu = 0 ∨ (bu = 1 ∧ hb_CV cs cn a5 a6 a7 a8 a9))
    (H : ∀ cn mk fT fB a5 a6 a7 a8 a9 a10 a11 a12 a13 a14 a15, hb_CV cs cn a5 a6 a7 a8 a9 → post 1 (cc, 1, cn, mk, kk, fT, fB, a1, a2, a3, a4, a5, a6, a7, a8, a9, a10, a11, a12, a13, a14, a15, a16, a17, a18, a19, a20, a21)) : wpL_holds post (cc, bu, cn, mk, kk, fT, fB, a1, a2, a3, a4, a5, a6, a7, a8, a9, a10, a11, a12, a13, a14, a15, a16, a17, a18, a19, a20, a21) (nI m) (nI cs.length) := by
  have hg := hP.2.2.1
  have hl := hb_SL_len hg
  have h8 := hP.2.1
  unfold wpL_holds
  refine hb_corners hP hB (fun cn mk a5 a6 a7 a8 a9 a10 a11 a12 a13 a14 a15 hC => ?_)
  refine hb_dimension hP hC (fun e0 => br_f (by decide) ?_) (fun r hne hr => ?_)
  · -- no corners
    unfold wL_holds_32
    refine br_f (by decide) ?_
    unfold wL_holds_46
    refine br_f (by decide) ?_
    unfold wL_holds_65
    refine br_f (by decide) ?_
    unfold wL_holds_75
    refine br_f (by decide) ?_
    unfold wL_holds_85
    refine br_t (by rw [e0]; rfl) (hb_hl94 hm hP hC H)
  · have r3 := hb_rk_3 hr
    have pos : 0 < (hb_SL cs).length := List.length_pos_iff.mpr hne
    obtain ⟨d0, d1, d2, d3⟩ := hb_law_dim (hb_bnd_cs cs) (hb_SL_En cs) (fun p hp => (hb_gp_all hg p hp).2) hne (by decide) (hb_cs_gen (hb_SL_Bd hg)) hr
    have hE := hb_E_le (hb_cbP ++ cs) (hb_SL cs)
    have hE' : (hb_SL cs).length * (hb_SL cs).length ≤ 28 * 28 := Nat.mul_le_mul (by omega) (by omega)
    have w75 := fun (d : Nat) (hd : d ≤ 3) => hb_hl75 (post := post) (mk := mk) (kk := kk) (fT := fT) (fB := fB) (a10 := a10) (a11 := a11) (a12 := a12) (a13 := a13) (a14 := a14) (a15 := a15) (a16 := a16) (a17 := a17) (a18 := a18) (a19 := a19) (a20 := a20) (a21 := a21) hm hd hne hP hC H
    have w65 : (r = 3 → (hb_SL cs).length = 1) → wL_holds_65 post (nI m) (nI cs.length) (nI (hb_SL cs).length) (nI (3 - r)) cc 1 cn mk kk fT fB a1 a2 a3 a4 a5 a6 a7 a8 a9 a10 a11 a12 a13 a14 a15 a16 a17 a18 a19 a20 a21 := by
      intro h
      unfold wL_holds_65
      refine pk_eq (3 - r) 0 (fun e => ?_) (fun e => w75 _ (by omega))
      have := h (by omega)
      exact pk_eq (hb_SL cs).length 1 (fun _ => w75 _ (by omega)) (fun g => absurd this g)
    have w46 : wL_holds_46 post (nI m) (nI cs.length) (nI (hb_SL cs).length) (nI (3 - r)) cc 1 cn mk kk fT fB a1 a2 a3 a4 a5 a6 a7 a8 a9 a10 a11 a12 a13 a14 a15 a16 a17 a18 a19 a20 a21 := by
      unfold wL_holds_46
      refine pk_eq (3 - r) 1 (fun e => ?_) (fun e => w65 d3)
      obtain ⟨n2, E1⟩ := d2 (by omega)
      refine pk_eq (hb_SL cs).length 2 (fun _ => hb_edges hP hC ?_) (fun g => absurd n2 g)
      exact pk_eq (hb_E (hb_cbP ++ cs) (hb_SL cs)) 1 (fun _ => w65 d3) (fun g => absurd E1 g)
    have w32 : wL_holds_32 post (nI m) (nI cs.length) (nI (hb_SL cs).length) (nI (3 - r)) cc 1 cn mk kk fT fB a1 a2 a3 a4 a5 a6 a7 a8 a9 a10 a11 a12 a13 a14 a15 a16 a17 a18 a19 a20 a21 := by
      unfold wL_holds_32
      refine pk_eq (3 - r) 2 (fun e => hb_edges hP hC ?_) (fun e => w46)
      have := d1 (by omega)
      exact pk_eq (hb_E (hb_cbP ++ cs) (hb_SL cs)) (hb_SL cs).length (fun _ => w46) (fun g => absurd this g)
    refine pk_eq (3 - r) 3 (fun e => ?_) (fun e => w32)
    have r0 : r = 0 := by omega
    have eu := d0 r0
    refine hb_edges hP hC (hb_faces hP hC (fun e0 => absurd e0 hne) (fun r2 _ hr2 => ?_))
    have er : r = r2 := hb_rk_u (fun p hp => (hb_gp_all hg p hp.1).2) hr hr2
    rw [if_pos (by omega)]
    refine br_t ?_ w32
    rw [hb_I_n, hb_I_n, hb_I_n, hb_I_sub, hb_I_add, show (2 : Int32) = hb_I 2 by decide]
    congr 1
    omega
end
end
section
/-! the constructor and the law -/
theorem hb_ci : ∀ i, i < 6 → ((nI i &&& 1) = 0 ↔ i % 2 = 0) ∧ (nI i / 2 = 0 ↔ i / 2 = 0) ∧ (nI i / 2 = 1 ↔ i / 2 = 1) ∧ (nI i / 2 = 2 ↔ i / 2 = 2) := by decide +kernel
theorem hb_cj : ∀ i, i < 6 → (hb_at hb_cbP i).1 = (if i / 2 = 0 then (if i % 2 = 0 then 1 else -1) else 0) ∧ (hb_at hb_cbP i).2.1 = (if i / 2 = 1 then (if i % 2 = 0 then 1 else -1) else 0) ∧ (hb_at hb_cbP i).2.2.1 = (if i / 2 = 2 then (if i % 2 = 0 then 1 else -1) else 0) ∧ (hb_at hb_cbP i).2.2.2 = 8 := by decide +kernel
def hb_INV (cs : List hb_V4) (u : St1) : Prop := match u with
  | (cc, bu, cn, m0, kk, fT, fB, a1, a2, a3, a4, a5, a6, a7, a8, a9, a10, a11, a12, a13, a14, a15, a16, a17, a18, a19, a20, a21) => hb_PV cs cc a1 a2 a3 a4 ∧ (bu = 0 ∨ (bu = 1 ∧ hb_CV cs cn a5 a6 a7 a8 a9))
section
variable {cc bu cn mk kk : Int32} {fT fB : Int64} {a1 a2 a3 a4 a5 a6 a7 a8 a9 a10 a11 a12 a13 a14 : Nat → Int32} {a15 : Nat → Int64} {a16 a17 a18 a19 a20 a21 : Nat → Int32}
theorem hb_init {post : St1 → Prop} (H : ∀ a1 a2 a3 a4, hb_PV [] 0 a1 a2 a3 a4 → post (0, 0, 0, 0, 0, 0, 0, a1, a2, a3, a4, fun _ => 0, fun _ => 0, fun _ => 0, fun _ => 0, fun _ => 0, fun _ => 0, fun _ => 0, fun _ => 0, fun _ => 0, fun _ => 0, fun _ => 0, fun _ => 0, fun _ => 0, fun _ => 0, fun _ => 0, fun _ => 0, fun _ => 0)) : wpX_init post 21 1152 (0, 0, 0, 0, 0, 0, 0) := by
  unfold wpX_init
  refine ⟨by decide, by decide, by decide, by decide, by decide, by decide, by decide, by decide, by decide, by decide, by decide, by decide, by decide, by decide, by decide, by decide, by decide, by decide, by decide, by decide, by decide, by decide, by decide, by decide, by decide, by decide, by decide, by decide, by decide, by decide, by decide, by decide, by decide, by decide, by decide, by decide, by decide, by decide, by decide, by decide, by decide, by decide, ?_⟩
  refine pk_loop (σ := (Nat → Int32) × (Nat → Int32) × (Nat → Int32) × (Nat → Int32)) (fun n i s => wX_init_174 post 21 1152 21 1152 n (nI i) 0 0 0 0 0 0 0 s.1 s.2.1 s.2.2.1 s.2.2.2 (fun _ => 0) (fun _ => 0) (fun _ => 0) (fun _ => 0) (fun _ => 0) (fun _ => 0) (fun _ => 0) (fun _ => 0) (fun _ => 0) (fun _ => 0) (fun _ => 0) (fun _ => 0) (fun _ => 0) (fun _ => 0) (fun _ => 0) (fun _ => 0) (fun _ => 0)) (fun i s => hb_PA s.1 s.2.1 s.2.2.1 s.2.2.2 (fun q => if q < i then hb_at hb_cbP q else (0, 0, 0, 0))) 6 0 (fun _ => 0, fun _ => 0, fun _ => 0, fun _ => 0) (by omega) ?_ ?_ ?_
  · intro q hq
    show (0 : Int32) = hb_I 0 ∧ (0 : Int32) = hb_I 0 ∧ (0 : Int32) = hb_I 0 ∧ (0 : Int32) = hb_I 0 ∧ hb_pb (0, 0, 0, 0)
    exact ⟨hb_I0, hb_I0, hb_I0, hb_I0, by unfold hb_pb; decide⟩
  · intro n s h
    refine pk_le 6 6 (fun _ => H _ _ _ _ ⟨rfl, by decide, (fun p hp => by cases hp), _, h, fun i hi => ?_⟩) (fun z => absurd z (by omega))
    show (if i < 6 then hb_at hb_cbP i else (0, 0, 0, 0)) = _
    rw [if_pos (show i < 6 from hi), List.append_nil]
  · intro n i s hi h hw
    obtain ⟨q1, q2, q3, q4⟩ := hb_ci i hi
    obtain ⟨r1, r2, r3, r4⟩ := hb_cj i hi
    have two : ¬ (2 : Int32) = 0 := by decide
    have pb := (hb_cb_pb (hb_at hb_cbP i) (hb_at_mem hi)).1
    obtain ⟨y1, y2, y3, y4⟩ := hb_pb_byte pb
    have main : ∀ u v w : Int, u = (hb_at hb_cbP i).1 → v = (hb_at hb_cbP i).2.1 → w = (hb_at hb_cbP i).2.2.1 → wX_init_229 post 21 1152 (wX_init_174 post 21 1152 21 1152 n) (nI i) (hb_I w) (hb_I v) (hb_I u) (nI i) 21 1152 0 0 0 0 0 0 0 s.1 s.2.1 s.2.2.1 s.2.2.2 (fun _ => 0) (fun _ => 0) (fun _ => 0) (fun _ => 0) (fun _ => 0) (fun _ => 0) (fun _ => 0) (fun _ => 0) (fun _ => 0) (fun _ => 0) (fun _ => 0) (fun _ => 0) (fun _ => 0) (fun _ => 0) (fun _ => 0) (fun _ => 0) (fun _ => 0) := by
      intro u v w hu hv hw'
      unfold wX_init_229
      rw [hu, hv, hw']
      refine hb_setPlane (by omega) y1 y2 y3 ⟨pk_in i 16 (by omega), nm_r (e' := upd s.2.2.2 i (hb_I (hb_at hb_cbP i).2.2.2)) (by rw [nI_clamp (by omega), r4, show (8 : Int32) = hb_I 8 by decide]) (nm_r (nI_1 i) ?_)⟩
      refine hw (_, _, _, _) (hb_PA_put h pb ?_ (fun q hq => ?_))
      · show (if i < i + 1 then _ else _) = _
        rw [if_pos (by omega)]
      · show (if q < i + 1 then hb_at hb_cbP q else (0, 0, 0, 0)) = (if q < i then hb_at hb_cbP q else (0, 0, 0, 0))
        by_cases g : q < i
        · rw [if_pos g, if_pos (by omega)]
        · rw [if_neg g, if_neg (by omega)]
    have z0 : (0 : Int32) = hb_I 0 := hb_I0
    have f191 : ∀ sg : Int, sg = (if i % 2 = 0 then 1 else -1) → wX_init_191 post 21 1152 (wX_init_174 post 21 1152 21 1152 n) (nI i) (hb_I sg) 21 1152 0 0 0 0 0 0 0 s.1 s.2.1 s.2.2.1 s.2.2.2 (fun _ => 0) (fun _ => 0) (fun _ => 0) (fun _ => 0) (fun _ => 0) (fun _ => 0) (fun _ => 0) (fun _ => 0) (fun _ => 0) (fun _ => 0) (fun _ => 0) (fun _ => 0) (fun _ => 0) (fun _ => 0) (fun _ => 0) (fun _ => 0) (fun _ => 0) := by
      intro sg hs
      rw [← hs] at r1 r2 r3
      have t0 : i / 2 = 0 ∨ i / 2 = 1 ∨ i / 2 = 2 := by omega
      unfold wX_init_191
      refine ⟨two, ek_if q2 (fun g0 => ?_) (fun g0 => ?_)⟩
      · unfold wX_init_205
        refine ⟨two, ek_if q3 (fun g1 => absurd g1 (by omega)) (fun g1 => ?_)⟩
        unfold wX_init_217
        refine ⟨two, ek_if q4 (fun g2 => absurd g2 (by omega)) (fun g2 => ?_)⟩
        exact main sg 0 0 (by rw [r1, if_pos g0]) (by rw [r2, if_neg g1]) (by rw [r3, if_neg g2])
      · unfold wX_init_205
        refine ⟨two, ek_if q3 (fun g1 => ?_) (fun g1 => ?_)⟩
        · unfold wX_init_217
          refine ⟨two, ek_if q4 (fun g2 => absurd g2 (by omega)) (fun g2 => ?_)⟩
          exact main 0 sg 0 (by rw [r1, if_neg g0]) (by rw [r2, if_pos g1]) (by rw [r3, if_neg g2])
        · unfold wX_init_217
          refine ⟨two, ek_if q4 (fun g2 => ?_) (fun g2 => absurd g2 (by omega))⟩
          exact main 0 0 sg (by rw [r1, if_neg g0]) (by rw [r2, if_neg g1]) (by rw [r3, if_pos g2])
    refine pk_le 6 i (fun z => absurd z (by omega)) (fun _ => ek_if q1 (fun g => ?_) (fun g => ?_))
    · have e : (1 : Int32) = hb_I 1 := by decide
      rw [e]
      exact f191 1 (by rw [if_pos g])
    · have e : (-1 : Int32) = hb_I (-1) := by decide
      rw [e]
      exact f191 (-1) (by rw [if_neg g])
abbrev hb_J : Type := Int32 → Int32 → Int32 → Int32 → Int32 → Int32 → Int32 → Int64 → Int64 → (Nat → Int32) → (Nat → Int32) → (Nat → Int32) → (Nat → Int32) → (Nat → Int32) → (Nat → Int32) → (Nat → Int32) → (Nat → Int32) → (Nat → Int32) → (Nat → Int32) → (Nat → Int32) → (Nat → Int32) → (Nat → Int32) → (Nat → Int32) → (Nat → Int64) → (Nat → Int32) → (Nat → Int32) → (Nat → Int32) → (Nat → Int32) → (Nat → Int32) → (Nat → Int32) → Prop
theorem hb_m729 (x : Int32) : ∃ v, v ≤ 728 ∧ (x &&& 1023) - (x &&& 1023) / 729 * 729 = nI v := by
  obtain ⟨j, hj, e⟩ := pk_andE x (m := 1023) 10 (by decide)
  refine ⟨j % 729, by omega, ?_⟩
  rw [e]
  exact pk_rem (d := 729) (by omega) (by omega) (by omega)
theorem hb_m41 (x : Int32) : ∃ d : Int, (-40 ≤ d ∧ d ≤ 40) ∧ x - x / 41 * 41 = hb_I d := by
  have ex : x = hb_I x.toInt := by
    rw [← Int32.toInt_inj]
    exact (hb_I_t ⟨x.le_toInt, by have := x.toInt_lt; omega⟩).symm
  have R : hb_R x.toInt := ⟨x.le_toInt, by have := x.toInt_lt; omega⟩
  refine ⟨x.toInt - x.toInt.tdiv 41 * 41, ?_, ?_⟩
  · rcases Int.le_total 0 x.toInt with g | g
    · rw [Int.tdiv_eq_ediv_of_nonneg g]; omega
    · have e1 : x.toInt.tdiv 41 = -((-x.toInt).tdiv 41) := by rw [Int.neg_tdiv, Int.neg_neg]
      rw [e1, Int.tdiv_eq_ediv_of_nonneg (by omega)]; omega
  · have e41 : (41 : Int32) = hb_I 41 := by decide
    rw [e41]
    rw [ex, hb_I_div R (by unfold hb_R; omega), hb_I_mul, hb_I_sub]
    rw [← ex]
theorem hb_law125 {post : Int32 → Prop} {Ls : Nat} {xs : Nat → Int32} {J : hb_J} {cs : List hb_V4} {i kc ks : Nat} {x5 : Int32} (hP : hb_PV cs cc a1 a2 a3 a4) (hB : bu = 0 ∨ (bu = 1 ∧ hb_CV cs cn a5 a6 a7 a8 a9))
    (HJ : ∀ cc bu cn mk kk fT fB a1 a2 a3 a4 a5 a6 a7 a8 a9 a10 a11 a12 a13 a14 a15 a16 a17 a18 a19 a20 a21, hb_INV cs (cc, bu, cn, mk, kk, fT, fB, a1, a2, a3, a4, a5, a6, a7, a8, a9, a10, a11, a12, a13, a14, a15, a16, a17, a18, a19, a20, a21) → J (nI cs.length) (nI (i + 3)) cc bu cn mk kk fT fB a1 a2 a3 a4 a5 a6 a7 a8 a9 a10 a11 a12 a13 a14 a15 a16 a17 a18 a19 a20 a21) : wL_law_125 post Ls xs J (nI cs.length) (nI i) x5 kc ks cc bu cn mk kk fT fB a1 a2 a3 a4 a5 a6 a7 a8 a9 a10 a11 a12 a13 a14 a15 a16 a17 a18 a19 a20 a21 := by
  unfold wL_law_125
  obtain ⟨v, hv, e⟩ := hb_m729 (x5 >>> ((8 : Int32) &&& 31))
  refine ⟨by decide, ?_⟩
  rw [e]
  refine hb_holds hv hP hB (fun cn mk fT fB a5 a6 a7 a8 a9 a10 a11 a12 a13 a14 a15 hC => br_f (by decide) (nm_r (nI_add i 3) ?_))
  exact HJ _ _ _ _ _ _ _ _ _ _ _ _ _ _ _ _ _ _ _ _ _ _ _ _ _ _ _ _ ⟨hP, Or.inr ⟨rfl, hC⟩⟩
theorem hb_law96 {post : Int32 → Prop} {Ls : Nat} {xs : Nat → Int32} {J : hb_J} {cs : List hb_V4} {i kc ks : Nat} {x4 x5 : Int32} (hP : hb_PV cs cc a1 a2 a3 a4) (hB : bu = 0 ∨ (bu = 1 ∧ hb_CV cs cn a5 a6 a7 a8 a9))
    (HJ : ∀ cs cc bu cn mk kk fT fB a1 a2 a3 a4 a5 a6 a7 a8 a9 a10 a11 a12 a13 a14 a15 a16 a17 a18 a19 a20 a21, hb_INV cs (cc, bu, cn, mk, kk, fT, fB, a1, a2, a3, a4, a5, a6, a7, a8, a9, a10, a11, a12, a13, a14, a15, a16, a17, a18, a19, a20, a21) → J (nI cs.length) (nI (i + 3)) cc bu cn mk kk fT fB a1 a2 a3 a4 a5 a6 a7 a8 a9 a10 a11 a12 a13 a14 a15 a16 a17 a18 a19 a20 a21) : wL_law_96 post Ls xs J (nI cs.length) (nI i) x4 x5 kc ks cc bu cn mk kk fT fB a1 a2 a3 a4 a5 a6 a7 a8 a9 a10 a11 a12 a13 a14 a15 a16 a17 a18 a19 a20 a21 := by
  unfold wL_law_96
  obtain ⟨v, hv, e⟩ := hb_m729 x4
  obtain ⟨d, hd, e'⟩ := hb_m41 x5
  refine ⟨by decide, by decide, ?_⟩
  rw [e, e']
  refine hb_cut hv hd hP (fun r hr => br_t hr (hb_law125 hP hB (HJ cs))) (fun hlt _ cc a1 a2 a3 a4 hP' => br_f (nI_nle (by omega) (by omega)) ?_)
  have len : (cs ++ [hb_np4 v d]).length = cs.length + 1 := by rw [List.length_append]; rfl
  rw [← len]
  exact hb_law125 hP' (Or.inl rfl) (HJ _)
theorem hb_lawstep {post : Int32 → Prop} {Ls : Nat} {xs : Nat → Int32} {cs : List hb_V4} {i kc ks n : Nat} (hi : i + 3 ≤ Ls) (hL : Ls ≤ 260) (hP : hb_PV cs cc a1 a2 a3 a4) (hB : bu = 0 ∨ (bu = 1 ∧ hb_CV cs cn a5 a6 a7 a8 a9))
    (HJ : ∀ cs cc bu cn mk kk fT fB a1 a2 a3 a4 a5 a6 a7 a8 a9 a10 a11 a12 a13 a14 a15 a16 a17 a18 a19 a20 a21, hb_INV cs (cc, bu, cn, mk, kk, fT, fB, a1, a2, a3, a4, a5, a6, a7, a8, a9, a10, a11, a12, a13, a14, a15, a16, a17, a18, a19, a20, a21) → wL_law_12 post Ls xs kc ks n (nI cs.length) (nI (i + 3)) cc bu cn mk kk fT fB a1 a2 a3 a4 a5 a6 a7 a8 a9 a10 a11 a12 a13 a14 a15 a16 a17 a18 a19 a20 a21) : wL_law_12 post Ls xs kc ks (n + 1) (nI cs.length) (nI i) cc bu cn mk kk fT fB a1 a2 a3 a4 a5 a6 a7 a8 a9 a10 a11 a12 a13 a14 a15 a16 a17 a18 a19 a20 a21 := by
  have hg := hP.2.2.1
  have h8 := hP.2.1
  have e3 : (Int32.ofNat Ls) - 3 = nI (Ls - 3) := pk_sub (a := Ls) (b := 3) (by omega)
  refine br_f (by rw [e3]; exact nI_nlt (by omega) (by omega)) ?_
  refine ⟨pk_in (i + 1) Ls (by omega) (nI_1 i), nm_e ⟨pk_in (i + 2) Ls (by omega) (nI_add i 2), nm_e ⟨pk_in i Ls (by omega), ?_⟩⟩⟩
  refine br_c (fun _ => pk_le cs.length 0 (fun _ => hb_law96 hP hB HJ) (fun hpos => ?_)) (fun _ => hb_law96 hP hB HJ)
  refine ⟨nI_ne0 (by omega) (by omega), ?_⟩
  obtain ⟨v, hv, e⟩ := pk_andE (xs (nI i + 1).toNatClampNeg) (m := 255) 8 (by decide)
  have er : nI v - nI v / nI cs.length * nI cs.length = nI (v % cs.length) := pk_rem (by omega) (by omega) (by omega)
  have hk : v % cs.length < cs.length := Nat.mod_lt _ (by omega)
  refine nm_r (e' := nI (v % cs.length)) (by rw [e]; exact er) ?_
  have el : (cs.eraseIdx (v % cs.length)).length = cs.length - 1 := List.length_eraseIdx_of_lt hk
  -- behind drop
  refine hb_needless hk hP hB (fun cn mk kk a5 a6 a7 a8 a9 a10 a11 a12 a13 a14 a15 a16 a17 a18 a19 => ?_) (fun he cn mk kk a5 a6 a7 a8 a9 a10 a11 a12 a13 a14 a15 a16 a17 a18 a19 => ?_)
  · refine hb_sum hP (Or.inl rfl) (fun r hr cn mk fT fB a1 a2 a3 a4 a5 a6 a7 a8 a9 a10 a11 a12 a13 a14 a15 a20 hP1 hC1 => ?_)
    refine hb_drop hk hP1 (fun cc a1 a2 a3 a4 hP2 => br_t rfl ?_)
    unfold wL_law_93
    rw [← el]
    exact hb_law125 hP2 (Or.inl rfl) (HJ _)
  · refine hb_sum hP (Or.inl rfl) (fun r hr cn mk fT fB a1 a2 a3 a4 a5 a6 a7 a8 a9 a10 a11 a12 a13 a14 a15 a20 hP1 hC1 => ?_)
    refine hb_drop hk hP1 (fun cc a1 a2 a3 a4 hP2 => br_f (by decide) ?_)
    refine hb_sum hP2 (Or.inl rfl) (fun r' hr' cn mk fT fB a1 a2 a3 a4 a5 a6 a7 a8 a9 a10 a11 a12 a13 a14 a15 a20 hP3 hC3 => br_t (hb_sv_same hg hk he hr hr') ?_)
    unfold wL_law_93
    rw [← el]
    exact hb_law125 hP3 (Or.inr ⟨rfl, hC3⟩) (HJ _)
end
end
section
/-! what is owed -/
theorem i_vc (xs : Nat → Int32) (L : Nat) (hL : L ≤ 260) : wpL_law (fun r => r = 1) L xs := by
  unfold wpL_law
  refine ⟨21, 1152, by omega, by omega, hb_init (fun a1 a2 a3 a4 hP => ?_)⟩
  refine pk_loop (σ := List hb_V4 × St1) (fun n j s => wL_law_12 (fun r => r = 1) L xs (1 + 21) (28 + 1152) n (nI s.1.length) (nI (3 * j)) s.2.1 s.2.2.1 s.2.2.2.1 s.2.2.2.2.1 s.2.2.2.2.2.1 s.2.2.2.2.2.2.1 s.2.2.2.2.2.2.2.1 s.2.2.2.2.2.2.2.2.1 s.2.2.2.2.2.2.2.2.2.1 s.2.2.2.2.2.2.2.2.2.2.1 s.2.2.2.2.2.2.2.2.2.2.2.1 s.2.2.2.2.2.2.2.2.2.2.2.2.1 s.2.2.2.2.2.2.2.2.2.2.2.2.2.1 s.2.2.2.2.2.2.2.2.2.2.2.2.2.2.1 s.2.2.2.2.2.2.2.2.2.2.2.2.2.2.2.1 s.2.2.2.2.2.2.2.2.2.2.2.2.2.2.2.2.1 s.2.2.2.2.2.2.2.2.2.2.2.2.2.2.2.2.2.1 s.2.2.2.2.2.2.2.2.2.2.2.2.2.2.2.2.2.2.1 s.2.2.2.2.2.2.2.2.2.2.2.2.2.2.2.2.2.2.2.1 s.2.2.2.2.2.2.2.2.2.2.2.2.2.2.2.2.2.2.2.2.1 s.2.2.2.2.2.2.2.2.2.2.2.2.2.2.2.2.2.2.2.2.2.1 s.2.2.2.2.2.2.2.2.2.2.2.2.2.2.2.2.2.2.2.2.2.2.1 s.2.2.2.2.2.2.2.2.2.2.2.2.2.2.2.2.2.2.2.2.2.2.2.1 s.2.2.2.2.2.2.2.2.2.2.2.2.2.2.2.2.2.2.2.2.2.2.2.2.1 s.2.2.2.2.2.2.2.2.2.2.2.2.2.2.2.2.2.2.2.2.2.2.2.2.2.1 s.2.2.2.2.2.2.2.2.2.2.2.2.2.2.2.2.2.2.2.2.2.2.2.2.2.2.1 s.2.2.2.2.2.2.2.2.2.2.2.2.2.2.2.2.2.2.2.2.2.2.2.2.2.2.2.1 s.2.2.2.2.2.2.2.2.2.2.2.2.2.2.2.2.2.2.2.2.2.2.2.2.2.2.2.2) (fun _ s => hb_INV s.1 s.2) (L / 3) 0 ([], (0, 0, 0, 0, 0, 0, 0, a1, a2, a3, a4, fun _ => 0, fun _ => 0, fun _ => 0, fun _ => 0, fun _ => 0, fun _ => 0, fun _ => 0, fun _ => 0, fun _ => 0, fun _ => 0, fun _ => 0, fun _ => 0, fun _ => 0, fun _ => 0, fun _ => 0, fun _ => 0, fun _ => 0)) (by omega) ⟨hP, Or.inl rfl⟩ ?_ ?_
  · intro n s _
    refine br_t ?_ rfl
    rw [Int32.lt_iff_toInt_lt]
    have e : (Int32.ofNat L - 3).toInt = (L : Int) - 3 := pk_sub_toInt (a := L) (b := 3) (by omega) (by omega)
    rw [e, nI_toInt (by omega)]
    omega
  · intro n j s hj hI hw
    obtain ⟨cs, cc, bu, cn, mk, kk, fT, fB, a1, a2, a3, a4, a5, a6, a7, a8, a9, a10, a11, a12, a13, a14, a15, a16, a17, a18, a19, a20, a21⟩ := s
    obtain ⟨hP, hB⟩ := hI
    refine hb_lawstep (i := 3 * j) (by omega) hL hP hB (fun cs cc bu cn mk kk fT fB a1 a2 a3 a4 a5 a6 a7 a8 a9 a10 a11 a12 a13 a14 a15 a16 a17 a18 a19 a20 a21 h => ?_)
    exact hw (cs, (cc, bu, cn, mk, kk, fT, fB, a1, a2, a3, a4, a5, a6, a7, a8, a9, a10, a11, a12, a13, a14, a15, a16, a17, a18, a19, a20, a21)) h
end
