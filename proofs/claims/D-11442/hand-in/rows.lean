section
/-- a sum that stays inside -/
theorem tm_add {x y : Int32} (h1 : -2147483648 ≤ x.toInt + y.toInt) (h2 : x.toInt + y.toInt < 2147483648) : (x + y).toInt = x.toInt + y.toInt := by
  rw [Int32.toInt_add]
  exact Int.bmod_eq_of_le (by omega) (by omega)
theorem tm_neg {x : Int32} (h1 : -2147483648 < x.toInt) : (-x).toInt = - x.toInt := by
  rw [Int32.toInt_neg]
  have h := x.toInt_lt
  exact Int.bmod_eq_of_le (by omega) (by omega)
theorem tm_le {x y : Int32} : x ≤ y ↔ x.toInt ≤ y.toInt := Int32.le_iff_toInt_le
theorem tm_inj {x y : Int32} (h : x.toInt = y.toInt) : x = y := Int32.toInt.inj h
/-- bit j of a set -/
def tm_bit (x : Int32) (j : Nat) : Int32 := (x >>> (nI j &&& 31)) &&& 1
/-- an edge f → t of gain g and code c agrees with the values R and the tree d (codes S, levels lev; beyond 17: not in the tree) -/
def tm_e (R : Nat → Int) (S d lev : Nat → Nat) (f t : Nat) (g : Int) (c : Nat) : Prop :=
  f < 17 ∧ t < 17 ∧ -2000000 ≤ g ∧ g ≤ 2000000 ∧ R f + g ≤ R t ∧ (0 < t → lev t ≤ 17 → R f + g = R t → (S t = c ∧ d t = f) ∨ (0 < f ∧ lev f ≤ 17 ∧ d f = t))
/-- the arrays reach and step on the way to R and S -/
def tm_ok (R : Nat → Int) (S d lev : Nat → Nat) (a6 a7 : Nat → Int32) : Prop :=
  (∀ v, v < 17 → -268435456 ≤ (a6 v).toInt ∧ (a6 v).toInt ≤ R v) ∧ (a6 0).toInt = 0 ∧ (∀ v, 0 < v → v < 17 → lev v ≤ 17 → (a6 v).toInt = R v → a7 v = nI (S v) ∧ (a6 (d v)).toInt = R (d v))
def tm_mo (a6 b6 : Nat → Int32) : Prop := ∀ v, v < 17 → (a6 v).toInt ≤ (b6 v).toInt
def tm_R (R : Nat → Int) : Prop := R 0 = 0 ∧ ∀ v, v < 17 → 0 ≤ R v ∧ R v ≤ 10000000
theorem tm_mo_r (a6 : Nat → Int32) : tm_mo a6 a6 := fun _ _ => Int.le_refl _
theorem tm_mo_t {a b c : Nat → Int32} (h : tm_mo a b) (h' : tm_mo b c) : tm_mo a c := fun v hv => Int.le_trans (h v hv) (h' v hv)
/-- one improvement keeps all that -/
theorem tm_relax {R : Nat → Int} {S d lev : Nat → Nat} {f t : Nat} {g x : Int32} {c : Nat} {a6 a7 : Nat → Int32} (hR : tm_R R) (ok : tm_ok R S d lev a6 a7) (e : tm_e R S d lev f t g.toInt c) (hx : x = nI c)
    (hi : ¬ a6 f + g ≤ a6 t) : tm_ok R S d lev (upd a6 t (a6 f + g)) (upd a7 t x) ∧ tm_mo a6 (upd a6 t (a6 f + g)) ∧ ((a6 f).toInt = R f → R f + g.toInt = R t → (upd a6 t (a6 f + g) t).toInt = R t) := by
  obtain ⟨hf, ht, g1, g2, hle, hd⟩ := e
  obtain ⟨o1, o2, o3⟩ := ok
  obtain ⟨r0, r1⟩ := hR
  have rf := r1 f hf
  have rt := r1 t ht
  have of := o1 f hf
  have ot := o1 t ht
  have hs : (a6 f + g).toInt = (a6 f).toInt + g.toInt := tm_add (by omega) (by omega)
  rw [tm_le, hs] at hi
  have ht0 : t ≠ 0 := by
    intro z
    rw [z] at hi hle
    rw [o2] at hi
    omega
  have hft : f ≠ t ∨ 0 < g.toInt := by
    by_cases z : f = t
    · rw [z] at hi
      right; omega
    · left; exact z
  refine ⟨⟨?_, ?_, ?_⟩, ?_, ?_⟩
  · intro v hv
    by_cases z : v = t
    · rw [z, pk_us, hs]
      omega
    · rw [pk_un z]
      exact o1 v hv
  · rw [pk_un (fun z => ht0 z.symm)]
    exact o2
  · intro v hv0 hv hl
    by_cases z : v = t
    · rw [z, pk_us, pk_us, hs]
      intro hq
      rw [z] at hl
      have q1 : (a6 f).toInt = R f := by omega
      have q2 : R f + g.toInt = R t := by omega
      rcases hd (by omega) hl q2 with ⟨h1, h2⟩ | ⟨h1, h2, h3⟩
      · refine ⟨by rw [hx, h1], ?_⟩
        rw [h2]
        have : f ≠ t := by
          intro w
          rw [w] at q2
          rcases hft with k | k
          · exact k w
          · omega
        rw [pk_un this]
        exact q1
      · have := (o3 f h1 hf h2 q1).2
        rw [h3] at this
        omega
    · rw [pk_un z, pk_un z]
      intro hq
      have h := o3 v hv0 hv hl hq
      refine ⟨h.1, ?_⟩
      by_cases w : d v = t
      · have h2 := h.2
        rw [w] at h2
        omega
      · rw [pk_un w]
        exact h.2
  · intro v hv
    by_cases z : v = t
    · rw [z, pk_us, hs]
      omega
    · rw [pk_un z]
      exact Int.le_refl _
  · intro q1 q2
    rw [pk_us, hs]
    omega
/-- nodes that have their last value: node 0, levels up to r, level r + 1 of those relaxed before m -/
def tm_st (R : Nat → Int) (lev wn : Nat → Nat) (r m : Nat) (a6 : Nat → Int32) : Prop :=
  ∀ v, v < 17 → (v = 0 ∨ lev v ≤ r ∨ (lev v ≤ r + 1 ∧ wn v < m)) → (a6 v).toInt = R v
theorem tm_st_mo {R : Nat → Int} {S d lev wn : Nat → Nat} {r m : Nat} {a6 b6 b7 : Nat → Int32} (h : tm_st R lev wn r m a6) (ok : tm_ok R S d lev b6 b7) (mo : tm_mo a6 b6) : tm_st R lev wn r m b6 := by
  intro v hv hc
  have h1 := h v hv hc
  have h2 := (ok.1 v hv).2
  have h3 := mo v hv
  omega
theorem tm_st_s {R : Nat → Int} {lev wn : Nat → Nat} {r m : Nat} {a6 : Nat → Int32} (h : tm_st R lev wn r m a6) (hn : ∀ v, 0 < v → v < 17 → lev v = r + 1 → wn v = m → (a6 v).toInt = R v) : tm_st R lev wn r (m + 1) a6 := by
  intro v hv hc
  by_cases z : v = 0 ∨ lev v ≤ r ∨ (lev v ≤ r + 1 ∧ wn v < m)
  · exact h v hv z
  · exact hn v (by omega) hv (by omega) (by omega)
/-- what one call of findWays meets: values R, tree d with codes S, levels lev, the place wn in a round where the tree's edge is relaxed -/
def tm_sc (R : Nat → Int) (S d lev wn : Nat → Nat) (us ud : Int32) (a1 a2 a4 a5 : Nat → Int32) : Prop :=
  tm_R R ∧
  (∀ τ, τ < 16 → tm_e R S d lev τ (τ + 1) 0 16) ∧
  (∀ τ, τ < 16 → ¬ a5 τ ≤ 0 → tm_e R S d lev (τ + 1) τ 0 17) ∧
  (∀ j, j < 8 → ¬ tm_bit ud j = 0 → ∃ f t, a2 j = nI f ∧ a1 j = nI t ∧ tm_e R S d lev f t (-(a4 j)).toInt (8 + j)) ∧
  (∀ j, j < 8 → tm_bit ud j = 0 → ¬ tm_bit us j = 0 → ∃ f t, a1 j = nI f ∧ a2 j = nI t ∧ tm_e R S d lev f t (a4 j).toInt j) ∧
  (∀ v, 0 < v → v < 17 → lev v ≤ 17 → lev (d v) < lev v ∧ d v < 17 ∧
    ((wn v < 16 ∧ d v = wn v ∧ v = wn v + 1 ∧ R (d v) = R v) ∨
     (wn v < 16 ∧ v = wn v ∧ d v = v + 1 ∧ ¬ a5 v ≤ 0 ∧ R (d v) = R v) ∨
     (∃ j, j < 8 ∧ wn v = 16 + j ∧ tm_bit ud j = 0 ∧ ¬ tm_bit us j = 0 ∧ a1 j = nI (d v) ∧ a2 j = nI v ∧ R (d v) + (a4 j).toInt = R v)))
end
section
section
variable {tc pr us ud kn ch : Int32} {a1 a2 a3 a4 a5 a6 a7 : Nat → Int32} {R : Nat → Int} {S d lev wn : Nat → Nat}
theorem tm_far : (-268435456 : Int32).toInt = -268435456 := by decide
theorem tm_z : (0 : Int32).toInt = 0 := by decide
theorem tm_improve {post : St2 → Prop} {x y g z : Int32} {f t c : Nat} {G : Int} (hR : tm_R R) (ok : tm_ok R S d lev a6 a7) (hx : x = nI f) (hy : y = nI t) (hg : g.toInt = G) (hz : z.toInt8.toInt32 = nI c) (e : tm_e R S d lev f t G c)
    (H : ∀ b6 b7, tm_ok R S d lev b6 b7 → tm_mo a6 b6 → ((a6 f).toInt = R f → R f + G = R t → (b6 t).toInt = R t) → post (tc, pr, us, ud, kn, ch, a1, a2, a3, a4, a5, b6, b7)) :
    wpX_improve post (tc, pr, us, ud, kn, ch, a1, a2, a3, a4, a5, a6, a7) x y g z := by
  subst hx hy hg
  unfold wpX_improve
  dsimp only
  have hf := e.1
  have ht := e.2.1
  rw [nI_clamp (show f < 2 ^ 31 by omega), nI_clamp (show t < 2 ^ 31 by omega)]
  refine ⟨pk_in f 17 hf, br_c (fun h => ?_) (fun h => ⟨pk_in f 17 hf, pk_in t 17 ht, br_c (fun h2 => ?_) (fun h2 => ⟨pk_in f 17 hf, pk_in t 17 ht, nm_e ⟨pk_in t 17 ht, nm_e ?_⟩⟩)⟩)⟩
  · refine H a6 a7 ok (tm_mo_r a6) (fun q _ => ?_)
    rw [tm_le, tm_far] at h
    have := (hR.2 f hf).1
    omega
  · refine H a6 a7 ok (tm_mo_r a6) (fun q q2 => ?_)
    have h3 := hR.2 f hf
    have h4 := (ok.1 t ht).2
    have h5 := e.2.2.1
    have h6 := e.2.2.2.1
    rw [tm_le, tm_add (by omega) (by omega)] at h2
    omega
  · have k := tm_relax hR ok e hz h2
    exact H _ _ k.1 k.2.1 k.2.2
theorem tm_dv {r m : Nat} (hr : r < 17) (sc : tm_sc R S d lev wn us ud a1 a2 a4 a5) (st : tm_st R lev wn r m a6) {v : Nat} (h0 : 0 < v) (hv : v < 17) (hl : lev v = r + 1) : (a6 (d v)).toInt = R (d v) := by
  have h := sc.2.2.2.2.2 v h0 hv (by omega)
  exact st (d v) h.2.1 (Or.inr (Or.inl (by omega)))
theorem tm_st_r {r : Nat} (hr : r < 17) (sc : tm_sc R S d lev wn us ud a1 a2 a4 a5) (st : tm_st R lev wn r 24 a6) : tm_st R lev wn (r + 1) 0 a6 := by
  intro v hv hc
  by_cases z : v = 0
  · exact st v hv (Or.inl z)
  · have h1 : lev v ≤ r + 1 := by omega
    have h := (sc.2.2.2.2.2 v (by omega) hv (by omega)).2.2
    refine st v hv (Or.inr (Or.inr ⟨h1, ?_⟩))
    rcases h with h | h | ⟨j, h, h', _⟩ <;> omega
theorem tm_c8 : ∀ j, j < 8 → (nI j).toInt8.toInt32 = nI j ∧ (8 + nI j).toInt8.toInt32 = nI (8 + j) := by decide +kernel
theorem tm_job {post : St2 → Prop} {j r : Nat} (hj : j < 8) (hr : r < 17) (sc : tm_sc R S d lev wn us ud a1 a2 a4 a5) (ok : tm_ok R S d lev a6 a7) (st : tm_st R lev wn r (16 + j) a6)
    (H : ∀ b6 b7, tm_ok R S d lev b6 b7 → tm_st R lev wn r (16 + (j + 1)) b6 → post (tc, pr, us, ud, kn, ch, a1, a2, a3, a4, a5, b6, b7)) :
    wpX_improveByJob post (tc, pr, us, ud, kn, ch, a1, a2, a3, a4, a5, a6, a7) (nI j) := by
  unfold wpX_improveByJob
  dsimp only
  rw [nI_clamp (show j < 2 ^ 31 by omega)]
  have hR := sc.1
  have hU := sc.2.2.2.1
  have hF := sc.2.2.2.2.1
  have hT := sc.2.2.2.2.2
  refine br_c (fun h => br_c (fun h2 => ?_) (fun h2 => ⟨pk_in j 8 hj, pk_in j 8 hj, pk_in j 8 hj, ?_⟩)) (fun h => ⟨pk_in j 8 hj, pk_in j 8 hj, pk_in j 8 hj, ?_⟩)
  · refine H a6 a7 ok (tm_st_s (m := 16 + j) st (fun v h0 hv hl hw => ?_))
    rcases (hT v h0 hv (by omega)).2.2 with k | k | ⟨i, k1, k2, k3, k4, _⟩
    · omega
    · omega
    · have : i = j := by omega
      rw [this] at k4
      exact absurd h2 k4
  · obtain ⟨f, t, e1, e2, e3⟩ := hF j hj h h2
    refine tm_improve hR ok e1 e2 rfl (tm_c8 j hj).1 e3 (fun b6 b7 o m k => H b6 b7 o (tm_st_s (m := 16 + j) (tm_st_mo st o m) (fun v h0 hv hl hw => ?_)))
    have dv := tm_dv hr sc st h0 hv hl
    have hv' := hT v h0 hv (by omega)
    rcases hv'.2.2 with q | q | ⟨i, k1, k2, k3, k4, k5, k6, k7⟩
    · omega
    · omega
    · have : i = j := by omega
      rw [this] at k5 k6 k7
      rw [e1] at k5
      rw [e2] at k6
      have f1 := e3.1
      have f2 := e3.2.1
      have hd' := hv'.2.1
      have kf : f = d v := (nI_eq (by omega) (by omega)).mp k5
      have kt : t = v := (nI_eq (by omega) (by omega)).mp k6
      rw [kf, kt] at k
      exact k dv k7
  · obtain ⟨f, t, e1, e2, e3⟩ := hU j hj h
    refine tm_improve hR ok e1 e2 rfl (tm_c8 j hj).2 e3 (fun b6 b7 o m k => H b6 b7 o (tm_st_s (m := 16 + j) (tm_st_mo st o m) (fun v h0 hv hl hw => ?_)))
    rcases (hT v h0 hv (by omega)).2.2 with k | k | ⟨i, k1, k2, k3, k4, _⟩
    · omega
    · omega
    · have : i = j := by omega
      rw [this] at k3
      exact absurd k3 h
theorem tm_91 {post : St2 → Prop} {J : Int32 → Int32 → Int32 → Int32 → Int32 → Int32 → Int32 → (Nat → Int32) → (Nat → Int32) → (Nat → Int32) → (Nat → Int32) → (Nat → Int32) → (Nat → Int32) → (Nat → Int32) → Prop} {x1 : Int32} {r : Nat} (hr : r < 17)
    (sc : tm_sc R S d lev wn us ud a1 a2 a4 a5) (ok : tm_ok R S d lev a6 a7) (st : tm_st R lev wn r 16 a6)
    (H : ∀ b6 b7, tm_ok R S d lev b6 b7 → tm_st R lev wn (r + 1) 0 b6 → J (x1 + 1) tc pr us ud kn ch a1 a2 a3 a4 a5 b6 b7) :
    ∃ n, wX_findWays_91 post J x1 n 0 tc pr us ud kn ch a1 a2 a3 a4 a5 a6 a7 :=
  pk_loop (σ := (Nat → Int32) × (Nat → Int32)) (fun n i s => wX_findWays_91 post J x1 n (nI i) tc pr us ud kn ch a1 a2 a3 a4 a5 s.1 s.2) (fun i s => tm_ok R S d lev s.1 s.2 ∧ tm_st R lev wn r (16 + i) s.1) 8 0 (a6, a7) (by omega) ⟨ok, st⟩
    (fun n s h => pk_le 8 8 (fun _ => nm_e (H s.1 s.2 h.1 (tm_st_r hr sc h.2))) (fun z => absurd z (by omega)))
    (fun n i s hi h hw => pk_le 8 i (fun z => absurd z (by omega)) (fun _ => tm_job hi hr sc h.1 h.2 (fun b6 b7 o t => nm_r (nI_1 i) (hw (b6, b7) ⟨o, t⟩))))
theorem tm_46 {post : St2 → Prop} {J : Int32 → Int32 → Int32 → Int32 → Int32 → Int32 → Int32 → (Nat → Int32) → (Nat → Int32) → (Nat → Int32) → (Nat → Int32) → (Nat → Int32) → (Nat → Int32) → (Nat → Int32) → Prop} {x1 : Int32} {r : Nat} (hr : r < 17)
    (sc : tm_sc R S d lev wn us ud a1 a2 a4 a5) (ok : tm_ok R S d lev a6 a7) (st : tm_st R lev wn r 0 a6)
    (H : ∀ b6 b7, tm_ok R S d lev b6 b7 → tm_st R lev wn (r + 1) 0 b6 → J (x1 + 1) tc pr us ud kn ch a1 a2 a3 a4 a5 b6 b7) :
    ∃ n, wX_findWays_46 post J x1 n 0 tc pr us ud kn ch a1 a2 a3 a4 a5 a6 a7 := by
  have hR := sc.1
  have hF := sc.2.1
  have hB := sc.2.2.1
  have hT := sc.2.2.2.2.2
  refine pk_loop (σ := (Nat → Int32) × (Nat → Int32)) (fun n i s => wX_findWays_46 post J x1 n (nI i) tc pr us ud kn ch a1 a2 a3 a4 a5 s.1 s.2) (fun i s => tm_ok R S d lev s.1 s.2 ∧ tm_st R lev wn r i s.1) 16 0 (a6, a7) (by omega) ⟨ok, st⟩
    (fun n s h => pk_le 16 16 (fun _ => tm_91 hr sc h.1 h.2 H) (fun z => absurd z (by omega)))
    (fun n i s hi h hw => pk_le 16 i (fun z => absurd z (by omega)) (fun _ => ?_))
  refine tm_improve hR h.1 rfl (nI_1 i) tm_z (by decide) (hF i hi) (fun b6 b7 o m k => ?_)
  refine ⟨pk_in i 16 hi, ?_⟩
  rw [nI_clamp (show i < 2 ^ 31 by omega)]
  refine br_c (fun w => nm_r (nI_1 i) (hw (b6, b7) ⟨o, tm_st_s (tm_st_mo h.2 o m) (fun v h0 hv hl hw => ?_)⟩)) (fun w => ?_)
  · have dv := tm_dv hr sc h.2 h0 hv hl
    rcases (hT v h0 hv (by omega)).2.2 with ⟨q1, q2, q3, q4⟩ | ⟨q1, q2, q3, q4, _⟩ | ⟨j, q1, q2, _⟩
    · rw [q2, hw] at dv q4
      rw [q3, hw] at q4
      rw [q3, hw]
      exact k dv (by omega)
    · rw [q2, hw] at q4
      exact absurd w q4
    · omega
  · refine tm_improve hR o (nI_1 i) rfl tm_z (by decide) (hB i hi w) (fun c6 c7 o' m' k' => nm_r (nI_1 i) (hw (c6, c7) ⟨o', tm_st_s (tm_st_mo (tm_st_mo h.2 o m) o' m') (fun v h0 hv hl hw => ?_)⟩))
    have dv := tm_dv hr sc h.2 h0 hv hl
    have dw := tm_dv hr sc (tm_st_mo h.2 o m) h0 hv hl
    rcases (hT v h0 hv (by omega)).2.2 with ⟨q1, q2, q3, q4⟩ | ⟨q1, q2, q3, q4, q5⟩ | ⟨j, q1, q2, _⟩
    · rw [q2, hw] at dv q4
      rw [q3, hw] at q4
      rw [q3, hw]
      have k1 := k dv (by omega)
      have k2 := m' (i + 1) (by omega)
      have k3 := (o'.1 (i + 1) (by omega)).2
      show (c6 (i + 1)).toInt = R (i + 1)
      omega
    · have e : v = i := by omega
      subst e
      rw [q3] at dw q5
      exact k' dw (by omega)
    · omega
theorem tm_38 {post : St2 → Prop} (sc : tm_sc R S d lev wn us ud a1 a2 a4 a5) (ok : tm_ok R S d lev a6 a7) (st : tm_st R lev wn 0 0 a6)
    (H : ∀ b6 b7, tm_ok R S d lev b6 b7 → tm_st R lev wn 17 0 b6 → post (tc, pr, us, ud, kn, ch, a1, a2, a3, a4, a5, b6, b7)) :
    ∃ n, wX_findWays_38 post n 0 tc pr us ud kn ch a1 a2 a3 a4 a5 a6 a7 :=
  pk_loop (σ := (Nat → Int32) × (Nat → Int32)) (fun n i s => wX_findWays_38 post n (nI i) tc pr us ud kn ch a1 a2 a3 a4 a5 s.1 s.2) (fun i s => tm_ok R S d lev s.1 s.2 ∧ tm_st R lev wn i 0 s.1) 17 0 (a6, a7) (by omega) ⟨ok, st⟩
    (fun n s h => pk_lt 16 17 (fun _ => H s.1 s.2 h.1 h.2) (fun z => absurd z (by omega)))
    (fun n i s hi h hw => pk_lt 16 i (fun z => absurd z (by omega)) (fun _ => tm_46 hi sc h.1 h.2 (fun b6 b7 o t => by rw [nI_1]; exact hw (b6, b7) ⟨o, t⟩)))
/-- findWays: the steps of the tree stand in step -/
theorem tm_find {post : St2 → Prop} (sc : tm_sc R S d lev wn us ud a1 a2 a4 a5)
    (H : ∀ b6 b7, (∀ v, 0 < v → v < 17 → lev v ≤ 17 → b7 v = nI (S v)) → post (tc, pr, us, ud, kn, ch, a1, a2, a3, a4, a5, b6, b7)) :
    wpX_findWays post (tc, pr, us, ud, kn, ch, a1, a2, a3, a4, a5, a6, a7) := by
  unfold wpX_findWays
  dsimp only
  refine pk_loop (σ := (Nat → Int32) × (Nat → Int32)) (fun n i s => wX_findWays_2 post tc pr us ud kn ch n (nI i) a1 a2 a3 a4 a5 s.1 s.2) (fun i s => ∀ v, v < i → s.1 v = -268435456) 17 0 (a6, a7) (by omega) (fun v hv => absurd hv (by omega))
    (fun n s h => pk_lt 16 17 (fun _ => nm_e (tm_38 sc ?_ ?_ (fun b6 b7 o t => H b6 b7 (fun v h0 hv hl => (o.2.2 v h0 hv hl (t v hv (Or.inr (Or.inl hl)))).1)))) (fun z => absurd z (by omega)))
    (fun n i s hi h hw => pk_lt 16 i (fun z => absurd z (by omega)) (fun _ => ⟨pk_in i 17 hi, nm_e ⟨pk_in i 17 hi, nm_e (nm_r (nI_1 i) (hw (_, _) ?_))⟩⟩))
  · have hR := sc.1
    have hz : ∀ v, v < 17 → v ≠ 0 → (upd s.1 0 0 v).toInt = -268435456 := by
      intro v hv h0
      rw [pk_un h0, h v hv, tm_far]
    refine ⟨fun v hv => ?_, by rw [pk_us, tm_z], fun v h0 hv hl hq => ?_⟩
    · by_cases e : v = 0
      · rw [e, pk_us, tm_z, hR.1]
        omega
      · rw [hz v hv e]
        have := hR.2 v hv
        omega
    · rw [hz v hv (by omega)] at hq
      have := hR.2 v hv
      omega
  · intro v hv hc
    by_cases e : v = 0
    · rw [e, pk_us, tm_z, sc.1.1]
    · have hl : lev v ≤ 0 := by omega
      have := (sc.2.2.2.2.2 v (by omega) hv (by omega)).1
      omega
  · intro v hv
    show upd s.1 (nI i).toNatClampNeg (-268435456) v = -268435456
    rw [nI_clamp (by omega)]
    by_cases e : v = i
    · rw [e, pk_us]
    · rw [pk_un e]
      exact h v (by omega)
end
end
section
section
variable {tc pr us kn ch : Int32} {a1 a2 a3 a4 a6 a7 : Nat → Int32}
/-- a run of waiting steps from lo + m back to lo -/
theorem tm_fw {post : St2 → Prop} {ud : Int32} {lo n : Nat} : ∀ (m k : Nat) (a5 : Nat → Int32), lo + m ≤ 16 → k + m ≤ 60 → (∀ v, lo < v → v ≤ lo + m → a7 v = 16) →
    (∀ b5 : Nat → Int32, (∀ τ, τ < 16 → b5 τ = if lo ≤ τ ∧ τ < lo + m then (a5 τ + 1).toInt8.toInt32 else a5 τ) → wX_follow_5 post tc pr us kn ch n (nI lo) (nI (k + m)) ud a1 a2 a3 a4 b5 a6 a7) →
    wX_follow_5 post tc pr us kn ch (n + m) (nI (lo + m)) (nI k) ud a1 a2 a3 a4 a5 a6 a7 := by
  intro m
  induction m with
  | zero =>
    intro k a5 _ _ _ H
    exact H a5 (fun τ _ => by rw [if_neg (by omega)])
  | succ m ih =>
    intro k a5 h1 h2 h3 H
    show wX_follow_5 post tc pr us kn ch ((n + m) + 1) (nI (lo + m + 1)) (nI k) ud a1 a2 a3 a4 a5 a6 a7
    have e1 : nI (lo + m + 1) - 1 = nI (lo + m) := nI_pred (lo + m)
    refine pk_le 64 k (fun z => absurd z (by omega)) (fun _ => pk_le (lo + m + 1) 0 (fun z => absurd z (by omega)) (fun _ => ⟨pk_in (lo + m + 1) 17 (by omega), nm_r (e' := 16) (by rw [nI_clamp (by omega)]; exact h3 (lo + m + 1) (by omega) (by omega)) (br_t rfl ?_)⟩))
    rw [e1, nI_clamp (show lo + m < 2 ^ 31 by omega)]
    refine ⟨pk_in (lo + m) 16 (by omega), pk_in (lo + m) 16 (by omega), nm_e (nm_r (pk_m1 (lo + m)) (nm_r (nI_1 k) ?_))⟩
    refine ih (k + 1) _ (by omega) (by omega) (fun v hv hv' => h3 v hv (by omega)) (fun b5 hb => ?_)
    rw [show k + 1 + m = k + (m + 1) by omega]
    refine H b5 (fun τ hτ => ?_)
    rw [hb τ hτ]
    by_cases e : τ = lo + m
    · rw [if_neg (by omega), if_pos (by omega), e, pk_us]
    · rw [pk_un e]
      by_cases q : lo ≤ τ ∧ τ < lo + m
      · rw [if_pos q, if_pos (by omega)]
      · rw [if_neg q, if_neg (by omega)]
/-- a step over a job -/
theorem tm_fj {post : St2 → Prop} {ud : Int32} {x s k j n : Nat} {a5 : Nat → Int32} (hx0 : 0 < x) (hx : x < 17) (hk : k ≤ 60) (hj : j < 8) (h7 : a7 x = nI j) (h1 : a1 j = nI s)
    (H : wX_follow_5 post tc pr us kn ch n (nI s) (nI (k + 1)) (ud ||| ((1 : Int32) <<< (nI j &&& 31))) a1 a2 a3 a4 a5 a6 a7) :
    wX_follow_5 post tc pr us kn ch (n + 1) (nI x) (nI k) ud a1 a2 a3 a4 a5 a6 a7 :=
  pk_le 64 k (fun z => absurd z (by omega)) (fun _ => pk_le x 0 (fun z => absurd z (by omega)) (fun _ => ⟨pk_in x 17 hx, nm_r (by rw [nI_clamp (by omega)]; exact h7)
    (pk_eq j 16 (fun z => absurd z (by omega)) (fun _ => pk_eq j 17 (fun z => absurd z (by omega)) (fun _ => pk_lt j 8 (fun _ => pk_lt j 0 (fun z => absurd z (by omega)) (fun _ => nm_e ⟨pk_in j 8 hj, nm_r (by rw [nI_clamp (by omega)]; exact h1) (nm_r (nI_1 k) H)⟩)) (fun z => absurd z (by omega)))))⟩))
theorem tm_f0 {post : St2 → Prop} {ud : Int32} {k n : Nat} {a5 : Nat → Int32} (hk : k ≤ 60) (H : post (tc, pr, us, ud, kn, ch, a1, a2, a3, a4, a5, a6, a7)) :
    wX_follow_5 post tc pr us kn ch (n + 1) (nI 0) (nI k) ud a1 a2 a3 a4 a5 a6 a7 :=
  pk_le 64 k (fun z => absurd z (by omega)) (fun _ => pk_le 0 0 (fun _ => H) (fun z => absurd z (by omega)))
/-- no job on the way -/
theorem tm_way0 {post : St2 → Prop} {ud : Int32} {a5 : Nat → Int32} (h7 : ∀ v, 0 < v → v ≤ 16 → a7 v = 16) (H : ∀ b5, post (tc, pr, us, ud, kn, ch, a1, a2, a3, a4, b5, a6, a7)) :
    wpX_follow post (tc, pr, us, ud, kn, ch, a1, a2, a3, a4, a5, a6, a7) := by
  unfold wpX_follow
  dsimp only
  refine ⟨1 + 16, ?_⟩
  exact tm_fw (lo := 0) (n := 1) 16 0 a5 (by omega) (by omega) (fun v h1 h2 => h7 v h1 (by omega)) (fun b5 _ => tm_f0 (by omega) (H b5))
/-- one job w on the way, from s to s + 4 -/
theorem tm_way1 {post : St2 → Prop} {ud : Int32} {a5 : Nat → Int32} {s w : Nat} (hs : s ≤ 12) (hw : w < 8) (h1 : a1 w = nI s) (hj : a7 (s + 4) = nI w) (h7 : ∀ v, 0 < v → v ≤ 16 → (v ≤ s ∨ s + 4 < v) → a7 v = 16)
    (H : ∀ b5 : Nat → Int32, (∀ τ, τ < 16 → b5 τ = if s ≤ τ ∧ τ < s + 4 then a5 τ else (a5 τ + 1).toInt8.toInt32) → post (tc, pr, us, ud ||| ((1 : Int32) <<< (nI w &&& 31)), kn, ch, a1, a2, a3, a4, b5, a6, a7)) :
    wpX_follow post (tc, pr, us, ud, kn, ch, a1, a2, a3, a4, a5, a6, a7) := by
  unfold wpX_follow
  dsimp only
  refine ⟨(1 + s + 1) + (12 - s), ?_⟩
  have e16 : (16 : Int32) = nI (s + 4 + (12 - s)) := by rw [show s + 4 + (12 - s) = 16 by omega]; rfl
  rw [e16]
  refine tm_fw (lo := s + 4) (n := 1 + s + 1) (12 - s) 0 a5 (by omega) (by omega) (fun v h1 h2 => h7 v (by omega) (by omega) (by omega)) (fun b5 hb => ?_)
  refine tm_fj (x := s + 4) (s := s) (by omega) (by omega) (by omega) hw hj h1 ?_
  have e0 : nI s = nI (0 + s) := by rw [Nat.zero_add]
  rw [e0]
  refine tm_fw (lo := 0) (n := 1) s _ b5 (by omega) (by omega) (fun v h1 h2 => h7 v (by omega) (by omega) (by omega)) (fun c5 hc => ?_)
  refine tm_f0 (by omega) (H c5 (fun τ hτ => ?_))
  rw [hc τ hτ, hb τ hτ]
  by_cases q1 : τ < s
  · rw [if_pos (by omega), if_neg (by omega), if_neg (by omega)]
  · rw [if_neg (by omega)]
    by_cases q2 : τ < s + 4
    · rw [if_neg (by omega), if_pos (by omega)]
    · rw [if_pos (by omega), if_neg (by omega)]
/-- two jobs on the way, w from s to s + 4, then o from t to t + 4 -/
theorem tm_way2 {post : St2 → Prop} {ud : Int32} {a5 : Nat → Int32} {s t w o : Nat} (hst : s + 4 ≤ t) (ht : t ≤ 12) (hw : w < 8) (ho : o < 8) (h1 : a1 w = nI s) (h2 : a1 o = nI t) (hj : a7 (s + 4) = nI w) (hi : a7 (t + 4) = nI o)
    (h7 : ∀ v, 0 < v → v ≤ 16 → (v ≤ s ∨ (s + 4 < v ∧ v ≤ t) ∨ t + 4 < v) → a7 v = 16)
    (H : ∀ b5 : Nat → Int32, post (tc, pr, us, ud ||| ((1 : Int32) <<< (nI o &&& 31)) ||| ((1 : Int32) <<< (nI w &&& 31)), kn, ch, a1, a2, a3, a4, b5, a6, a7)) :
    wpX_follow post (tc, pr, us, ud, kn, ch, a1, a2, a3, a4, a5, a6, a7) := by
  unfold wpX_follow
  dsimp only
  refine ⟨(1 + s + 1 + (t - (s + 4)) + 1) + (12 - t), ?_⟩
  have e16 : (16 : Int32) = nI (t + 4 + (12 - t)) := by rw [show t + 4 + (12 - t) = 16 by omega]; rfl
  rw [e16]
  refine tm_fw (lo := t + 4) (n := 1 + s + 1 + (t - (s + 4)) + 1) (12 - t) 0 a5 (by omega) (by omega) (fun v h1 h2 => h7 v (by omega) (by omega) (by omega)) (fun b5 hb => ?_)
  refine tm_fj (x := t + 4) (s := t) (by omega) (by omega) (by omega) ho hi h2 ?_
  have et : nI t = nI (s + 4 + (t - (s + 4))) := by rw [show s + 4 + (t - (s + 4)) = t by omega]
  rw [et]
  refine tm_fw (lo := s + 4) (n := 1 + s + 1) (t - (s + 4)) _ b5 (by omega) (by omega) (fun v h1 h2 => h7 v (by omega) (by omega) (by omega)) (fun c5 hc => ?_)
  refine tm_fj (x := s + 4) (s := s) (by omega) (by omega) (by omega) hw hj h1 ?_
  have e0 : nI s = nI (0 + s) := by rw [Nat.zero_add]
  rw [e0]
  refine tm_fw (lo := 0) (n := 1) s _ c5 (by omega) (by omega) (fun v h1 h2 => h7 v (by omega) (by omega) (by omega)) (fun d5 hd => ?_)
  exact tm_f0 (by omega) (H d5)
end
end
section
/-- job j runs from q to q + 4 and has the gain G -/
def tm_jb (a1 a2 a4 : Nat → Int32) (j q : Nat) (G : Int) : Prop := a1 j = nI q ∧ a2 j = nI (q + 4) ∧ (a4 j).toInt = G ∧ q ≤ 12 ∧ 0 < G ∧ G ≤ 2000000
/-- five functions by cases -/
theorem tm_ch {P : Nat → Int → Nat → Nat → Nat → Nat → Prop} (h : ∀ v, ∃ r a b c d, P v r a b c d) : ∃ (R : Nat → Int) (S d lev wn : Nat → Nat), ∀ v, P v (R v) (S v) (d v) (lev v) (wn v) :=
  ⟨fun v => (h v).choose, fun v => (h v).choose_spec.choose, fun v => (h v).choose_spec.choose_spec.choose, fun v => (h v).choose_spec.choose_spec.choose_spec.choose, fun v => (h v).choose_spec.choose_spec.choose_spec.choose_spec.choose, fun v => (h v).choose_spec.choose_spec.choose_spec.choose_spec.choose_spec⟩
section
variable {us ud : Int32} {a1 a2 a4 a5 : Nat → Int32}
/-- all usable jobs are used: wait all the way -/
theorem tm_scC (h : ∀ j, j < 8 → tm_bit ud j = 0 → tm_bit us j = 0) (hu : ∀ j, j < 8 → ¬ tm_bit ud j = 0 → ∃ q G, tm_jb a1 a2 a4 j q G) :
    tm_sc (fun _ => 0) (fun _ => 16) (fun v => v - 1) (fun v => v) (fun v => v - 1) us ud a1 a2 a4 a5 := by
  refine ⟨⟨rfl, fun v hv => by dsimp only; omega⟩, ?_, ?_, ?_, ?_, ?_⟩
  · intro τ hτ
    unfold tm_e
    dsimp only
    omega
  · intro τ hτ _
    unfold tm_e
    dsimp only
    omega
  · intro j hj hb
    obtain ⟨q, G, h1, h2, h3, h4, h5, h6⟩ := hu j hj hb
    refine ⟨q + 4, q, h2, h1, ?_⟩
    rw [tm_neg (by omega), h3]
    unfold tm_e
    dsimp only
    omega
  · intro j hj hb hc
    exact absurd (h j hj hb) hc
  · intro v h0 hv hl
    dsimp only
    exact ⟨by omega, by omega, Or.inl ⟨by omega, rfl, by omega, rfl⟩⟩
/-- the first unit: job w has the greatest gain of those that meet it (or is alone) -/
theorem tm_scA {s t w : Nat} {G H : Int} (hw : w < 8) (jw : tm_jb a1 a2 a4 w s G) (ht : t ≤ 12) (h0 : 0 ≤ H) (hH : H < G) (m1 : s < t + 4) (m2 : t < s + 4)
    (hud : ∀ j, j < 8 → tm_bit ud j = 0) (h5 : ∀ τ, τ < 16 → a5 τ ≤ 0) (hus : ¬ tm_bit us w = 0)
    (ho : ∀ j, j < 8 → ¬ tm_bit us j = 0 → j = w ∨ (a1 j = nI t ∧ a2 j = nI (t + 4) ∧ (a4 j).toInt = H)) :
    ∃ R S d lev wn, tm_sc R S d lev wn us ud a1 a2 a4 a5 ∧ (S (s + 4) = w ∧ lev (s + 4) ≤ 17) ∧ ∀ v, v ≤ 16 → (v ≤ s ∨ s + 4 < v) → S v = 16 ∧ lev v ≤ 17 := by
  obtain ⟨w1, w2, w3, hs, g0, g1⟩ := jw
  obtain ⟨R, S, d, lev, wn, c⟩ := tm_ch (P := fun v r x y l n => (v ≤ s ∧ r = 0 ∧ x = 16 ∧ y = v - 1 ∧ l = v ∧ n = v - 1) ∨ (s < v ∧ v < s + 4 ∧ v < t + 4 ∧ r = 0 ∧ x = 16 ∧ y = v - 1 ∧ l = 18 ∧ n = v - 1) ∨ (s < v ∧ v < s + 4 ∧ t + 4 ≤ v ∧ r = H ∧ x = 16 ∧ y = v - 1 ∧ l = 18 ∧ n = v - 1) ∨ (v = s + 4 ∧ r = G ∧ x = w ∧ y = s ∧ l = s + 1 ∧ n = 16 + w) ∨ (s + 4 < v ∧ r = G ∧ x = 16 ∧ y = v - 1 ∧ l = v - 3 ∧ n = v - 1)) (by
    intro v
    by_cases q0 : v ≤ s
    · exact ⟨0, 16, v - 1, v, v - 1, Or.inl ⟨by omega, rfl, rfl, rfl, rfl, rfl⟩⟩
    by_cases q1 : s < v ∧ v < s + 4 ∧ v < t + 4
    · exact ⟨0, 16, v - 1, 18, v - 1, Or.inr (Or.inl ⟨by omega, by omega, by omega, rfl, rfl, rfl, rfl, rfl⟩)⟩
    by_cases q2 : s < v ∧ v < s + 4 ∧ t + 4 ≤ v
    · exact ⟨H, 16, v - 1, 18, v - 1, Or.inr (Or.inr (Or.inl ⟨by omega, by omega, by omega, rfl, rfl, rfl, rfl, rfl⟩))⟩
    by_cases q3 : v = s + 4
    · exact ⟨G, w, s, s + 1, 16 + w, Or.inr (Or.inr (Or.inr (Or.inl ⟨by omega, rfl, rfl, rfl, rfl, rfl⟩)))⟩
    exact ⟨G, 16, v - 1, v - 3, v - 1, Or.inr (Or.inr (Or.inr (Or.inr (⟨by omega, rfl, rfl, rfl, rfl, rfl⟩))))⟩)
  refine ⟨R, S, d, lev, wn, ⟨⟨?_, ?_⟩, ?_, ?_, ?_, ?_, ?_⟩, ?_, ?_⟩
  · have x := c 0
    omega
  · intro v hv
    have x := c v
    omega
  · intro τ hτ
    have x := c τ
    have y := c (τ + 1)
    exact ⟨by omega, by omega, by omega, by omega, by omega, fun k1 k2 k3 => Or.inl (by omega)⟩
  · intro τ hτ h
    exact absurd (h5 τ hτ) h
  · intro j hj h
    exact absurd (hud j hj) h
  · intro j hj _ hb
    rcases ho j hj hb with q | ⟨e1, e2, e3⟩
    · subst q
      refine ⟨s, s + 4, w1, w2, ?_⟩
      rw [w3]
      have x := c s
      have y := c (s + 4)
      exact ⟨by omega, by omega, by omega, by omega, by omega, fun k1 k2 k3 => Or.inl (by omega)⟩
    · refine ⟨t, t + 4, e1, e2, ?_⟩
      rw [e3]
      have x := c t
      have y := c (t + 4)
      exact ⟨by omega, by omega, by omega, by omega, by omega, fun k1 k2 k3 => Or.inl (by omega)⟩
  · intro v h0 hv hl
    have x := c v
    by_cases q : v = s + 4
    · subst q
      have y := c s
      have dv : d (s + 4) = s := by omega
      refine ⟨by rw [dv]; omega, by omega, Or.inr (Or.inr ⟨w, hw, by omega, hud w hw, hus, by rw [dv]; exact w1, w2, ?_⟩)⟩
      rw [w3, dv]
      omega
    · have y := c (v - 1)
      have dv : d v = v - 1 := by omega
      rw [dv]
      exact ⟨by omega, by omega, Or.inl ⟨by omega, by omega, by omega, by omega⟩⟩
  · have x := c (s + 4)
    omega
  · intro v hv hc
    have x := c v
    omega
/-- the first unit, two jobs apart: both -/
theorem tm_scD {s t w o : Nat} {G H : Int} (hw : w < 8) (ho : o < 8) (jw : tm_jb a1 a2 a4 w s G) (jo : tm_jb a1 a2 a4 o t H) (hst : s + 4 ≤ t)
    (hud : ∀ j, j < 8 → tm_bit ud j = 0) (h5 : ∀ τ, τ < 16 → a5 τ ≤ 0) (bw : ¬ tm_bit us w = 0) (bo : ¬ tm_bit us o = 0)
    (hus : ∀ j, j < 8 → ¬ tm_bit us j = 0 → j = w ∨ j = o) :
    ∃ R S d lev wn, tm_sc R S d lev wn us ud a1 a2 a4 a5 ∧ (S (s + 4) = w ∧ lev (s + 4) ≤ 17) ∧ (S (t + 4) = o ∧ lev (t + 4) ≤ 17) ∧ ∀ v, v ≤ 16 → (v ≤ s ∨ (s + 4 < v ∧ v ≤ t) ∨ t + 4 < v) → S v = 16 ∧ lev v ≤ 17 := by
  obtain ⟨w1, w2, w3, hs, g0, g1⟩ := jw
  obtain ⟨o1, o2, o3, ht, k0, k1⟩ := jo
  obtain ⟨R, S, d, lev, wn, c⟩ := tm_ch (P := fun v r x y l n => (v ≤ s ∧ r = 0 ∧ x = 16 ∧ y = v - 1 ∧ l = v ∧ n = v - 1) ∨ (s < v ∧ v < s + 4 ∧ r = 0 ∧ x = 16 ∧ y = v - 1 ∧ l = 18 ∧ n = v - 1) ∨ (v = s + 4 ∧ r = G ∧ x = w ∧ y = s ∧ l = s + 1 ∧ n = 16 + w) ∨ (s + 4 < v ∧ v ≤ t ∧ r = G ∧ x = 16 ∧ y = v - 1 ∧ l = v - 3 ∧ n = v - 1) ∨ (s + 4 < v ∧ t < v ∧ v < t + 4 ∧ r = G ∧ x = 16 ∧ y = v - 1 ∧ l = 18 ∧ n = v - 1) ∨ (v = t + 4 ∧ r = G + H ∧ x = o ∧ y = t ∧ l = t - 2 ∧ n = 16 + o) ∨ (t + 4 < v ∧ r = G + H ∧ x = 16 ∧ y = v - 1 ∧ l = v - 6 ∧ n = v - 1)) (by
    intro v
    by_cases q0 : v ≤ s
    · exact ⟨0, 16, v - 1, v, v - 1, Or.inl ⟨by omega, rfl, rfl, rfl, rfl, rfl⟩⟩
    by_cases q1 : s < v ∧ v < s + 4
    · exact ⟨0, 16, v - 1, 18, v - 1, Or.inr (Or.inl ⟨by omega, by omega, rfl, rfl, rfl, rfl, rfl⟩)⟩
    by_cases q2 : v = s + 4
    · exact ⟨G, w, s, s + 1, 16 + w, Or.inr (Or.inr (Or.inl ⟨by omega, rfl, rfl, rfl, rfl, rfl⟩))⟩
    by_cases q3 : s + 4 < v ∧ v ≤ t
    · exact ⟨G, 16, v - 1, v - 3, v - 1, Or.inr (Or.inr (Or.inr (Or.inl ⟨by omega, by omega, rfl, rfl, rfl, rfl, rfl⟩)))⟩
    by_cases q4 : s + 4 < v ∧ t < v ∧ v < t + 4
    · exact ⟨G, 16, v - 1, 18, v - 1, Or.inr (Or.inr (Or.inr (Or.inr (Or.inl ⟨by omega, by omega, by omega, rfl, rfl, rfl, rfl, rfl⟩))))⟩
    by_cases q5 : v = t + 4
    · exact ⟨G + H, o, t, t - 2, 16 + o, Or.inr (Or.inr (Or.inr (Or.inr (Or.inr (Or.inl ⟨by omega, rfl, rfl, rfl, rfl, rfl⟩)))))⟩
    exact ⟨G + H, 16, v - 1, v - 6, v - 1, Or.inr (Or.inr (Or.inr (Or.inr (Or.inr (Or.inr (⟨by omega, rfl, rfl, rfl, rfl, rfl⟩))))))⟩)
  refine ⟨R, S, d, lev, wn, ⟨⟨?_, ?_⟩, ?_, ?_, ?_, ?_, ?_⟩, ?_, ?_, ?_⟩
  · have x := c 0
    omega
  · intro v hv
    have x := c v
    omega
  · intro τ hτ
    have x := c τ
    have y := c (τ + 1)
    exact ⟨by omega, by omega, by omega, by omega, by omega, fun k1 k2 k3 => Or.inl (by omega)⟩
  · intro τ hτ h
    exact absurd (h5 τ hτ) h
  · intro j hj h
    exact absurd (hud j hj) h
  · intro j hj _ hb
    rcases hus j hj hb with q | q
    · subst q
      refine ⟨s, s + 4, w1, w2, ?_⟩
      rw [w3]
      have x := c s
      have y := c (s + 4)
      exact ⟨by omega, by omega, by omega, by omega, by omega, fun k1 k2 k3 => Or.inl (by omega)⟩
    · subst q
      refine ⟨t, t + 4, o1, o2, ?_⟩
      rw [o3]
      have x := c t
      have y := c (t + 4)
      exact ⟨by omega, by omega, by omega, by omega, by omega, fun k1 k2 k3 => Or.inl (by omega)⟩
  · intro v h0 hv hl
    have x := c v
    by_cases q : v = s + 4
    · subst q
      have y := c s
      have dv : d (s + 4) = s := by omega
      refine ⟨by rw [dv]; omega, by omega, Or.inr (Or.inr ⟨w, hw, by omega, hud w hw, bw, by rw [dv]; exact w1, w2, ?_⟩)⟩
      rw [w3, dv]
      omega
    · by_cases q' : v = t + 4
      · subst q'
        have y := c t
        have dv : d (t + 4) = t := by omega
        refine ⟨by rw [dv]; omega, by omega, Or.inr (Or.inr ⟨o, ho, by omega, hud o ho, bo, by rw [dv]; exact o1, o2, ?_⟩)⟩
        rw [o3, dv]
        omega
      · have y := c (v - 1)
        have dv : d v = v - 1 := by omega
        rw [dv]
        exact ⟨by omega, by omega, Or.inl ⟨by omega, by omega, by omega, by omega⟩⟩
  · have x := c (s + 4)
    omega
  · have x := c (t + 4)
    omega
  · intro v hv hc
    have x := c v
    omega
/-- the second unit: w is used, o meets it and has the lesser gain -/
theorem tm_scB {s t w o : Nat} {G H : Int} (hw : w < 8) (ho : o < 8) (jw : tm_jb a1 a2 a4 w s G) (jo : tm_jb a1 a2 a4 o t H) (hH : H < G) (m1 : s < t + 4) (m2 : t < s + 4)
    (uw : ∀ j, j < 8 → ¬ tm_bit ud j = 0 → j = w) (uo : tm_bit ud o = 0) (bo : ¬ tm_bit us o = 0) (hus : ∀ j, j < 8 → tm_bit ud j = 0 → ¬ tm_bit us j = 0 → j = o)
    (h5 : ∀ τ, τ < 16 → s ≤ τ → τ < s + 4 → a5 τ ≤ 0) (h5' : ∀ τ, τ < 16 → (τ < s ∨ s + 4 ≤ τ) → ¬ a5 τ ≤ 0) :
    ∃ R S d lev wn, tm_sc R S d lev wn us ud a1 a2 a4 a5 ∧ (S (t + 4) = o ∧ lev (t + 4) ≤ 17) ∧ ∀ v, v ≤ 16 → (v ≤ t ∨ t + 4 < v) → S v = 16 ∧ lev v ≤ 17 := by
  obtain ⟨w1, w2, w3, hs, g0, g1⟩ := jw
  obtain ⟨o1, o2, o3, ht, k0, k1⟩ := jo
  obtain ⟨m, hm⟩ : ∃ m, (s ≤ t ∧ m = s) ∨ (t < s ∧ m = t) := by
    by_cases q : s ≤ t
    · exact ⟨s, Or.inl ⟨q, rfl⟩⟩
    · exact ⟨t, Or.inr ⟨by omega, rfl⟩⟩
  have ms : (m = s ∨ m = t) ∧ m ≤ s ∧ m ≤ t ∧ s < m + 4 ∧ t < m + 4 ∧ s ≤ m + 3 ∧ m + 3 < s + 4 := by omega
  clear hm
  obtain ⟨R, S, d, lev, wn, c⟩ := tm_ch (P := fun v r x y l n => (v < m + 4 ∧ r = 0 ∧ x = 16 ∧ y = v - 1 ∧ l = v ∧ n = v - 1) ∨ (m + 4 ≤ v ∧ v < t + 4 ∧ r = H ∧ x = 17 ∧ y = v + 1 ∧ l = t + 1 + (t + 4 - v) ∧ n = v) ∨ (v = t + 4 ∧ r = H ∧ x = o ∧ y = t ∧ l = t + 1 ∧ n = 16 + o) ∨ (t + 4 < v ∧ r = H ∧ x = 16 ∧ y = v - 1 ∧ l = v - 3 ∧ n = v - 1)) (by
    intro v
    by_cases q0 : v < m + 4
    · exact ⟨0, 16, v - 1, v, v - 1, Or.inl ⟨by omega, rfl, rfl, rfl, rfl, rfl⟩⟩
    by_cases q1 : m + 4 ≤ v ∧ v < t + 4
    · exact ⟨H, 17, v + 1, t + 1 + (t + 4 - v), v, Or.inr (Or.inl ⟨by omega, by omega, rfl, rfl, rfl, rfl, rfl⟩)⟩
    by_cases q2 : v = t + 4
    · exact ⟨H, o, t, t + 1, 16 + o, Or.inr (Or.inr (Or.inl ⟨by omega, rfl, rfl, rfl, rfl, rfl⟩))⟩
    exact ⟨H, 16, v - 1, v - 3, v - 1, Or.inr (Or.inr (Or.inr (⟨by omega, rfl, rfl, rfl, rfl, rfl⟩)))⟩)
  refine ⟨R, S, d, lev, wn, ⟨⟨?_, ?_⟩, ?_, ?_, ?_, ?_, ?_⟩, ?_, ?_⟩
  · have x := c 0
    omega
  · intro v hv
    have x := c v
    omega
  · intro τ hτ
    have x := c τ
    have y := c (τ + 1)
    refine ⟨by omega, by omega, by omega, by omega, by omega, fun k1 k2 k3 => ?_⟩
    by_cases q : m + 4 ≤ τ ∧ τ < t + 4
    · exact Or.inr ⟨by omega, by omega, by omega⟩
    · exact Or.inl ⟨by omega, by omega⟩
  · intro τ hτ h
    have hq : ¬ (s ≤ τ ∧ τ < s + 4) := fun z => h (h5 τ hτ z.1 z.2)
    have x := c τ
    have y := c (τ + 1)
    refine ⟨by omega, by omega, by omega, by omega, by omega, fun k1 k2 k3 => ?_⟩
    by_cases q : m + 4 ≤ τ ∧ τ < t + 4
    · exact Or.inl ⟨by omega, by omega⟩
    · exact Or.inr ⟨by omega, by omega, by omega⟩
  · intro j hj h
    have q := uw j hj h
    subst q
    refine ⟨s + 4, s, w2, w1, ?_⟩
    rw [tm_neg (by omega), w3]
    have x := c s
    have y := c (s + 4)
    exact ⟨by omega, by omega, by omega, by omega, by omega, fun k1 k2 k3 => by omega⟩
  · intro j hj hb hc
    have q := hus j hj hb hc
    subst q
    refine ⟨t, t + 4, o1, o2, ?_⟩
    rw [o3]
    have x := c t
    have y := c (t + 4)
    exact ⟨by omega, by omega, by omega, by omega, by omega, fun k1 k2 k3 => Or.inl (by omega)⟩
  · intro v h0 hv hl
    have x := c v
    by_cases q : v = t + 4
    · subst q
      have y := c t
      have dv : d (t + 4) = t := by omega
      refine ⟨by rw [dv]; omega, by omega, Or.inr (Or.inr ⟨o, ho, by omega, uo, bo, by rw [dv]; exact o1, o2, ?_⟩)⟩
      rw [o3, dv]
      omega
    · by_cases q' : m + 4 ≤ v ∧ v < t + 4
      · have y := c (v + 1)
        have dv : d v = v + 1 := by omega
        rw [dv]
        exact ⟨by omega, by omega, Or.inr (Or.inl ⟨by omega, by omega, rfl, h5' v (by omega) (by omega), by omega⟩)⟩
      · have y := c (v - 1)
        have dv : d v = v - 1 := by omega
        rw [dv]
        exact ⟨by omega, by omega, Or.inl ⟨by omega, by omega, by omega, by omega⟩⟩
  · have x := c (t + 4)
    omega
  · intro v hv hc
    have x := c v
    omega
end
end
section
theorem tm_b0 : ∀ j, j < 8 → tm_bit 0 j = 0 := by decide +kernel
theorem tm_b1 : ∀ w, w < 2 → ∀ j, j < 8 → (tm_bit (nI (w + 1)) j = 0 ↔ ¬ j = w) := by decide +kernel
theorem tm_b3 : ∀ j, j < 8 → (tm_bit (nI 3) j = 0 ↔ 2 ≤ j) := by decide +kernel
theorem tm_o1 : ∀ w, w < 2 → (0 : Int32) ||| ((1 : Int32) <<< (nI w &&& 31)) = nI (w + 1) := by decide +kernel
theorem tm_o2 : ∀ w, w < 2 → nI (w + 1) ||| ((1 : Int32) <<< (nI (1 - w) &&& 31)) = nI 3 := by decide +kernel
theorem tm_o3 : ∀ w, w < 2 → (0 : Int32) ||| ((1 : Int32) <<< (nI (1 - w) &&& 31)) ||| ((1 : Int32) <<< (nI w &&& 31)) = nI 3 := by decide +kernel
/-- how many jobs are used after N units, both usable -/
def tm_us (N s t : Nat) (G0 G1 : Int) : Nat := if N = 0 then 0 else if N = 1 ∧ s < t + 4 ∧ t < s + 4 then (if G1 < G0 then 1 else 2) else 3
section
variable {tc pr kn ch : Int32} {a1 a2 a3 a4 : Nat → Int32} {post : St2 → Prop}
theorem tm_full {us ud : Int32} {N : Nat} (hN : N ≤ 100) (hu0 : ∀ j, j < 8 → tm_bit ud j = 0 → tm_bit us j = 0) (hu : ∀ j, j < 8 → ¬ tm_bit ud j = 0 → ∃ q G, tm_jb a1 a2 a4 j q G)
    (H : ∀ b5 b6 b7, post (tc, pr, us, ud, kn, ch, a1, a2, a3, a4, b5, b6, b7)) (n i : Nat) (a5 a6 a7 : Nat → Int32) (hi : i ≤ N) (hn : N - i < n) :
    wX_send_2 post (nI N) n (nI i) tc pr us ud kn ch a1 a2 a3 a4 a5 a6 a7 :=
  loop_i (σ := (Nat → Int32) × (Nat → Int32) × (Nat → Int32)) (fun n i s => wX_send_2 post (nI N) n (nI i) tc pr us ud kn ch a1 a2 a3 a4 s.1 s.2.1 s.2.2) (fun _ _ => True) N
    (fun n s _ => pk_le N N (fun _ => H _ _ _) (fun z => absurd z (by omega)))
    (fun n i s hi _ hw => pk_le N i (fun z => absurd z (by omega)) (fun _ => tm_find (tm_scC hu0 hu) (fun b6 b7 h7 => tm_way0 (fun v h0 hv => h7 v h0 (by omega) (show v ≤ 17 by omega)) (fun b5 => nm_r (nI_1 i) (hw (b5, b6, b7) trivial)))))
    n i (a5, a6, a7) hi hn trivial
theorem tm_half {w s t N n : Nat} {G K : Int} {a5 a6 a7 : Nat → Int32} (hw : w < 2) (hN : N ≤ 100) (h1 : 1 ≤ N) (hn : N - 1 < n) (jw : tm_jb a1 a2 a4 w s G) (jo : tm_jb a1 a2 a4 (1 - w) t K) (hK : K < G) (m1 : s < t + 4) (m2 : t < s + 4)
    (h5 : ∀ τ, τ < 16 → a5 τ = if s ≤ τ ∧ τ < s + 4 then 0 else 1)
    (H1 : N = 1 → ∀ b5 b6 b7, post (tc, pr, nI 3, nI (w + 1), kn, ch, a1, a2, a3, a4, b5, b6, b7)) (H2 : 2 ≤ N → ∀ b5 b6 b7, post (tc, pr, nI 3, nI 3, kn, ch, a1, a2, a3, a4, b5, b6, b7)) :
    wX_send_2 post (nI N) n (nI 1) tc pr (nI 3) (nI (w + 1)) kn ch a1 a2 a3 a4 a5 a6 a7 := by
  obtain ⟨n', rfl⟩ : ∃ n', n = n' + 1 := ⟨n - 1, by omega⟩
  by_cases e : N = 1
  · subst e
    exact pk_le 1 1 (fun _ => H1 rfl _ _ _) (fun z => absurd z (by omega))
  · have ht : t ≤ 12 := jo.2.2.2.1
    have c1 : (1 : Int32) ≤ 0 → False := by decide
    have c0 : (0 : Int32) ≤ 0 := by decide
    obtain ⟨R, S, d, lev, wn, sc, ⟨s1, l1⟩, s2⟩ := tm_scB (ud := nI (w + 1)) (us := nI 3) (a5 := a5) (show w < 8 by omega) (show 1 - w < 8 by omega) jw jo hK m1 m2
      (fun j hj hb => by
        by_cases q : j = w
        · exact q
        · exact absurd ((tm_b1 w hw j hj).mpr q) hb)
      ((tm_b1 w hw (1 - w) (by omega)).mpr (by omega))
      (fun z => absurd ((tm_b3 (1 - w) (by omega)).mp z) (by omega))
      (fun j hj hb hc => by
        have q1 := (tm_b1 w hw j hj).mp hb
        have q2 : ¬ 2 ≤ j := fun z => hc ((tm_b3 j hj).mpr z)
        omega)
      (fun τ hτ q1 q2 => by rw [h5 τ hτ, if_pos ⟨q1, q2⟩]; exact c0)
      (fun τ hτ q => by rw [h5 τ hτ, if_neg (by omega)]; exact c1)
    refine pk_le N 1 (fun z => absurd z (by omega)) (fun _ => tm_find sc (fun b6 b7 h7 => ?_))
    refine tm_way1 (s := t) (w := 1 - w) ht (by omega) jo.1 ?_ ?_ (fun b5 _ => ?_)
    · have h8 := h7 (t + 4) (by omega) (by omega) l1
      rw [s1] at h8
      exact h8
    · intro v h0 hv hc
      have h8 := h7 v h0 (by omega) (s2 v hv hc).2
      rw [(s2 v hv hc).1] at h8
      exact h8
    · rw [tm_o2 w hw]
      refine nm_r (nI_1 1) (tm_full hN (fun j hj hb => hb) (fun j hj hb => ?_) (H2 (by omega)) n' 2 b5 b6 b7 (by omega) (by omega))
      have q2 : ¬ 2 ≤ j := fun z => hb ((tm_b3 j hj).mpr z)
      by_cases q : j = w
      · exact ⟨s, G, by rw [q]; exact jw⟩
      · exact ⟨t, K, by rw [show j = 1 - w by omega]; exact jo⟩
theorem tm_unitA {w s t N n : Nat} {G K : Int} {us : Int32} {a5 a6 a7 : Nat → Int32} (hw : w < 2) (hN : N ≤ 100) (h1 : 1 ≤ N) (jw : tm_jb a1 a2 a4 w s G) (ht : t ≤ 12) (hK0 : 0 ≤ K) (hK : K < G) (m1 : s < t + 4) (m2 : t < s + 4)
    (bw : ¬ tm_bit us w = 0) (ho : ∀ j, j < 8 → ¬ tm_bit us j = 0 → j = w ∨ (a1 j = nI t ∧ a2 j = nI (t + 4) ∧ (a4 j).toInt = K)) (h5 : ∀ τ, τ < 16 → a5 τ = 0)
    (H : ∀ b5 b6 b7 : Nat → Int32, (∀ τ, τ < 16 → b5 τ = if s ≤ τ ∧ τ < s + 4 then 0 else 1) → wX_send_2 post (nI N) n (nI 1) tc pr us (nI (w + 1)) kn ch a1 a2 a3 a4 b5 b6 b7) :
    wX_send_2 post (nI N) (n + 1) (nI 0) tc pr us 0 kn ch a1 a2 a3 a4 a5 a6 a7 := by
  have hs : s ≤ 12 := jw.2.2.2.1
  have c0 : (0 : Int32) ≤ 0 := by decide
  have c1 : ((0 : Int32) + 1).toInt8.toInt32 = 1 := by decide
  obtain ⟨R, S, d, lev, wn, sc, ⟨s1, l1⟩, s2⟩ := tm_scA (ud := 0) (us := us) (a5 := a5) (show w < 8 by omega) jw ht hK0 hK m1 m2 tm_b0 (fun τ hτ => by rw [h5 τ hτ]; exact c0) bw ho
  refine pk_le N 0 (fun z => absurd z (by omega)) (fun _ => tm_find sc (fun b6 b7 h7 => ?_))
  refine tm_way1 (s := s) (w := w) hs (by omega) jw.1 ?_ ?_ (fun b5 hb => ?_)
  · have h8 := h7 (s + 4) (by omega) (by omega) l1
    rw [s1] at h8
    exact h8
  · intro v h0 hv hc
    have h8 := h7 v h0 (by omega) (s2 v hv hc).2
    rw [(s2 v hv hc).1] at h8
    exact h8
  · rw [tm_o1 w hw]
    refine nm_r (nI_1 0) (H b5 b6 b7 (fun τ hτ => ?_))
    rw [hb τ hτ, h5 τ hτ, c1]
theorem tm_unitD {w s t N n : Nat} {G K : Int} {a5 a6 a7 : Nat → Int32} (hw : w < 2) (hN : N ≤ 100) (h1 : 1 ≤ N) (jw : tm_jb a1 a2 a4 w s G) (jo : tm_jb a1 a2 a4 (1 - w) t K) (hst : s + 4 ≤ t) (h5 : ∀ τ, τ < 16 → a5 τ = 0)
    (H : ∀ b5 b6 b7 : Nat → Int32, wX_send_2 post (nI N) n (nI 1) tc pr (nI 3) (nI 3) kn ch a1 a2 a3 a4 b5 b6 b7) :
    wX_send_2 post (nI N) (n + 1) (nI 0) tc pr (nI 3) 0 kn ch a1 a2 a3 a4 a5 a6 a7 := by
  have ht : t ≤ 12 := jo.2.2.2.1
  have c0 : (0 : Int32) ≤ 0 := by decide
  have b3 : ∀ j, j < 2 → ¬ tm_bit (nI 3) j = 0 := fun j hj z => absurd ((tm_b3 j (by omega)).mp z) (by omega)
  obtain ⟨R, S, d, lev, wn, sc, ⟨s1, l1⟩, ⟨s3, l3⟩, s2⟩ := tm_scD (ud := 0) (us := nI 3) (a5 := a5) (show w < 8 by omega) (show 1 - w < 8 by omega) jw jo hst tm_b0 (fun τ hτ => by rw [h5 τ hτ]; exact c0) (b3 w hw) (b3 (1 - w) (by omega))
    (fun j hj hb => by
      have q2 : ¬ 2 ≤ j := fun z => hb ((tm_b3 j hj).mpr z)
      omega)
  refine pk_le N 0 (fun z => absurd z (by omega)) (fun _ => tm_find sc (fun b6 b7 h7 => ?_))
  refine tm_way2 (s := s) (t := t) (w := w) (o := 1 - w) hst ht (by omega) (by omega) jw.1 jo.1 ?_ ?_ ?_ (fun b5 => ?_)
  · have h8 := h7 (s + 4) (by omega) (by omega) l1
    rw [s1] at h8
    exact h8
  · have h8 := h7 (t + 4) (by omega) (by omega) l3
    rw [s3] at h8
    exact h8
  · intro v h0 hv hc
    have h8 := h7 v h0 (by omega) (s2 v hv hc).2
    rw [(s2 v hv hc).1] at h8
    exact h8
  · rw [tm_o3 w hw]
    exact nm_r (nI_1 0) (H b5 b6 b7)
/-- send with one usable job w -/
theorem tm_send1 {w s N : Nat} {G : Int} {a5 a6 a7 : Nat → Int32} (hw : w < 2) (hN : N ≤ 100) (jw : tm_jb a1 a2 a4 w s G) (h5 : ∀ τ, τ < 16 → a5 τ = 0)
    (H : ∀ b5 b6 b7, post (tc, pr, nI (w + 1), nI (if N = 0 then 0 else w + 1), kn, ch, a1, a2, a3, a4, b5, b6, b7)) :
    wpX_send post (tc, pr, nI (w + 1), 0, kn, ch, a1, a2, a3, a4, a5, a6, a7) (nI N) := by
  unfold wpX_send
  dsimp only
  refine ⟨N + 1, ?_⟩
  by_cases e : N = 0
  · subst e
    rw [if_pos rfl] at H
    exact pk_le 0 0 (fun _ => H _ _ _) (fun z => absurd z (by omega))
  · rw [if_neg e] at H
    refine tm_unitA hw hN (by omega) jw jw.2.2.2.1 (Int.le_refl 0) jw.2.2.2.2.1 (by omega) (by omega) (fun z => absurd rfl ((tm_b1 w hw w (by omega)).mp z)) (fun j hj hb => Or.inl ?_) h5 (fun b5 b6 b7 _ => ?_)
    · by_cases q : j = w
      · exact q
      · exact absurd ((tm_b1 w hw j hj).mpr q) hb
    · refine tm_full hN (fun j hj hb => hb) (fun j hj hb => ⟨s, G, ?_⟩) H N 1 b5 b6 b7 (by omega) (by omega)
      by_cases q : j = w
      · rw [q]
        exact jw
      · exact absurd ((tm_b1 w hw j hj).mpr q) hb
theorem tm_send3w {w s t N : Nat} {G K : Int} {a5 a6 a7 : Nat → Int32} (hw : w < 2) (hN : N ≤ 100) (h1 : 1 ≤ N) (jw : tm_jb a1 a2 a4 w s G) (jo : tm_jb a1 a2 a4 (1 - w) t K) (hK : K < G) (m1 : s < t + 4) (m2 : t < s + 4) (h5 : ∀ τ, τ < 16 → a5 τ = 0)
    (H : ∀ b5 b6 b7, post (tc, pr, nI 3, nI (if N = 1 then w + 1 else 3), kn, ch, a1, a2, a3, a4, b5, b6, b7)) :
    wX_send_2 post (nI N) (N + 1) (nI 0) tc pr (nI 3) 0 kn ch a1 a2 a3 a4 a5 a6 a7 := by
  refine tm_unitA hw hN h1 jw jo.2.2.2.1 (Int.le_of_lt jo.2.2.2.2.1) hK m1 m2 (fun z => absurd ((tm_b3 w (by omega)).mp z) (by omega)) (fun j hj hb => ?_) h5 (fun b5 b6 b7 hb => ?_)
  · have q2 : ¬ 2 ≤ j := fun z => hb ((tm_b3 j hj).mpr z)
    by_cases q : j = w
    · exact Or.inl q
    · rw [show j = 1 - w by omega]
      exact Or.inr ⟨jo.1, jo.2.1, jo.2.2.1⟩
  · refine tm_half hw hN h1 (by omega) jw jo hK m1 m2 hb (fun e => ?_) (fun e => ?_)
    · rw [if_pos e] at H
      exact H
    · rw [if_neg (by omega)] at H
      exact H
/-- send with both jobs usable -/
theorem tm_send3 {s t N : Nat} {G0 G1 : Int} {a5 a6 a7 : Nat → Int32} (hN : N ≤ 100) (j0 : tm_jb a1 a2 a4 0 s G0) (j1 : tm_jb a1 a2 a4 1 t G1) (hne : G0 ≠ G1) (h5 : ∀ τ, τ < 16 → a5 τ = 0)
    (H : ∀ b5 b6 b7, post (tc, pr, nI 3, nI (tm_us N s t G0 G1), kn, ch, a1, a2, a3, a4, b5, b6, b7)) :
    wpX_send post (tc, pr, nI 3, 0, kn, ch, a1, a2, a3, a4, a5, a6, a7) (nI N) := by
  unfold wpX_send
  dsimp only
  refine ⟨N + 1, ?_⟩
  unfold tm_us at H
  by_cases e : N = 0
  · subst e
    rw [if_pos rfl] at H
    exact pk_le 0 0 (fun _ => H _ _ _) (fun z => absurd z (by omega))
  · rw [if_neg e] at H
    have full : (∀ b5 b6 b7, post (tc, pr, nI 3, nI 3, kn, ch, a1, a2, a3, a4, b5, b6, b7)) → ∀ b5 b6 b7 : Nat → Int32, wX_send_2 post (nI N) N (nI 1) tc pr (nI 3) (nI 3) kn ch a1 a2 a3 a4 b5 b6 b7 := by
      intro H' b5 b6 b7
      refine tm_full hN (fun j hj hb => hb) (fun j hj hb => ?_) H' N 1 b5 b6 b7 (by omega) (by omega)
      have q2 : ¬ 2 ≤ j := fun z => hb ((tm_b3 j hj).mpr z)
      by_cases q : j = 0
      · exact ⟨s, G0, by rw [q]; exact j0⟩
      · exact ⟨t, G1, by rw [show j = 1 by omega]; exact j1⟩
    by_cases a : s + 4 ≤ t
    · rw [if_neg (by omega)] at H
      exact tm_unitD (w := 0) (by omega) hN (by omega) j0 j1 a h5 (full H)
    · by_cases b : t + 4 ≤ s
      · rw [if_neg (by omega)] at H
        exact tm_unitD (w := 1) (by omega) hN (by omega) j1 j0 b h5 (full H)
      · by_cases g : G1 < G0
        · refine tm_send3w (w := 0) (by omega) hN (by omega) j0 j1 g (by omega) (by omega) h5 ?_
          by_cases f : N = 1
          · rw [if_pos ⟨f, by omega, by omega⟩, if_pos g] at H
            rw [if_pos f]
            exact H
          · rw [if_neg (by omega)] at H
            rw [if_neg f]
            exact H
        · refine tm_send3w (w := 1) (by omega) hN (by omega) j1 j0 (by omega) (by omega) (by omega) h5 ?_
          by_cases f : N = 1
          · rw [if_pos ⟨f, by omega, by omega⟩, if_neg g] at H
            rw [if_pos f]
            exact H
          · rw [if_neg (by omega)] at H
            rw [if_neg f]
            exact H
end
end
section
theorem tm_fill {f s : Nat → Int32} {i k : Nat} {x : Int32} (hk : k = i) (h : ∀ j, j < i → s j = f j) (hx : x = f i) : ∀ j, j < i + 1 → upd s k x j = f j := by
  intro j hj
  rw [hk]
  by_cases e : j = i
  · rw [e, pk_us, hx]
  · rw [pk_un e]
    exact h j (by omega)
/-- the marked worths of the two jobs -/
theorem tm_w0 (a : Nat) : nI a * 256 + ((1 : Int32) <<< ((7 - nI 0) &&& 31)) = nI (a * 256 + 128) := by
  have h1 : ((1 : Int32) <<< ((7 - nI 0) &&& 31)) = nI 128 := by decide
  have h2 : (256 : Int32) = nI 256 := by decide
  rw [h1, h2, pk_mul, nI_add]
theorem tm_w1 (a : Nat) : nI a * 256 + ((1 : Int32) <<< ((7 - nI 1) &&& 31)) = nI (a * 256 + 64) := by
  have h1 : ((1 : Int32) <<< ((7 - nI 1) &&& 31)) = nI 64 := by decide
  have h2 : (256 : Int32) = nI 256 := by decide
  rw [h1, h2, pk_mul, nI_add]
theorem tm_bits : ∀ U, U < 4 → ∀ j, j < 8 → (tm_bit (nI U) j = 0 ↔ ¬ ((j = 0 ∧ U % 2 = 1) ∨ (j = 1 ∧ 2 ≤ U))) := by decide +kernel
/-- the marked sum of the set U -/
def tm_ms (U a b : Nat) : Nat := (if U % 2 = 1 then a * 256 + 128 else 0) + (if 2 ≤ U then b * 256 + 64 else 0)
def tm_msk (U a b i : Nat) : Nat := (if U % 2 = 1 ∧ 0 < i then a * 256 + 128 else 0) + (if 2 ≤ U ∧ 1 < i then b * 256 + 64 else 0)
section
variable {tc pr us ud kn ch : Int32} {a1 a2 a3 a4 a5 a6 a7 : Nat → Int32}
theorem tm_prep {post : St2 → Prop} {p0 : Int32}
    (H : ∀ b4 b5 : Nat → Int32, (∀ j, j < 8 → b4 j = a3 j * 256 + ((1 : Int32) <<< ((7 - nI j) &&& 31))) → (∀ τ, τ < 16 → b5 τ = 0) → post (tc, pr, p0, 0, kn, ch, a1, a2, a3, b4, b5, a6, a7)) :
    wpX_prepare post (tc, pr, us, ud, kn, ch, a1, a2, a3, a4, a5, a6, a7) p0 := by
  unfold wpX_prepare
  dsimp only
  exact pk_loop (fun n i s => wX_prepare_12 post tc pr p0 0 kn ch n (nI i) a1 a2 a3 s a5 a6 a7) (fun i s => ∀ j, j < i → s j = a3 j * 256 + ((1 : Int32) <<< ((7 - nI j) &&& 31))) 8 0 a4 (by omega) (fun j hj => absurd hj (by omega))
    (fun n s h => pk_le 8 8 (fun _ => pk_loop (fun n i s' => wX_prepare_37 post tc pr p0 0 kn ch n (nI i) a1 a2 a3 s s' a6 a7) (fun i s' => ∀ τ, τ < i → s' τ = 0) 16 0 a5 (by omega) (fun j hj => absurd hj (by omega))
      (fun n s' h' => pk_le 16 16 (fun _ => H s s' h h') (fun z => absurd z (by omega)))
      (fun n i s' hi h' hw => pk_le 16 i (fun z => absurd z (by omega)) (fun _ => ⟨pk_in i 16 hi, nm_e (nm_r (nI_1 i) (hw _ (tm_fill (f := fun _ => 0) (nI_clamp (by omega)) h' rfl)))⟩))) (fun z => absurd z (by omega)))
    (fun n i s hi h hw => pk_le 8 i (fun z => absurd z (by omega)) (fun _ => ⟨pk_in i 8 hi, pk_in i 8 hi, nm_e (nm_r (nI_1 i) (hw _ (tm_fill (f := fun j => a3 j * 256 + ((1 : Int32) <<< ((7 - nI j) &&& 31))) (nI_clamp (by omega)) h (by rw [nI_clamp (by omega)]))))⟩))
theorem tm_msum {post : Int32 → Prop} {U a b : Nat} {x : Int32} (hx : x = nI U) (hU : U < 4) (h0 : a3 0 = nI a) (h1 : a3 1 = nI b) (H : post (nI (tm_ms U a b))) :
    wpX_markedSum post (tc, pr, us, ud, kn, ch, a1, a2, a3, a4, a5, a6, a7) x := by
  subst hx
  unfold wpX_markedSum
  dsimp only
  have z0 : tm_msk U a b 0 = 0 := by
    unfold tm_msk
    rw [if_neg (by omega), if_neg (by omega)]
  have key : ∃ n, wX_markedSum_4 post (nI U) tc pr us ud kn ch a1 a2 a3 a4 a5 a6 a7 n (nI (tm_msk U a b 0)) (nI 0) := by
    refine pk_loop (σ := Unit) (fun n i _ => wX_markedSum_4 post (nI U) tc pr us ud kn ch a1 a2 a3 a4 a5 a6 a7 n (nI (tm_msk U a b i)) (nI i)) (fun _ _ => True) 8 0 () (by omega) trivial
      (fun n _ _ => pk_le 8 8 (fun _ => ?_) (fun z => absurd z (by omega))) (fun n i _ hi _ hw => pk_le 8 i (fun z => absurd z (by omega)) (fun _ => ?_))
    · have e : tm_msk U a b 8 = tm_ms U a b := by
        unfold tm_msk tm_ms
        (repeat' split) <;> omega
      rw [e]
      exact H
    · have st : ∀ c, c = tm_msk U a b (i + 1) → wX_markedSum_4 post (nI U) tc pr us ud kn ch a1 a2 a3 a4 a5 a6 a7 n (nI c) (nI (i + 1)) := by
        intro c hc
        rw [hc]
        exact hw () trivial
      refine br_c (fun (hb : tm_bit (nI U) i = 0) => ?_) (fun (hb : ¬ tm_bit (nI U) i = 0) => ?_)
      · have hb' := (tm_bits U hU i hi).mp hb
        exact nm_r (nI_1 i) (st _ (by unfold tm_msk; (repeat' split) <;> omega))
      · have hb' : (i = 0 ∧ U % 2 = 1) ∨ (i = 1 ∧ 2 ≤ U) := by
          by_cases q : (i = 0 ∧ U % 2 = 1) ∨ (i = 1 ∧ 2 ≤ U)
          · exact q
          · exact absurd ((tm_bits U hU i hi).mpr q) hb
        refine ⟨pk_in i 8 hi, ?_⟩
        rw [nI_clamp (show i < 2 ^ 31 by omega)]
        rcases hb' with ⟨e, e'⟩ | ⟨e, e'⟩
        · subst e
          rw [h0, tm_w0]
          exact nm_r (nI_add _ _) (nm_r (nI_1 0) (st _ (by unfold tm_msk; (repeat' split) <;> omega)))
        · subst e
          rw [h1, tm_w1]
          exact nm_r (nI_add _ _) (nm_r (nI_1 1) (st _ (by unfold tm_msk; (repeat' split) <;> omega)))
  obtain ⟨n, hn⟩ := key
  rw [z0] at hn
  exact ⟨n, hn⟩
theorem tm_plain {post : Int32 → Prop} {X : Nat} (hX : X < 2 ^ 31) (H : post (nI (X / 256))) : wpX_plain post () (nI X) := by
  unfold wpX_plain
  rw [pk_shrN hX ((8 : Int32) &&& 31) 8 (by decide)]
  exact H
end
/-- the two jobs of the law -/
def tm_pic (s t a b : Nat) (a1 a2 a3 : Nat → Int32) : Prop := s ≤ 12 ∧ t ≤ 12 ∧ 1 ≤ a ∧ a ≤ 20 ∧ 1 ≤ b ∧ b ≤ 20 ∧ a1 0 = nI s ∧ a1 1 = nI t ∧ a2 0 = nI (s + 4) ∧ a2 1 = nI (t + 4) ∧ a3 0 = nI a ∧ a3 1 = nI b
section
variable {tc us ud kn ch : Int32} {a1 a2 a3 a4 a5 a6 a7 : Nat → Int32} {s t a b : Nat}
theorem tm_j0 (p : tm_pic s t a b a1 a2 a3) {b4 : Nat → Int32} (h : b4 0 = nI (a * 256 + 128)) : tm_jb a1 a2 b4 0 s ((a * 256 + 128 : Nat) : Int) := by
  obtain ⟨p1, p2, p3, p4, p5, p6, p7, p8, p9, p10, p11, p12⟩ := p
  exact ⟨p7, p9, by rw [h, nI_toInt (by omega)], p1, by omega, by omega⟩
theorem tm_j1 (p : tm_pic s t a b a1 a2 a3) {b4 : Nat → Int32} {c : Nat} (hc : c ≤ 1048576) (h : b4 1 = nI (b * 256 + 64 + c)) : tm_jb a1 a2 b4 1 t ((b * 256 + 64 + c : Nat) : Int) := by
  obtain ⟨p1, p2, p3, p4, p5, p6, p7, p8, p9, p10, p11, p12⟩ := p
  exact ⟨p8, p10, by rw [h, nI_toInt (by omega)], p2, by omega, by omega⟩
/-- the set used for N tracks, both usable -/
def tm_u (N s t a b c : Nat) : Nat := tm_us N s t ((a * 256 + 128 : Nat) : Int) ((b * 256 + 64 + c : Nat) : Int)
theorem tm_choose0 {post : St2 → Prop} {N : Nat} (hN : N ≤ 100) (p : tm_pic s t a b a1 a2 a3)
    (H : ∀ us' ud' b4 b5 b6 b7, post (nI N, nI 3, us', ud', 1, nI (tm_u N s t a b 0), a1, a2, a3, b4, b5, b6, b7)) :
    wpX_choose post (nI N, nI 3, us, ud, 0, ch, a1, a2, a3, a4, a5, a6, a7) := by
  unfold wpX_choose
  dsimp only
  refine br_t rfl ?_
  have p' := p
  obtain ⟨p1, p2, p3, p4, p5, p6, p7, p8, p9, p10, p11, p12⟩ := p'
  refine tm_prep (fun b4 b5 h4 h5 => ?_)
  have k0 : b4 0 = nI (a * 256 + 128) := by rw [h4 0 (by omega), p11, tm_w0]
  have k1 : b4 1 = nI (b * 256 + 64 + 0) := by rw [h4 1 (by omega), p12, tm_w1]
  exact tm_send3 hN (tm_j0 p k0) (tm_j1 p (by omega) k1) (by omega) h5 (fun b5 b6 b7 => H _ _ b4 b5 b6 b7)
theorem tm_choose1 {post : St2 → Prop} {pr : Int32} (H : post (tc, pr, us, ud, 1, ch, a1, a2, a3, a4, a5, a6, a7)) :
    wpX_choose post (tc, pr, us, ud, 1, ch, a1, a2, a3, a4, a5, a6, a7) := by
  unfold wpX_choose
  dsimp only
  exact br_f (by decide) H
theorem tm_u4 (N s t a b c : Nat) : tm_u N s t a b c < 4 := by
  unfold tm_u tm_us
  split
  · omega
  · split
    · split <;> omega
    · omega
theorem tm_ms_b {U : Nat} (ha : a ≤ 20) (hb : b ≤ 20) : tm_ms U a b < 2 ^ 31 := by
  unfold tm_ms
  (repeat' split) <;> omega
theorem tm_chosen {post : Int32 → St2 → Prop} {N : Nat} (hN : N ≤ 100) (p : tm_pic s t a b a1 a2 a3)
    (H : ∀ us' ud' b4 b5 b6 b7, post (nI (tm_u N s t a b 0)) (nI N, nI 3, us', ud', 1, nI (tm_u N s t a b 0), a1, a2, a3, b4, b5, b6, b7)) :
    wpX_chosen post (nI N, nI 3, us, ud, 0, ch, a1, a2, a3, a4, a5, a6, a7) := by
  unfold wpX_chosen
  dsimp only
  exact tm_choose0 hN p (fun us' ud' b4 b5 b6 b7 => H us' ud' b4 b5 b6 b7)
theorem tm_total {post : Int32 → St2 → Prop} {U : Nat} {pr : Int32} (hU : U < 4) (p : tm_pic s t a b a1 a2 a3)
    (H : post (nI (tm_ms U a b / 256)) (tc, pr, us, ud, 1, nI U, a1, a2, a3, a4, a5, a6, a7)) :
    wpX_total post (tc, pr, us, ud, 1, nI U, a1, a2, a3, a4, a5, a6, a7) := by
  unfold wpX_total
  dsimp only
  obtain ⟨p1, p2, p3, p4, p5, p6, p7, p8, p9, p10, p11, p12⟩ := p
  exact tm_choose1 (tm_msum rfl hU p11 p12 (tm_plain (tm_ms_b p4 p6) H))
theorem tm_totalFor {post : Int32 → St2 → Prop} {N : Nat} {x : Int32} (hx : x = nI N) (hN : N ≤ 100) (p : tm_pic s t a b a1 a2 a3)
    (H : ∀ us' ud' b4 b5 b6 b7, post (nI (tm_ms (tm_u N s t a b 0) a b / 256)) (tc, nI 3, us', ud', kn, ch, a1, a2, a3, b4, b5, b6, b7)) :
    wpX_totalFor post (tc, nI 3, us, ud, kn, ch, a1, a2, a3, a4, a5, a6, a7) x := by
  subst hx
  unfold wpX_totalFor
  dsimp only
  have p' := p
  obtain ⟨p1, p2, p3, p4, p5, p6, p7, p8, p9, p10, p11, p12⟩ := p'
  refine tm_prep (fun b4 b5 h4 h5 => ?_)
  have k0 : b4 0 = nI (a * 256 + 128) := by rw [h4 0 (by omega), p11, tm_w0]
  have k1 : b4 1 = nI (b * 256 + 64 + 0) := by rw [h4 1 (by omega), p12, tm_w1]
  exact tm_send3 hN (tm_j0 p k0) (tm_j1 p (by omega) k1) (by omega) h5 (fun b5 b6 b7 => tm_msum rfl (tm_u4 N s t a b 0) p11 p12 (tm_plain (tm_ms_b p4 p6) (H _ _ b4 b5 b6 b7)))
theorem tm_gain {post : Int32 → St2 → Prop} {N U : Nat} (hN : N ≤ 99) (hU : U < 4) (p : tm_pic s t a b a1 a2 a3)
    (H : ∀ us' ud' b4 b5 b6 b7, post (nI (tm_ms (tm_u (N + 1) s t a b 0) a b / 256) - nI (tm_ms U a b / 256)) (nI N, nI 3, us', ud', 1, nI U, a1, a2, a3, b4, b5, b6, b7)) :
    wpX_gain post (nI N, nI 3, us, ud, 1, nI U, a1, a2, a3, a4, a5, a6, a7) := by
  unfold wpX_gain
  dsimp only
  exact tm_total hU p (tm_totalFor (nI_1 N) (by omega) p (fun us' ud' b4 b5 b6 b7 => H us' ud' b4 b5 b6 b7))
end
end
section
section
variable {tc us ud kn ch : Int32} {a1 a2 a3 a4 a5 a6 a7 : Nat → Int32} {s t a b : Nat}
/-- bestWith with must = M (0 or 2): hs says what send does with those gains, V is the set that it leaves -/
theorem tm_best {post : Int32 → St2 → Prop} {U V M : Nat} {p0 p1 r : Int32} (hM : M = 0 ∨ M = 2) (h0 : p0 = nI M) (h1 : nI 3 &&& (p1 ^^^ (-1)) = nI U) (p : tm_pic s t a b a1 a2 a3)
    (hs : ∀ (Q : St2 → Prop) (b4 b5 : Nat → Int32), b4 0 = nI (a * 256 + 128) → b4 1 = nI (b * 256 + 64 + if M = 2 then 1048576 else 0) → (∀ τ, τ < 16 → b5 τ = 0) →
      (∀ c5 c6 c7, Q (tc, nI 3, nI U, nI V, kn, ch, a1, a2, a3, b4, c5, c6, c7)) → wpX_send Q (tc, nI 3, nI U, 0, kn, ch, a1, a2, a3, b4, b5, a6, a7) tc)
    (hr : ((nI M &&& (nI V ^^^ (-1))) = 0 ∧ r = nI V) ∨ (¬ (nI M &&& (nI V ^^^ (-1))) = 0 ∧ r = -1))
    (H : ∀ b4 b5 b6 b7, post r (tc, nI 3, nI U, nI V, kn, ch, a1, a2, a3, b4, b5, b6, b7)) :
    wpX_bestWith post (tc, nI 3, us, ud, kn, ch, a1, a2, a3, a4, a5, a6, a7) p0 p1 := by
  subst h0
  unfold wpX_bestWith
  dsimp only
  rw [h1]
  obtain ⟨p1, p2, p3, p4, p5, p6, p7, p8, p9, p10, p11, p12⟩ := p
  refine tm_prep (fun b4 b5 h4 h5 => ?_)
  have k0 : b4 0 = nI (a * 256 + 128) := by rw [h4 0 (by omega), p11, tm_w0]
  have k1 : b4 1 = nI (b * 256 + 64) := by rw [h4 1 (by omega), p12, tm_w1]
  have hM4 : M < 4 := by omega
  have c20 : (1048576 : Int32) = nI 1048576 := by decide
  refine pk_loop (fun n i s => wX_bestWith_14 post (nI M) tc (nI 3) (nI U) 0 kn ch n (nI i) a1 a2 a3 s b5 a6 a7) (fun i s => s 0 = nI (a * 256 + 128) ∧ s 1 = nI (b * 256 + 64 + if M = 2 ∧ 1 < i then 1048576 else 0)) 8 0 b4 (by omega) ⟨k0, by rw [if_neg (by omega)]; exact k1⟩
    (fun n c4 h => pk_le 8 8 (fun _ => hs _ c4 b5 h.1 ?_ h5 (fun c5 c6 c7 => ?_)) (fun z => absurd z (by omega)))
    (fun n i c4 hi h hw => pk_le 8 i (fun z => absurd z (by omega)) (fun _ => br_c (fun (hb : tm_bit (nI M) i = 0) => nm_r (nI_1 i) (hw c4 ⟨h.1, ?_⟩)) (fun (hb : ¬ tm_bit (nI M) i = 0) => ⟨pk_in i 8 hi, pk_in i 8 hi, nm_e (nm_r (nI_1 i) (hw _ ⟨?_, ?_⟩))⟩)))
  · have h2 := h.2
    by_cases q : M = 2
    · rw [if_pos ⟨q, by omega⟩] at h2
      rw [if_pos q]
      exact h2
    · rw [if_neg (fun z => q z.1)] at h2
      rw [if_neg q]
      exact h2
  · rcases hr with ⟨q, e⟩ | ⟨q, e⟩
    · rw [e] at H
      exact br_t q (H c4 c5 c6 c7)
    · rw [e] at H
      exact br_f q (H c4 c5 c6 c7)
  · have hb' := (tm_bits M hM4 i hi).mp hb
    have h2 := h.2
    by_cases q : M = 2 ∧ 1 < i
    · rw [if_pos q] at h2
      rw [if_pos ⟨q.1, by omega⟩]
      exact h2
    · rw [if_neg q] at h2
      rw [if_neg (by omega)]
      exact h2
  · have hb' : i = 1 ∧ M = 2 := by
      by_cases q : i = 1 ∧ M = 2
      · exact q
      · exact absurd ((tm_bits M hM4 i hi).mpr (by omega)) hb
    rw [nI_clamp (show i < 2 ^ 31 by omega), pk_un (by omega)]
    exact h.1
  · have hb' : i = 1 ∧ M = 2 := by
      by_cases q : i = 1 ∧ M = 2
      · exact q
      · exact absurd ((tm_bits M hM4 i hi).mpr (by omega)) hb
    have h2 := h.2
    rw [hb'.1] at h2 ⊢
    rw [nI_clamp (show 1 < 2 ^ 31 by omega), pk_us, h2, c20, nI_add, if_neg (by omega), if_pos (by omega)]
/-- the least w of 1 .. 20 that beats the gap, else 21 -/
theorem tm_p61 {post : Int32 → St2 → Prop} {pr : Int32} {g k : Nat} {x5 : Int32} (hx : x5 = nI g) (hg : g < 2 ^ 30) (hk1 : 1 ≤ k) (hk : k ≤ 21) (h1 : ∀ w, 1 ≤ w → w < k → w * 256 + 64 ≤ g) (h2 : k ≤ 20 → g < k * 256 + 64)
    (H : post (nI k) (tc, pr, us, ud, kn, ch, a1, a2, a3, a4, a5, a6, a7)) : ∃ n, wX_price_61 post 1 x5 tc pr us ud kn ch a1 a2 a3 a4 a5 a6 a7 n 1 := by
  subst hx
  have hw1 : ∀ w, w * 256 + 64 < 2 ^ 31 → nI w * 256 + ((1 : Int32) <<< ((7 - (1 : Int32)) &&& 31)) = nI (w * 256 + 64) := fun w _ => tm_w1 w
  refine pk_loop (σ := Unit) (fun n i _ => wX_price_61 post 1 (nI g) tc pr us ud kn ch a1 a2 a3 a4 a5 a6 a7 n (nI i)) (fun i _ => 1 ≤ i) k 1 () hk1 (by omega) (fun n _ _ => ?_) (fun n i _ hi hi1 hw => ?_)
  · refine pk_lt 20 k (fun z => ?_) (fun z => ?_)
    · have : k = 21 := by omega
      rw [this] at H
      exact H
    · rw [hw1 k (by omega)]
      exact pk_le (k * 256 + 64) g (fun q => absurd (h2 z) (by omega)) (fun _ => H)
  · refine pk_lt 20 i (fun z => absurd z (by omega)) (fun z => ?_)
    rw [hw1 i (by omega)]
    exact pk_le (i * 256 + 64) g (fun _ => nm_r (nI_1 i) (hw () (by omega))) (fun q => absurd (h1 i hi1 hi) (by omega))
/-- what price(1) answers -/
def tm_pr (N s t a : Nat) : Nat := if N = 0 then 21 else if N = 1 ∧ s < t + 4 ∧ t < s + 4 then a + 1 else 1
theorem tm_price {post : Int32 → St2 → Prop} {N : Nat} (hN : N ≤ 100) (p : tm_pic s t a b a1 a2 a3)
    (H : ∀ us' ud' b4 b5 b6 b7, post (nI (tm_pr N s t a)) (nI N, nI 3, us', ud', kn, ch, a1, a2, a3, b4, b5, b6, b7)) :
    wpX_price post (nI N, nI 3, us, ud, kn, ch, a1, a2, a3, a4, a5, a6, a7) 1 := by
  unfold wpX_price
  dsimp only
  have p' := p
  obtain ⟨p1, p2, p3, p4, p5, p6, p7, p8, p9, p10, p11, p12⟩ := p'
  have c1 : ¬ ((nI 3 >>> ((1 : Int32) &&& 31)) &&& 1) = 0 := by decide
  have c2 : ((1 : Int32) <<< ((1 : Int32) &&& 31)) = nI 2 := by decide
  refine br_f (by decide) (br_f (by decide) (br_f c1 (br_f (by decide) ?_)))
  rw [c2]
  have hs : ∀ (Q : St2 → Prop) (b4 b5 : Nat → Int32), b4 0 = nI (a * 256 + 128) → b4 1 = nI (b * 256 + 64 + if 2 = 2 then 1048576 else 0) → (∀ τ, τ < 16 → b5 τ = 0) →
      (∀ c5 c6 c7, Q (nI N, nI 3, nI 3, nI (tm_u N s t a b 1048576), kn, ch, a1, a2, a3, b4, c5, c6, c7)) → wpX_send Q (nI N, nI 3, nI 3, 0, kn, ch, a1, a2, a3, b4, b5, a6, a7) (nI N) := by
    intro Q b4 b5 h0 h1 h5 hQ
    rw [if_pos rfl] at h1
    exact tm_send3 hN (tm_j0 p h0) (tm_j1 p (by omega) h1) (by omega) h5 hQ
  have hu : tm_u N s t a b 1048576 = if N = 0 then 0 else if N = 1 ∧ s < t + 4 ∧ t < s + 4 then 2 else 3 := by
    unfold tm_u tm_us
    rw [if_neg (show ¬ (((b * 256 + 64 + 1048576 : Nat) : Int) < ((a * 256 + 128 : Nat) : Int)) by omega)]
  by_cases n0 : N = 0
  · rw [if_pos n0] at hu
    rw [hu] at hs
    refine tm_best (M := 2) (r := -1) (Or.inr rfl) rfl (by decide) p hs (Or.inr ⟨by decide, rfl⟩) (fun b4 b5 b6 b7 => ?_)
    refine br_f (by decide) ?_
    have e : tm_pr N s t a = 21 := if_pos n0
    rw [e] at H
    exact H _ _ b4 b5 b6 b7
  · rw [if_neg n0] at hu
    have hs1 : ∀ (a6 a7 : Nat → Int32) (Q : St2 → Prop) (b4 b5 : Nat → Int32), b4 0 = nI (a * 256 + 128) → b4 1 = nI (b * 256 + 64 + if 0 = 2 then 1048576 else 0) → (∀ τ, τ < 16 → b5 τ = 0) →
        (∀ c5 c6 c7, Q (nI N, nI 3, nI 1, nI 1, kn, ch, a1, a2, a3, b4, c5, c6, c7)) → wpX_send Q (nI N, nI 3, nI 1, 0, kn, ch, a1, a2, a3, b4, b5, a6, a7) (nI N) := by
      intro a6 a7 Q b4 b5 h0 _ h5 hQ
      refine tm_send1 (w := 0) (by omega) hN (tm_j0 p h0) h5 ?_
      rw [if_neg n0]
      exact hQ
    by_cases one : N = 1 ∧ s < t + 4 ∧ t < s + 4
    · rw [if_pos one] at hu
      rw [hu] at hs
      refine tm_best (M := 2) (r := nI 2) (Or.inr rfl) rfl (by decide) p hs (Or.inl ⟨by decide, rfl⟩) (fun b4 b5 b6 b7 => ?_)
      refine br_t (by decide) (tm_msum (U := 0) (by decide) (by omega) p11 p12 ?_)
      refine tm_best (M := 0) (r := nI 1) (Or.inl rfl) rfl (by decide) p (hs1 b6 b7) (Or.inl ⟨by decide, rfl⟩) (fun b4 b5 b6 b7 => ?_)
      refine tm_msum (U := 1) rfl (by omega) p11 p12 (nm_r (e' := nI (a * 256 + 128)) ?_ ?_)
      · rw [pk_sub (by unfold tm_ms; (repeat' split) <;> omega)]
        congr 1
      · have e : tm_pr N s t a = a + 1 := by unfold tm_pr; rw [if_neg n0, if_pos one]
        rw [e] at H
        exact tm_p61 rfl (by omega) (by omega) (by omega) (fun w _ _ => by omega) (fun _ => by omega) (H _ _ b4 b5 b6 b7)
    · rw [if_neg one] at hu
      rw [hu] at hs
      refine tm_best (M := 2) (r := nI 3) (Or.inr rfl) rfl (by decide) p hs (Or.inl ⟨by decide, rfl⟩) (fun b4 b5 b6 b7 => ?_)
      refine br_t (by decide) (tm_msum (U := 1) (by decide) (by omega) p11 p12 ?_)
      refine tm_best (M := 0) (r := nI 1) (Or.inl rfl) rfl (by decide) p (hs1 b6 b7) (Or.inl ⟨by decide, rfl⟩) (fun b4 b5 b6 b7 => ?_)
      refine tm_msum (U := 1) rfl (by omega) p11 p12 (nm_r (e' := nI 0) ?_ ?_)
      · rw [pk_sub (Nat.le_refl _), Nat.sub_self]
      · have e : tm_pr N s t a = 1 := by unfold tm_pr; rw [if_neg n0, if_neg one]
        rw [e] at H
        exact tm_p61 (k := 1) rfl (by omega) (by omega) (by omega) (fun w _ _ => by omega) (fun _ => by omega) (H _ _ b4 b5 b6 b7)
/-- what totalWith(2, 1) answers -/
theorem tm_tw {post : Int32 → St2 → Prop} {N : Nat} {r : Int32} (hN : N ≤ 100) (p : tm_pic s t a b a1 a2 a3) (hr : r = if N = 0 then -1 else nI b)
    (H : ∀ us' ud' b4 b5 b6 b7, post r (nI N, nI 3, us', ud', kn, ch, a1, a2, a3, b4, b5, b6, b7)) :
    wpX_totalWith post (nI N, nI 3, us, ud, kn, ch, a1, a2, a3, a4, a5, a6, a7) 2 1 := by
  unfold wpX_totalWith
  dsimp only
  have p' := p
  obtain ⟨p1, p2, p3, p4, p5, p6, p7, p8, p9, p10, p11, p12⟩ := p'
  refine br_t (by decide) ?_
  have hs : ∀ (Q : St2 → Prop) (b4 b5 : Nat → Int32), b4 0 = nI (a * 256 + 128) → b4 1 = nI (b * 256 + 64 + if 2 = 2 then 1048576 else 0) → (∀ τ, τ < 16 → b5 τ = 0) →
      (∀ c5 c6 c7, Q (nI N, nI 3, nI 2, nI (if N = 0 then 0 else 2), kn, ch, a1, a2, a3, b4, c5, c6, c7)) → wpX_send Q (nI N, nI 3, nI 2, 0, kn, ch, a1, a2, a3, b4, b5, a6, a7) (nI N) := by
    intro Q b4 b5 h0 h1 h5 hQ
    rw [if_pos rfl] at h1
    exact tm_send1 (w := 1) (by omega) hN (tm_j1 p (by omega) h1) h5 hQ
  by_cases n0 : N = 0
  · rw [if_pos n0] at hs hr
    subst hr
    refine tm_best (M := 2) (r := -1) (Or.inr rfl) (by decide) (by decide) p hs (Or.inr ⟨by decide, rfl⟩) (fun b4 b5 b6 b7 => ?_)
    exact br_f (by decide) (br_f (by decide) (H _ _ b4 b5 b6 b7))
  · rw [if_neg n0] at hs hr
    subst hr
    refine tm_best (M := 2) (r := nI 2) (Or.inr rfl) (by decide) (by decide) p hs (Or.inl ⟨by decide, rfl⟩) (fun b4 b5 b6 b7 => ?_)
    refine br_t (by decide) (tm_msum (U := 2) rfl (by omega) p11 p12 (br_t (by decide) (tm_plain (tm_ms_b p4 p6) ?_)))
    have e : tm_ms 2 a b / 256 = b := by
      unfold tm_ms
      (repeat' split) <;> omega
    rw [e]
    exact H _ _ b4 b5 b6 b7
end
end
section
def tm_cr (s t τ i : Nat) : Nat := (if 0 < i ∧ s ≤ τ ∧ τ < s + 4 then 1 else 0) + (if 1 < i ∧ t ≤ τ ∧ τ < t + 4 then 1 else 0)
def tm_gc (s t : Nat) : Nat → Nat
  | 0 => 0
  | i + 1 => if tm_cr s t i 8 ≤ tm_gc s t i then tm_gc s t i else tm_cr s t i 8
theorem tm_gc16 : ∀ s, s < 13 → ∀ t, t < 13 → tm_gc s t 16 = if s < t + 4 ∧ t < s + 4 then 2 else 1 := by decide +kernel
theorem tm_cr2 (s t τ i : Nat) : tm_cr s t τ i ≤ 2 := by
  unfold tm_cr
  (repeat' split) <;> omega
theorem tm_gc2 (s t i : Nat) : tm_gc s t i ≤ 2 := by
  induction i with
  | zero => exact Nat.zero_le 2
  | succ i ih =>
    show (if tm_cr s t i 8 ≤ tm_gc s t i then tm_gc s t i else tm_cr s t i 8) ≤ 2
    have := tm_cr2 s t i 8
    split <;> omega
section
variable {tc pr us ud kn ch : Int32} {a1 a2 a3 a4 a5 a6 a7 : Nat → Int32} {s t a b : Nat}
theorem tm_cstep {post : Int32 → Prop} {τ q i n c : Nat} (hi : i < 8) (hτ : τ < 16) (hq : q ≤ 12) (e1 : a1 i = nI q) (e2 : a2 i = nI (q + 4)) (hb : ¬ tm_bit (nI 3) i = 0)
    (H0 : (τ < q ∨ q + 4 ≤ τ) → wX_crowd_5 post (nI 3) (nI τ) tc pr us ud kn ch a1 a2 a3 a4 a5 a6 a7 n (nI c) (nI (i + 1)))
    (H1 : q ≤ τ → τ < q + 4 → wX_crowd_5 post (nI 3) (nI τ) tc pr us ud kn ch a1 a2 a3 a4 a5 a6 a7 n (nI (c + 1)) (nI (i + 1))) :
    wX_crowd_5 post (nI 3) (nI τ) tc pr us ud kn ch a1 a2 a3 a4 a5 a6 a7 (n + 1) (nI c) (nI i) :=
  pk_le 8 i (fun z => absurd z (by omega)) (fun _ => br_f hb ⟨pk_in i 8 hi,
    pk_lt τ q (fun z => nm_r (nI_1 i) (H0 (Or.inl z))) (fun z => ⟨pk_in i 8 hi,
      pk_le (q + 4) τ (fun z' => nm_r (nI_1 i) (H0 (Or.inr z'))) (fun z' => nm_r (nI_1 c) (nm_r (nI_1 i) (H1 z z'))) (by rw [nI_clamp (by omega)]; exact e2)⟩) rfl (by rw [nI_clamp (by omega)]; exact e1)⟩)
theorem tm_crowd {post : Int32 → Prop} {τ : Nat} (hτ : τ < 16) (p : tm_pic s t a b a1 a2 a3) (H : post (nI (tm_cr s t τ 8))) :
    wpX_crowd post (tc, pr, us, ud, kn, ch, a1, a2, a3, a4, a5, a6, a7) (nI 3) (nI τ) := by
  unfold wpX_crowd
  dsimp only
  obtain ⟨p1, p2, p3, p4, p5, p6, p7, p8, p9, p10, p11, p12⟩ := p
  have z0 : tm_cr s t τ 0 = 0 := by
    unfold tm_cr
    (repeat' split) <;> omega
  have key : ∃ n, wX_crowd_5 post (nI 3) (nI τ) tc pr us ud kn ch a1 a2 a3 a4 a5 a6 a7 n (nI (tm_cr s t τ 0)) (nI 0) := by
    refine pk_loop (σ := Unit) (fun n i _ => wX_crowd_5 post (nI 3) (nI τ) tc pr us ud kn ch a1 a2 a3 a4 a5 a6 a7 n (nI (tm_cr s t τ i)) (nI i)) (fun _ _ => True) 8 0 () (by omega) trivial
      (fun n _ _ => pk_le 8 8 (fun _ => H) (fun z => absurd z (by omega))) (fun n i _ hi _ hw => ?_)
    have st : ∀ c, c = tm_cr s t τ (i + 1) → wX_crowd_5 post (nI 3) (nI τ) tc pr us ud kn ch a1 a2 a3 a4 a5 a6 a7 n (nI c) (nI (i + 1)) := by
      intro c hc
      rw [hc]
      exact hw () trivial
    by_cases q0 : i = 0
    · subst q0
      exact tm_cstep (q := s) hi hτ p1 p7 p9 (fun z => absurd ((tm_b3 0 hi).mp z) (by omega)) (fun z => st _ (by unfold tm_cr; (repeat' split) <;> omega)) (fun z z' => st _ (by unfold tm_cr; (repeat' split) <;> omega))
    · by_cases q1 : i = 1
      · subst q1
        exact tm_cstep (q := t) hi hτ p2 p8 p10 (fun z => absurd ((tm_b3 1 hi).mp z) (by omega)) (fun z => st _ (by unfold tm_cr; (repeat' split) <;> omega)) (fun z z' => st _ (by unfold tm_cr; (repeat' split) <;> omega))
      · exact pk_le 8 i (fun z => absurd z (by omega)) (fun _ => br_t ((tm_b3 i hi).mpr (by omega)) (nm_r (nI_1 i) (st _ (by unfold tm_cr; (repeat' split) <;> omega))))
  obtain ⟨n, hn⟩ := key
  rw [z0] at hn
  exact ⟨n, hn⟩
theorem tm_tracks {post : Int32 → Prop} (p : tm_pic s t a b a1 a2 a3) (H : post (nI (if s < t + 4 ∧ t < s + 4 then 2 else 1))) :
    wpX_tracksFor post (tc, nI 3, us, ud, kn, ch, a1, a2, a3, a4, a5, a6, a7) 3 := by
  have p' := p
  obtain ⟨p1, p2, p3, p4, p5, p6, p7, p8, p9, p10, p11, p12⟩ := p'
  rw [← tm_gc16 s (by omega) t (by omega)] at H
  unfold wpX_tracksFor
  dsimp only
  rw [show (3 : Int32) &&& nI 3 = nI 3 by decide]
  unfold wpX_greatestCrowd
  dsimp only
  refine pk_loop (σ := Unit) (fun n i _ => wX_greatestCrowd_4 post (nI 3) tc (nI 3) us ud kn ch a1 a2 a3 a4 a5 a6 a7 n (nI (tm_gc s t i)) (nI i)) (fun _ _ => True) 16 0 () (by omega) trivial
    (fun n _ _ => pk_le 16 16 (fun _ => H) (fun z => absurd z (by omega)))
    (fun n i _ hi _ hw => pk_le 16 i (fun z => absurd z (by omega)) (fun _ => tm_crowd hi p ?_))
  have h1 := tm_cr2 s t i 8
  have h2 := tm_gc2 s t i
  have st : ∀ c, c = tm_gc s t (i + 1) → wX_greatestCrowd_4 post (nI 3) tc (nI 3) us ud kn ch a1 a2 a3 a4 a5 a6 a7 n (nI c) (nI (i + 1)) := by
    intro c hc
    rw [hc]
    exact hw () trivial
  exact pk_le (tm_cr s t i 8) (tm_gc s t i) (fun z => nm_r (nI_1 i) (st _ (if_pos z).symm)) (fun z => nm_r (nI_1 i) (st _ (if_neg (by omega)).symm))
theorem tm_i8 : ∀ n, n < 32 → (nI n).toInt8.toInt32 = nI n := by decide +kernel
/-- bring into slot 0 or 1 -/
theorem tm_bring {post : Int32 → St2 → Prop} {k : Nat} {x1 x2 x3 pr' : Int32} (hk : (k = 0 ∧ pr = 0) ∨ (k = 1 ∧ pr = nI 1)) (hpr : pr ||| ((1 : Int32) <<< (nI k &&& 31)) = pr') (h1 : x1 = nI s) (h2 : x2 = nI (s + 4)) (h3 : x3 = nI a) (hs : s ≤ 12) (ha : 1 ≤ a) (ha' : a ≤ 20)
    (H : post (nI k) (tc, pr', us, ud, 0, ch, upd a1 k (nI s), upd a2 k (nI (s + 4)), upd a3 k (nI a), a4, a5, a6, a7)) :
    wpX_bring post (tc, pr, us, ud, kn, ch, a1, a2, a3, a4, a5, a6, a7) x1 x2 x3 := by
  subst h1 h2 h3
  unfold wpX_bring
  dsimp only
  have slot : ∀ n, pr = (if k = 0 then 0 else nI 1) → k < 2 → wX_bring_31 post (nI s) (nI (s + 4)) (nI a) tc pr us ud kn ch a1 a2 a3 a4 a5 a6 a7 (n + 1) (nI k) := by
    intro n hp hk2
    have hb : ((pr >>> (nI k &&& 31)) &&& 1) = 0 := by
      rw [hp]
      rcases hk with ⟨e, _⟩ | ⟨e, _⟩
      · subst e
        decide
      · subst e
        decide
    refine pk_le 8 k (fun z => absurd z (by omega)) (fun _ => pk_lt k 0 (fun z => absurd z (by omega)) (fun _ => pk_le 8 k (fun z => absurd z (by omega)) (fun _ => br_t hb (br_t rfl (nm_r hpr ⟨pk_in k 8 (by omega), ?_⟩)))))
    rw [nI_clamp (show k < 2 ^ 31 by omega), tm_i8 s (by omega), tm_i8 (s + 4) (by omega), tm_i8 a (by omega)]
    exact nm_e ⟨pk_in k 8 (by omega), nm_e ⟨pk_in k 8 (by omega), nm_e H⟩⟩
  refine pk_lt s 0 (fun z => absurd z (by omega)) (fun _ => pk_lt 16 (s + 4) (fun z => absurd z (by omega)) (fun _ => pk_le (s + 4) s (fun z => absurd z (by omega)) (fun _ => pk_lt a 1 (fun z => absurd z (by omega)) (fun _ => pk_le a 20 (fun _ => ?_) (fun z => absurd z (by omega))))))
  rcases hk with ⟨e, e'⟩ | ⟨e, e'⟩
  · subst e
    exact ⟨1, slot 0 e' (by omega)⟩
  · subst e
    refine ⟨2, ?_⟩
    have hb : ¬ ((pr >>> (nI 0 &&& 31)) &&& 1) = 0 := by
      rw [e']
      decide
    exact pk_le 8 0 (fun z => absurd z (by omega)) (fun _ => pk_lt 0 0 (fun z => absurd z (by omega)) (fun _ => pk_le 8 0 (fun z => absurd z (by omega)) (fun _ => br_f hb (br_f (by decide) (nm_r (nI_1 0) (slot 0 e' (by omega)))))))
end
end
section
section
variable {post : Int32 → St0 → Prop} {mc ms kc ks : Nat}
theorem tm_290 {x8 x9 x13 x14 x15 x16 x17 x18 x19 x20 x21 : Int32} (p0 : x17 = 0 → x13 = 21) (p1 : ¬ x17 = 0 → x19 = 0 → x13 = 1) (p2 : ¬ x17 = 0 → ¬ x19 = 0 → x13 = x8 + 1)
    (c0 : x18 = 0 → x14 = 1) (c1 : ¬ x18 = 0 → x14 = 2) (r0 : x17 = 0 → x16 = -1) (r1 : ¬ x17 = 0 → x16 = x9) (H : post 1 ()) :
    wL_lawOf_290 post mc ms x8 x9 1 x20 x21 x13 x14 x15 x16 x17 x18 x19 x20 x21 x15 kc ks := by
  have e375 : ∀ z0 z1, z1 = z0 → wL_lawOf_375 post mc ms z0 z1 kc ks := fun z0 z1 h => br_t h H
  have e352 : ∀ z0 z1, z1 = z0 → wL_lawOf_352 post mc ms x9 x15 x16 x17 x15 z0 z1 kc ks := fun z0 z1 h => br_t h (br_t rfl (br_c (fun q => e375 _ _ (r0 q)) (fun q => e375 _ _ (r1 q))))
  have e337 : ∀ z0 z1, z1 = z0 → wL_lawOf_337 post mc ms x9 x14 x15 x16 x17 x18 x15 z0 z1 kc ks := fun z0 z1 h => br_t h (br_c (fun q => e352 _ _ (c0 q)) (fun q => e352 _ _ (c1 q)))
  exact br_t rfl (br_t rfl (br_t rfl (br_c (fun q => e337 _ _ (p0 q)) (fun q => br_c (fun q2 => e337 _ _ (p1 q q2)) (fun q2 => e337 _ _ (p2 q q2))))))
theorem tm_219 {D X x8 x9 x13 x14 x15 x16 x17 x18 x19 : Int32} (hs : ((D &&& 1) * x8) + ((D >>> ((1 : Int32) &&& 31)) * x9) = X)
    (g0 : x17 = 0 → x18 = 0 → x15 = x8 + x9) (g1 : x17 = 0 → ¬ x18 = 0 → x8 < x9 → x15 = x9) (g2 : x17 = 0 → ¬ x18 = 0 → ¬ x8 < x9 → x15 = x8) (g3 : ¬ x17 = 0 → x19 = 0 → x15 = 0) (g4 : ¬ x17 = 0 → ¬ x19 = 0 → x15 = (x8 + x9) - X)
    (p0 : x17 = 0 → x13 = 21) (p1 : ¬ x17 = 0 → x19 = 0 → x13 = 1) (p2 : ¬ x17 = 0 → ¬ x19 = 0 → x13 = x8 + 1)
    (c0 : x18 = 0 → x14 = 1) (c1 : ¬ x18 = 0 → x14 = 2) (r0 : x17 = 0 → x16 = -1) (r1 : ¬ x17 = 0 → x16 = x9) (H : post 1 ()) :
    wL_lawOf_219 post mc ms x8 x9 1 D X x13 x14 x15 x16 x17 x18 x19 D kc ks := by
  have e290 : ∀ z0, x15 = z0 → wL_lawOf_290 post mc ms x8 x9 1 D X x13 x14 x15 x16 x17 x18 x19 D X z0 kc ks := by
    intro z0 h
    rw [← h]
    exact tm_290 p0 p1 p2 c0 c1 r0 r1 H
  exact nm_r hs (br_c (fun q => br_c (fun q2 => e290 _ (g0 q q2)) (fun q2 => br_c (fun q3 => e290 _ (g1 q q2 q3)) (fun q3 => e290 _ (g2 q q2 q3)))) (fun q => br_c (fun q2 => e290 _ (g3 q q2)) (fun q2 => e290 _ (g4 q q2))))
/-- the law's comparison, all answers as they are -/
theorem tm_fin {N s t a b : Nat} (hN : N ≤ 4) (hs : s ≤ 12) (ht : t ≤ 12) (ha : a ≤ 20) (hb : b ≤ 20) (H : post 1 ()) :
    wL_lawOf_144 post mc ms (nI s) (nI t) (nI a) (nI b) 1 (nI (tm_u N s t a b 0)) (nI (tm_ms (tm_u N s t a b 0) a b / 256)) (nI (tm_pr N s t a)) (nI (if s < t + 4 ∧ t < s + 4 then 2 else 1))
      (nI (tm_ms (tm_u (N + 1) s t a b 0) a b / 256) - nI (tm_ms (tm_u N s t a b 0) a b / 256)) (if N = 0 then -1 else nI b) (nI N) kc ks := by
  have m0 : tm_ms 0 a b / 256 = 0 := by unfold tm_ms; (repeat' split) <;> omega
  have m1 : tm_ms 1 a b / 256 = a := by unfold tm_ms; (repeat' split) <;> omega
  have m2 : tm_ms 2 a b / 256 = b := by unfold tm_ms; (repeat' split) <;> omega
  have m3 : tm_ms 3 a b / 256 = a + b := by unfold tm_ms; (repeat' split) <;> omega
  have ab : nI a + nI b = nI (a + b) := nI_add a b
  have n0 : ∀ n, n < 2 ^ 31 → ¬ n = 0 → ¬ nI n = 0 := fun n h h' => nI_ne0 (by omega) h
  by_cases meet : s < t + 4 ∧ t < s + 4
  · rw [if_pos meet]
    refine pk_le (t + 4) s (fun z => absurd z (by omega)) (fun _ => pk_le (s + 4) t (fun z => absurd z (by omega)) (fun _ => ?_) (nI_add s 4)) (nI_add t 4)
    -- wL_lawOf_169 .. 1
    by_cases e0 : N = 0
    · subst e0
      have u0 : tm_u 0 s t a b 0 = 0 := by unfold tm_u tm_us; rw [if_pos rfl]
      have q0 : tm_pr 0 s t a = 21 := by unfold tm_pr; rw [if_pos rfl]
      rw [u0, q0, m0, if_pos rfl]
      refine br_f (by decide) (br_t rfl ?_)
      refine tm_219 (X := nI 0) ?_ (fun _ z => absurd z (by decide)) (fun _ _ z => ?_) (fun _ _ z => ?_) (fun z => absurd rfl z) (fun z => absurd rfl z) (fun _ => rfl) (fun z => absurd rfl z) (fun z => absurd rfl z) (fun z => absurd z (by decide)) (fun _ => rfl) (fun _ => rfl) (fun z => absurd rfl z) H
      · rw [show (nI 0 &&& 1) = 0 by decide, show (nI 0 >>> ((1 : Int32) &&& 31)) = 0 by decide, Int32.zero_mul, Int32.zero_mul]
        decide
      · have z' : a < b := (nI_ltI (by omega) (by omega)).mp z
        have u1 : tm_u 1 s t a b 0 = 2 := by unfold tm_u tm_us; rw [if_neg (by omega), if_pos ⟨rfl, meet⟩, if_neg (by omega)]
        rw [u1, m2, pk_sub (by omega)]
        rfl
      · have z' : ¬ a < b := fun w => z (nI_lt w (by omega))
        have u1 : tm_u 1 s t a b 0 = 1 := by unfold tm_u tm_us; rw [if_neg (by omega), if_pos ⟨rfl, meet⟩, if_pos (by omega)]
        rw [u1, m1, pk_sub (by omega)]
        rfl
    · rw [if_neg e0]
      have hz : ¬ nI N = 0 := n0 N (by omega) e0
      by_cases e1 : N = 1
      · subst e1
        have q0 : tm_pr 1 s t a = a + 1 := by unfold tm_pr; rw [if_neg (by omega), if_pos ⟨rfl, meet⟩]
        have u2 : tm_u 2 s t a b 0 = 3 := by unfold tm_u tm_us; rw [if_neg (by omega), if_neg (by omega)]
        rw [q0]
        refine br_t rfl (br_f (by decide) (br_f hz (br_f (by decide) (br_c (fun z => ?_) (fun z => ?_)))))
        · have z' : a < b := (nI_ltI (by omega) (by omega)).mp z
          have u1 : tm_u 1 s t a b 0 = 2 := by unfold tm_u tm_us; rw [if_neg (by omega), if_pos ⟨rfl, meet⟩, if_neg (by omega)]
          rw [u1, u2, m2, m3]
          refine tm_219 (X := nI b) ?_ (fun z => absurd z hz) (fun z => absurd z hz) (fun z => absurd z hz) (fun _ z => absurd z (by decide)) (fun _ _ => by rw [ab]) (fun z => absurd z hz) (fun _ z => absurd z (by decide)) (fun _ _ => (nI_1 a).symm) (fun z => absurd z (by decide)) (fun _ => rfl) (fun z => absurd z hz) (fun _ => rfl) H
          rw [show (nI 2 &&& 1) = 0 by decide, show (nI 2 >>> ((1 : Int32) &&& 31)) = 1 by decide, Int32.zero_mul, Int32.one_mul, Int32.zero_add]
        · have z' : ¬ a < b := fun w => z (nI_lt w (by omega))
          have u1 : tm_u 1 s t a b 0 = 1 := by unfold tm_u tm_us; rw [if_neg (by omega), if_pos ⟨rfl, meet⟩, if_pos (by omega)]
          rw [u1, u2, m1, m3]
          refine tm_219 (X := nI a) ?_ (fun z => absurd z hz) (fun z => absurd z hz) (fun z => absurd z hz) (fun _ z => absurd z (by decide)) (fun _ _ => by rw [ab]) (fun z => absurd z hz) (fun _ z => absurd z (by decide)) (fun _ _ => (nI_1 a).symm) (fun z => absurd z (by decide)) (fun _ => rfl) (fun z => absurd z hz) (fun _ => rfl) H
          rw [show (nI 1 &&& 1) = 1 by decide, show (nI 1 >>> ((1 : Int32) &&& 31)) = 0 by decide, Int32.zero_mul, Int32.one_mul, Int32.add_zero]
      · have q0 : tm_pr N s t a = 1 := by unfold tm_pr; rw [if_neg e0, if_neg (by omega)]
        have u1 : tm_u N s t a b 0 = 3 := by unfold tm_u tm_us; rw [if_neg e0, if_neg (by omega)]
        have u2 : tm_u (N + 1) s t a b 0 = 3 := by unfold tm_u tm_us; rw [if_neg (by omega), if_neg (by omega)]
        rw [q0, u1, u2, m3]
        refine br_f (fun z => e1 ((nI_eq (by omega) (by omega)).mp (z.trans (show (1 : Int32) = nI 1 from rfl)))) (br_f hz (br_t rfl ?_))
        refine tm_219 (X := nI (a + b)) ?_ (fun z => absurd z hz) (fun z => absurd z hz) (fun z => absurd z hz) (fun _ _ => ?_) (fun _ z => absurd rfl z) (fun z => absurd z hz) (fun _ _ => rfl) (fun _ z => absurd rfl z) (fun z => absurd z (by decide)) (fun _ => rfl) (fun z => absurd z hz) (fun _ => rfl) H
        · rw [show (nI 3 &&& 1) = 1 by decide, show (nI 3 >>> ((1 : Int32) &&& 31)) = 1 by decide, Int32.one_mul, Int32.one_mul, ab]
        · rw [pk_sub (by omega), Nat.sub_self]
          rfl
  · rw [if_neg meet]
    have key : wL_lawOf_168 post mc ms (nI a) (nI b) 1 (nI (tm_u N s t a b 0)) (nI (tm_ms (tm_u N s t a b 0) a b / 256)) (nI (tm_pr N s t a)) (nI 1)
        (nI (tm_ms (tm_u (N + 1) s t a b 0) a b / 256) - nI (tm_ms (tm_u N s t a b 0) a b / 256)) (if N = 0 then -1 else nI b) (nI N) kc ks := by
      have u2 : tm_u (N + 1) s t a b 0 = 3 := by unfold tm_u tm_us; rw [if_neg (by omega), if_neg (fun z => meet z.2)]
      have go : wL_lawOf_187 post mc ms (nI a) (nI b) 1 (nI (tm_u N s t a b 0)) (nI (tm_ms (tm_u N s t a b 0) a b / 256)) (nI (tm_pr N s t a)) (nI 1)
          (nI (tm_ms (tm_u (N + 1) s t a b 0) a b / 256) - nI (tm_ms (tm_u N s t a b 0) a b / 256)) (if N = 0 then -1 else nI b) (nI N) 0 0 kc ks := by
        by_cases e0 : N = 0
        · subst e0
          have u0 : tm_u 0 s t a b 0 = 0 := by unfold tm_u tm_us; rw [if_pos rfl]
          have q0 : tm_pr 0 s t a = 21 := by unfold tm_pr; rw [if_pos rfl]
          rw [u0, q0, u2, m0, m3, if_pos rfl]
          refine br_t rfl ?_
          refine tm_219 (X := nI 0) ?_ (fun _ _ => ?_) (fun _ z => absurd rfl z) (fun _ z => absurd rfl z) (fun z => absurd rfl z) (fun z => absurd rfl z) (fun _ => rfl) (fun z => absurd rfl z) (fun z => absurd rfl z) (fun _ => rfl) (fun z => absurd rfl z) (fun _ => rfl) (fun z => absurd rfl z) H
          · rw [show (nI 0 &&& 1) = 0 by decide, show (nI 0 >>> ((1 : Int32) &&& 31)) = 0 by decide, Int32.zero_mul, Int32.zero_mul]
            decide
          · rw [ab, pk_sub (by omega)]
            rfl
        · have hz : ¬ nI N = 0 := n0 N (by omega) e0
          have q0 : tm_pr N s t a = 1 := by unfold tm_pr; rw [if_neg e0, if_neg (fun z => meet z.2)]
          have u1 : tm_u N s t a b 0 = 3 := by unfold tm_u tm_us; rw [if_neg e0, if_neg (fun z => meet z.2)]
          rw [q0, u1, u2, m3, if_neg e0]
          refine br_f hz (br_t rfl ?_)
          refine tm_219 (X := nI (a + b)) ?_ (fun z => absurd z hz) (fun z => absurd z hz) (fun z => absurd z hz) (fun _ _ => ?_) (fun _ z => absurd rfl z) (fun z => absurd z hz) (fun _ _ => rfl) (fun _ z => absurd rfl z) (fun _ => rfl) (fun z => absurd rfl z) (fun z => absurd z hz) (fun _ => rfl) H
          · rw [show (nI 3 &&& 1) = 1 by decide, show (nI 3 >>> ((1 : Int32) &&& 31)) = 1 by decide, Int32.one_mul, Int32.one_mul, ab]
          · rw [pk_sub (by omega), Nat.sub_self]
            rfl
      exact br_c (fun _ => br_t rfl go) (fun _ => go)
    refine pk_le (t + 4) s (fun _ => key) (fun _ => pk_le (s + 4) t (fun _ => key) (fun z => absurd z (by omega)) (nI_add s 4)) (nI_add t 4)
theorem tm_r13 (x : Int32) : ∃ s : Nat, s ≤ 12 ∧ (x &&& 65535) - (x &&& 65535) / 13 * 13 = nI s := by
  obtain ⟨j, hj, e⟩ := pk_andE x (m := 65535) 16 (by decide)
  refine ⟨j % 13, by omega, ?_⟩
  rw [e]
  exact pk_rem (d := 13) (by omega) (by omega) (by omega)
theorem tm_r20 (x : Int32) : ∃ a : Nat, 1 ≤ a ∧ a ≤ 20 ∧ 1 + ((x &&& 65535) - (x &&& 65535) / 20 * 20) = nI a := by
  obtain ⟨j, hj, e⟩ := pk_andE x (m := 65535) 16 (by decide)
  refine ⟨1 + j % 20, by omega, by omega, ?_⟩
  rw [e, ← nI_add]
  congr 1
  exact pk_rem (d := 20) (by omega) (by omega) (by omega)
def tm_cp (p0 : Int32) (N : Nat) : Prop := (0 ≤ p0 ∧ p0 ≤ 4 ∧ p0 = nI N) ∨ (0 ≤ p0 ∧ ¬ p0 ≤ 4 ∧ N = 4) ∨ (¬ 0 ≤ p0 ∧ N = 0)
theorem tm_clip (p0 : Int32) : ∃ N, N ≤ 4 ∧ tm_cp p0 N := by
  by_cases h : 0 ≤ p0
  · by_cases h4 : p0 ≤ 4
    · have hn : ¬ p0 < 0 := by
        rw [Int32.lt_iff_toInt_lt]
        rw [tm_le] at h
        omega
      obtain ⟨j, hj, e⟩ := nI_of2 (M := 4) (n := 4) (by decide) hn h4
      exact ⟨j, hj, Or.inl ⟨h, h4, e⟩⟩
    · exact ⟨4, by omega, Or.inr (Or.inl ⟨h, h4, rfl⟩)⟩
  · exact ⟨0, by omega, Or.inr (Or.inr ⟨h, rfl⟩)⟩
theorem tm_init {Q : St2 → Prop} {p0 : Int32} {N : Nat} (hp : tm_cp p0 N) (H : Q (nI N, 0, 0, 0, 0, 0, (fun _ => 0), (fun _ => 0), (fun _ => 0), (fun _ => 0), (fun _ => 0), (fun _ => 0), (fun _ => 0))) :
    wpX_init Q 7 82 (0, 0, 0, 0, 0, 0) p0 := by
  unfold wpX_init
  dsimp only
  refine ⟨by omega, by omega, by omega, by omega, by omega, by omega, by omega, by omega, by omega, by omega, by omega, by omega, by omega, by omega, ?_⟩
  rcases hp with ⟨h1, h2, h3⟩ | ⟨h1, h2, h3⟩ | ⟨h1, h2⟩
  · rw [← h3] at H
    exact br_t h1 (br_t h2 H)
  · subst h3
    exact br_t h1 (br_f h2 H)
  · subst h2
    exact br_f h1 H
theorem tm_lawOf (p0 p1 p2 p3 p4 : Int32) (H : post 1 ()) : wpL_lawOf post 8 95 () p0 p1 p2 p3 p4 := by
  obtain ⟨N, hN, hp⟩ := tm_clip p0
  obtain ⟨s, hs, es⟩ := tm_r13 p1
  obtain ⟨t, ht, et⟩ := tm_r13 p2
  obtain ⟨a, ha1, ha, ea⟩ := tm_r20 p3
  obtain ⟨b, hb1, hb, eb⟩ := tm_r20 p4
  unfold wpL_lawOf
  refine ⟨by omega, by omega, 7, 82, by omega, by omega, tm_init hp ?_⟩
  refine ⟨by decide, nm_r es ⟨by decide, nm_r et ⟨by decide, nm_r ea ⟨by decide, nm_r eb ?_⟩⟩⟩⟩
  refine tm_bring (k := 0) (pr' := nI 1) (Or.inl ⟨rfl, rfl⟩) (by decide) rfl (nI_add s 4) rfl hs ha1 ha ?_
  refine tm_bring (k := 1) (pr' := nI 3) (Or.inr ⟨rfl, rfl⟩) (by decide) rfl (nI_add t 4) rfl ht hb1 hb ?_
  have p : tm_pic s t a b (upd (upd (fun _ => 0) 0 (nI s)) 1 (nI t)) (upd (upd (fun _ => 0) 0 (nI (s + 4))) 1 (nI (t + 4))) (upd (upd (fun _ => 0) 0 (nI a)) 1 (nI b)) :=
    ⟨hs, ht, ha1, ha, hb1, hb, rfl, rfl, rfl, rfl, rfl, rfl⟩
  refine tm_chosen (by omega) p (fun us1 ud1 b41 b51 b61 b71 => ?_)
  refine tm_total (tm_u4 N s t a b 0) p ?_
  refine tm_price (by omega) p (fun us2 ud2 b42 b52 b62 b72 => ?_)
  refine tm_tracks p ?_
  refine tm_gain (by omega) (tm_u4 N s t a b 0) p (fun us3 ud3 b43 b53 b63 b73 => ?_)
  refine tm_tw (by omega) p rfl (fun us4 ud4 b44 b54 b64 b74 => ?_)
  have fin := tm_fin (post := post) (mc := 8) (ms := 95) (kc := 1 + 7) (ks := 13 + 82) hN hs ht ha hb H
  rcases hp with ⟨h1, h2, h3⟩ | ⟨h1, h2, h3⟩ | ⟨h1, h2⟩
  · rw [h3] at h1 h2 ⊢
    exact br_t h1 (br_t h2 fin)
  · subst h3
    exact br_t h1 (br_f h2 fin)
  · subst h2
    exact br_f h1 fin
end
end
section
theorem tm_cell {post : Int32 → Prop} {L k : Nat} {xs : Nat → Int32} (hL : L ≤ 5) (hk : k < 5) (H : ∀ x, post x) : wpL_cellAt post L xs () (nI k) :=
  pk_le L k (fun _ => H 0) (fun z => ⟨pk_in k L z, H _⟩)
theorem i_vc (xs : Nat → Int32) (L : Nat) (hL : L ≤ 5) : wpL_law (fun r => r = 1) L xs := by
  unfold wpL_law
  refine tm_cell (k := 0) hL (by omega) (fun r1 => tm_cell (k := 1) hL (by omega) (fun r2 => tm_cell (k := 2) hL (by omega) (fun r3 => tm_cell (k := 3) hL (by omega) (fun r4 => tm_cell (k := 4) hL (by omega) (fun r5 => ?_)))))
  exact ⟨8, 95, by omega, by omega, tm_lawOf r1 r2 r3 r4 r5 rfl⟩
end
